/-! PURE 8: the least menu as laid; what is told of names -/
theorem t_pth_R {C : Int → Int → Int} {P : Int → Int → Int → Int} {N b a : Int} (hb : 2 ≤ b ∧ b ≤ 4) (hG : Gt C P N b) : ∀ (n : Nat) (f t : Int), 0 ≤ f → f ≤ a → a < t → t ≤ N → ∀ x ∈ t_pth C P b a n f t, 1 ≤ x ∧ x ≤ 4 := by
  intro n
  induction n with
  | zero => intro f t _ _ _ _ x hx; cases hx
  | succ n ih =>
    intro f t h0 h1 h3 h2 x hx
    rw [t_pth] at hx
    split at hx
    · cases hx
    · have g := hG.of hb.1 h0 (by omega) h2
      have sk := hG.seek h2 h3 4 (t_of P b f t) f 1 h0 h1 (by omega) g.1.2 (by omega) (fun _ => g.2)
      rcases List.mem_cons.mp hx with e | e
      · rw [e]; omega
      · exact ih _ _ (by omega) sk.2.1 sk.2.2.1 (by omega) x e
def B29 (S : Ms) : Prop := ∀ i : Int, 0 ≤ S.2 29 i ∧ S.2 29 i ≤ 4
/-- all but scratch stays, and scratch steps stay small -/
def Cb (S T : Ms) : Prop := Cs S T ∧ (B29 S → B29 T)
theorem Cb.rf (S : Ms) : Cb S S := ⟨Cs.rf S, fun h => h⟩
theorem Cb.tr {S T U : Ms} (a : Cb S T) (b : Cb T U) : Cb S U := ⟨a.1.tr b.1, fun h => b.2 (a.2 h)⟩
/-- and no scalar has changed -/
def Cc (S T : Ms) : Prop := Cb S T ∧ T.1 = S.1
theorem Cc.rf (S : Ms) : Cc S S := ⟨Cb.rf S, rfl⟩
def g_path (S : Ms) (b a : Int) : List Int := t_pth (PT S b 1) (PT S b) b a 14 0 (S.1 2)
theorem g_len {S : Ms} (hW : Wf S) {b a : Int} (hb : 2 ≤ b ∧ b ≤ 4) (ha : 0 ≤ a ∧ a < S.1 2) : ((g_path S b a).length : Int) ≤ S.1 2 - 1 := by
  have := t_pth_len (a := a) hb (PT_Gt hW hb) 14 0 (S.1 2) (by omega) ha.1 ha.2 (by omega)
  unfold g_path; omega
theorem g_R {S : Ms} (hW : Wf S) {b a : Int} (hb : 2 ≤ b ∧ b ≤ 4) (ha : 0 ≤ a ∧ a < S.1 2) : ∀ x ∈ g_path S b a, 1 ≤ x ∧ x ≤ 4 := t_pth_R hb (PT_Gt hW hb) 14 0 (S.1 2) (by omega) ha.1 ha.2 (by omega)
/-- the table is right, and of the first n names the paths -/
def LM (S : Ms) (b n : Int) (T : Ms) : Prop := T.1 = S.1 ∧ (∀ k, k ≠ 26 → k ≠ 27 → k ≠ 28 → k ≠ 29 → T.2 k = S.2 k) ∧ (∀ f t : Int, 0 ≤ f → f < t → t ≤ S.1 2 → sC T f t = PT S b 1 f t ∧ ∀ m : Int, 1 ≤ m → m ≤ b → sP T m f t = PT S b m f t) ∧ (B29 S → B29 T) ∧
  ∀ i : Int, 0 ≤ i → i < n → T.2 28 i = (g_path S b i).length ∧ ∀ j : Nat, j < (g_path S b i).length → T.2 29 (14 * i + j) = (g_path S b i).getD j 0
theorem LM.cs {S T : Ms} {b n : Int} (h : LM S b n T) : Cs S T := ⟨fun k _ => by rw [h.1], fun k hk => h.2.1 k (fun z => by subst z; cases hk) (fun z => by subst z; cases hk) (fun z => by subst z; cases hk) (fun z => by subst z; cases hk)⟩
theorem LM.cb {S T : Ms} {b n : Int} (h : LM S b n T) : Cb S T := ⟨h.cs, h.2.2.2.1⟩
theorem LM.cc {S T : Ms} {b n : Int} (h : LM S b n T) : Cc S T := ⟨h.cb, h.1⟩
theorem LM.Gt {S T : Ms} {b n : Int} (hW : Wf S) (hb : 2 ≤ b ∧ b ≤ 4) (h : LM S b n T) : Gt (sC T) (sP T) (S.1 2) b :=
  Gt.eq (fun f t h0 h1 h2 => (h.2.2.1 f t h0 h1 h2).1) (fun m f t h0 h1 h2 m1 m2 => (h.2.2.1 f t h0 h1 h2).2 m m1 m2) hb.1 (PT_Gt hW hb)
theorem LM.path {S T : Ms} {b n a : Int} (hW : Wf S) (hb : 2 ≤ b ∧ b ≤ 4) (h : LM S b n T) (ha : 0 ≤ a ∧ a < S.1 2) : f_path T b a = g_path S b a := by
  unfold f_path g_path
  rw [h.1]
  exact t_pth_eq hb (fun f t h0 h1 h2 => (h.2.2.1 f t h0 h1 h2).1) (fun m f t h0 h1 h2 m1 m2 => (h.2.2.1 f t h0 h1 h2).2 m m1 m2) (PT_Gt hW hb) 14 0 (S.1 2) (by omega) ha.1 ha.2 (by omega)
theorem LCi.LM {S T : Ms} {b : Int} (h : LCi S b (fun _ _ => True) T) : LM S b 0 T :=
  ⟨h.1, fun k a1 a2 _ _ => h.2.1 k a1 a2, fun f t h0 h1 h2 => h.2.2 f t h0 h1 h2 trivial, fun q => by unfold B29; rw [h.2.1 29 (by decide) (by decide)]; exact q, fun i a1 a2 => by omega⟩
theorem LM.step {S T U : Ms} {b : Int} {a : Nat} (hW : Wf S) (hb : 2 ≤ b ∧ b ≤ 4) (h : LM S b a T) (ha : (a : Int) < S.1 2) (hp : PW T a (f_path T b a) U) : LM S b ((a + 1 : Nat) : Int) U := by
  have hn := hW.nm
  rw [h.path hW hb ⟨by omega, ha⟩] at hp
  have hl := g_len hW hb (a := a) ⟨by omega, ha⟩
  obtain ⟨p1, p2, p3, p4, p5, p6⟩ := hp
  obtain ⟨h1, h2, h3, h4, h5⟩ := h
  refine ⟨p1.trans h1, fun k a1 a2 a3 a4 => (p2 k a3 a4).trans (h2 k a1 a2 a3 a4), fun f t q0 q1 q2 => ?_, fun q i => ?_, fun i i0 i1 => ?_⟩
  · have e1 : sC U f t = sC T f t := by unfold sC; rw [p2 26 (by decide) (by decide)]
    have e2 : ∀ m, sP U m f t = sP T m f t := fun m => by unfold sP; rw [p2 27 (by decide) (by decide)]
    rw [e1]
    exact ⟨(h3 f t q0 q1 q2).1, fun m m1 m2 => by rw [e2]; exact (h3 f t q0 q1 q2).2 m m1 m2⟩
  · by_cases hi : 14 * (a : Int) ≤ i ∧ i < 14 * (a : Int) + (g_path S b a).length
    · have e := p6 (i - 14 * (a : Int)).toNat (by omega)
      rw [show 14 * (a : Int) + ((i - 14 * (a : Int)).toNat : Int) = i by omega] at e
      rw [e]
      have hlt : (i - 14 * (a : Int)).toNat < (g_path S b a).length := by omega
      have := g_R hW hb (a := a) ⟨by omega, ha⟩ _ (List.getElem_mem hlt)
      rw [show (g_path S b a).getD (i - 14 * (a : Int)).toNat 0 = (g_path S b a)[(i - 14 * (a : Int)).toNat] by simp [List.getD, hlt]]
      omega
    · rw [p5 i hi]; exact h4 q i
  · by_cases e : i = a
    · subst e; exact ⟨p4, p6⟩
    · have := h5 i i0 (by omega)
      refine ⟨by rw [p3 i e]; exact this.1, fun j hj => ?_⟩
      have hl2 := g_len hW hb (a := i) ⟨i0, by omega⟩
      rw [p5 _ (by omega)]; exact this.2 j hj
def f_name (S : Ms) (a w : Int) : Int := if w = 0 then S.2 3 a else if w = 1 then S.2 5 a else if w = 2 then f_twins S a else if w = 3 then f_telling S a else if w = 4 then f_presses S a else if w = 5 then f_place S a (S.2 3 a) else if w = 6 then (if S.1 12 = 0 then -1 else S.2 13 a) else (g_path S 3 a).length
def f_nameQ (S : Ms) (a w : Int) : Int := if inB a 0 (S.1 2 - 1) then (if inB w 0 7 then f_name S a w else -102) else -101
def f_about (S : Ms) (w : Int) : Int := if w = 0 then S.1 2 else if w = 1 then f_uses S else if w = 2 then f_withTwins S else if w = 3 then f_codes S else if w = 4 then f_most S else if w = 5 then f_pressAll S else f_digits S
