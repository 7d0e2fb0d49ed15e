/-! PURE 7: the least menu's paths, by tables C (a stretch's cost) and P (in so many parts) -/
theorem minZ_le {m : Int} {f : Int → Int} {n : Nat} (i : Int) (h0 : 0 ≤ i) (h1 : i < n) : minZ m f n ≤ f i := by
  induction n with
  | zero => omega
  | succ n ih =>
    rw [minZ]
    by_cases h : i = n
    · subst h; split <;> omega
    · have := ih (by omega); split <;> omega
theorem minZ_at {m : Int} {f : Int → Int} {n : Nat} : minZ m f n = m ∨ ∃ i : Int, 0 ≤ i ∧ i < n ∧ minZ m f n = f i := by
  induction n with
  | zero => exact Or.inl rfl
  | succ n ih =>
    rw [minZ]
    split
    · exact Or.inr ⟨n, by omega, by omega, rfl⟩
    · rcases ih with h | ⟨i, h0, h1, h2⟩
      · exact Or.inl h
      · exact Or.inr ⟨i, h0, by omega, h2⟩
def amin (g : Int → Int) : Nat → Int
  | 0 => 2
  | n + 1 => if g (3 + n) < g (amin g n) then 3 + n else amin g n
theorem amin_R (g : Int → Int) (n : Nat) : 2 ≤ amin g n ∧ amin g n ≤ 2 + n := by
  induction n with
  | zero => exact ⟨Int.le_refl _, by simp [amin]⟩
  | succ n ih => rw [amin]; split <;> omega
theorem amin_le (g : Int → Int) (n : Nat) : g (amin g n) ≤ g 2 := by
  induction n with
  | zero => exact Int.le_refl _
  | succ n ih => rw [amin]; split <;> omega
theorem amin_eq {g g' : Int → Int} {n : Nat} (h : ∀ i : Int, 2 ≤ i → i ≤ 2 + n → g i = g' i) : amin g n = amin g' n := by
  induction n with
  | zero => rfl
  | succ n ih =>
    have e := ih (fun i a b => h i a (by omega))
    have r := amin_R g' n
    rw [amin, amin, e, h (3 + n) (by omega) (by omega), h (amin g' n) (by omega) (by omega)]
theorem firstB_eq {p p' : Int → Bool} {d : Int} : ∀ {n : Nat} {i : Int}, (∀ j : Int, i ≤ j → j < i + n → p j = p' j) → firstB p d n i = firstB p' d n i := by
  intro n
  induction n with
  | zero => intro i _; rfl
  | succ n ih =>
    intro i h
    rw [firstB, firstB, h i (by omega) (by omega), ih (fun j a b => h j (by omega) (by omega))]
theorem firstB_ex {p : Int → Bool} {d : Int} : ∀ {n : Nat} {i : Int}, (∃ j : Int, i ≤ j ∧ j < i + n ∧ p j = true) → p (firstB p d n i) = true ∧ i ≤ firstB p d n i ∧ firstB p d n i < i + n := by
  intro n
  induction n with
  | zero => intro i ⟨j, a, b, _⟩; omega
  | succ n ih =>
    intro i ⟨j, a, b, c⟩
    rw [firstB]
    split
    · rename_i u; exact ⟨u, Int.le_refl _, by omega⟩
    · rename_i u
      have hj : j ≠ i := fun z => u (by rw [← z]; exact c)
      have := ih (i := i + 1) ⟨j, by omega, by omega, c⟩
      exact ⟨this.1, by omega, by omega⟩
def t_of (P : Int → Int → Int → Int) (b f t : Int) : Int := amin (fun m => P m f t) (b - 2).toNat
def goodC (C : Int → Int → Int) (P : Int → Int → Int → Int) (m f t c : Int) : Bool := !decide (P (m - 1) c t = 268435456) && decide (C f c + P (m - 1) c t = P m f t)
def t_cut (C : Int → Int → Int) (P : Int → Int → Int → Int) (m f t : Int) : Int := if m = 1 then t else firstB (fun c => goodC C P m f t c) t (t - f - 1).toNat (f + 1)
/-- which of the parts has the name a: where it begins, its number, where it ends -/
def t_seek (C : Int → Int → Int) (P : Int → Int → Int → Int) (a t : Int) : Nat → Int → Int → Int → Int × Int × Int
  | 0, _, f, p => (f, p, t)
  | n + 1, m, f, p => if t_cut C P m f t ≤ a then t_seek C P a t n (m - 1) (t_cut C P m f t) (p + 1) else (f, p, t_cut C P m f t)
def t_pth (C : Int → Int → Int) (P : Int → Int → Int → Int) (b a : Int) : Nat → Int → Int → List Int
  | 0, _, _ => []
  | n + 1, f, t => if t - f ≤ 1 then [] else (t_seek C P a t 4 (t_of P b f t) f 1).2.1 :: t_pth C P b a n (t_seek C P a t 4 (t_of P b f t) f 1).1 (t_seek C P a t 4 (t_of P b f t) f 1).2.2
/-- tables that serve for N names and width b -/
def Gt (C : Int → Int → Int) (P : Int → Int → Int → Int) (N b : Int) : Prop := ∀ f t : Int, 0 ≤ f → f < t → t ≤ N →
  bnd (C f t) ∧ (∀ m : Int, 1 ≤ m → m ≤ b → bnd (P m f t)) ∧ (∀ m : Int, 2 ≤ m → m ≤ b → P m f t ≤ 268435456) ∧ (2 ≤ t - f → P 2 f t ≠ 268435456) ∧
  (∀ m : Int, 2 ≤ m → m ≤ b → P m f t ≠ 268435456 → ∃ c : Int, f < c ∧ c < t ∧ goodC C P m f t c = true)
theorem Gt.of {C : Int → Int → Int} {P : Int → Int → Int → Int} {N b f t : Int} (h : Gt C P N b) (hb : 2 ≤ b) (h0 : 0 ≤ f) (h1 : 2 ≤ t - f) (h2 : t ≤ N) : (2 ≤ t_of P b f t ∧ t_of P b f t ≤ b) ∧ P (t_of P b f t) f t ≠ 268435456 := by
  have r := amin_R (fun m => P m f t) (b - 2).toNat
  have l := amin_le (fun m => P m f t) (b - 2).toNat
  obtain ⟨-, -, g3, g4, -⟩ := h f t h0 (by omega) h2
  have g4 := g4 h1
  have g5 := g3 2 (by omega) hb
  unfold t_of
  exact ⟨by omega, by omega⟩
theorem Gt.cut {C : Int → Int → Int} {P : Int → Int → Int → Int} {N b m f t : Int} (h : Gt C P N b) (h0 : 0 ≤ f) (h1 : f < t) (h2 : t ≤ N) (hm : 1 ≤ m ∧ m ≤ b) (hp : m ≠ 1 → P m f t ≠ 268435456) : (m = 1 ∧ t_cut C P m f t = t) ∨ (m ≠ 1 ∧ f < t_cut C P m f t ∧ t_cut C P m f t < t ∧ P (m - 1) (t_cut C P m f t) t ≠ 268435456 ∧ goodC C P m f t (t_cut C P m f t) = true) := by
  by_cases e : m = 1
  · exact Or.inl ⟨e, by unfold t_cut; rw [if_pos e]⟩
  · obtain ⟨c, c1, c2, c3⟩ := (h f t h0 h1 h2).2.2.2.2 m (by omega) (by omega) (hp e)
    have := firstB_ex (p := fun c => goodC C P m f t c) (d := t) (n := (t - f - 1).toNat) (i := f + 1) ⟨c, by omega, by omega, c3⟩
    have e2 : t_cut C P m f t = firstB (fun c => goodC C P m f t c) t (t - f - 1).toNat (f + 1) := by unfold t_cut; rw [if_neg e]
    rw [← e2] at this
    obtain ⟨a1, a2, a3⟩ := this
    have a4 := a1
    unfold goodC at a4
    rw [Bool.and_eq_true, Bool.not_eq_true', decide_eq_false_iff_not] at a4
    exact Or.inr ⟨e, by omega, by omega, a4.1, a1⟩
/-- states' tables -/
def sC (S : Ms) (f t : Int) : Int := S.2 26 (15 * f + t)
def sP (S : Ms) (m f t : Int) : Int := S.2 27 (225 * m + 15 * f + t)
def f_path (S : Ms) (b a : Int) : List Int := t_pth (sC S) (sP S) b a 14 0 (S.1 2)
theorem PT_small {S : Ms} (hW : Wf S) {b : Int} (hb : 2 ≤ b) : ∀ (n : Nat) (f t : Int), t - f ≤ n → 0 ≤ f → f < t → t ≤ S.1 2 → 0 ≤ PT S b 1 f t ∧ PT S b 1 f t ≤ 1386 * (t - f) := by
  intro n
  have hn := hW.nm
  induction n with
  | zero => intro f t h h0 h1; omega
  | succ n ih =>
    intro f t h h0 h1 h2
    refine ⟨(PT_R hW h0 h1 h2 (by omega)).1.1, ?_⟩
    rw [PT_1 h1]
    unfold e_cost
    have hu := usesOf_R hW h0 h2
    split
    · omega
    · rename_i e
      have a1 := ih (f + 1) t (by omega) (by omega) (by omega) h2
      have l1 := minZ_le (m := 268435456) (f := fun j => e_best (PT S b) (2 + j) f t) (n := (b - 1).toNat) 0 (by omega) (by omega)
      have l2 := minZ_le (m := 268435456) (f := fun j => e_now (PT S b) 2 f t (f + 1 + j)) (n := (t - f - 1).toNat) 0 (by omega) (by omega)
      have e1 : PT S b 1 f (f + 1) = 0 := by rw [PT_1 (by omega)]; unfold e_cost; rw [if_pos (by omega)]
      have e3 : e_now (PT S b) 2 f t (f + 1 + 0) = PT S b 1 (f + 1) t := by
        unfold e_now
        rw [show f + 1 + (0 : Int) = f + 1 by omega, show (2 : Int) - 1 = 1 by rfl, if_neg (by omega), e1]; omega
      have e4 : e_best (PT S b) (2 + 0) f t = minZ 268435456 (fun j => e_now (PT S b) 2 f t (f + 1 + j)) (t - f - 1).toNat := rfl
      rw [e3] at l2
      rw [e4] at l1
      omega
theorem PT_Gt {S : Ms} (hW : Wf S) {b : Int} (hb : 2 ≤ b ∧ b ≤ 4) : Gt (PT S b 1) (PT S b) (S.1 2) b := by
  intro f t h0 h1 h2
  have hn := hW.nm
  refine ⟨(PT_R hW h0 h1 h2 (by omega)).1, fun m m1 _ => (PT_R hW h0 h1 h2 m1).1, fun m m1 _ => (PT_R hW h0 h1 h2 (by omega)).2 (by omega), fun h3 => ?_, fun m m1 m2 m3 => ?_⟩
  · have a1 := PT_small hW (b := b) hb.1 (t - (f + 1)).toNat (f + 1) t (by omega) (by omega) (by omega) h2
    have l2 := minZ_le (m := 268435456) (f := fun j => e_now (PT S b) 2 f t (f + 1 + j)) (n := (t - f - 1).toNat) 0 (by omega) (by omega)
    have e1 : PT S b 1 f (f + 1) = 0 := by rw [PT_1 (by omega)]; unfold e_cost; rw [if_pos (by omega)]
    have e3 : e_now (PT S b) 2 f t (f + 1 + 0) = PT S b 1 (f + 1) t := by
      unfold e_now
      rw [show f + 1 + (0 : Int) = f + 1 by omega, show (2 : Int) - 1 = 1 by rfl, if_neg (by omega), e1]; omega
    rw [e3] at l2
    rw [PT_m h1 (by decide)]
    unfold e_best
    omega
  · rw [PT_m h1 (by omega)] at m3
    unfold e_best at m3
    rcases minZ_at (m := 268435456) (f := fun j => e_now (PT S b) m f t (f + 1 + j)) (n := (t - f - 1).toNat) with h | ⟨i, i0, i1, i2⟩
    · exact absurd h m3
    · refine ⟨f + 1 + i, by omega, by omega, ?_⟩
      have e : PT S b m f t = e_now (PT S b) m f t (f + 1 + i) := by rw [PT_m h1 (by omega)]; exact i2
      rw [i2] at m3
      unfold e_now at m3 e
      by_cases q : PT S b (m - 1) (f + 1 + i) t = 268435456
      · rw [if_pos q] at m3; exact absurd rfl m3
      · rw [if_neg q] at e
        unfold goodC
        simp [q, e]
theorem Gt.eq {C C' : Int → Int → Int} {P P' : Int → Int → Int → Int} {N b : Int} (hC : ∀ f t : Int, 0 ≤ f → f < t → t ≤ N → C' f t = C f t) (hP : ∀ m f t : Int, 0 ≤ f → f < t → t ≤ N → 1 ≤ m → m ≤ b → P' m f t = P m f t) (hb : 2 ≤ b) (h : Gt C P N b) : Gt C' P' N b := by
  intro f t h0 h1 h2
  obtain ⟨g1, g2, g3, g4, g5⟩ := h f t h0 h1 h2
  rw [hC f t h0 h1 h2]
  refine ⟨g1, fun m m1 m2 => by rw [hP m f t h0 h1 h2 m1 m2]; exact g2 m m1 m2, fun m m1 m2 => by rw [hP m f t h0 h1 h2 (by omega) m2]; exact g3 m m1 m2, fun q => by rw [hP 2 f t h0 h1 h2 (by omega) (by omega)]; exact g4 q, fun m m1 m2 m3 => ?_⟩
  rw [hP m f t h0 h1 h2 (by omega) m2] at m3
  obtain ⟨c, c1, c2, c3⟩ := g5 m m1 m2 m3
  refine ⟨c, c1, c2, ?_⟩
  unfold goodC at c3 ⊢
  rw [hC f c h0 c1 (by omega), hP (m - 1) c t (by omega) c2 h2 (by omega) (by omega), hP m f t h0 h1 h2 (by omega) m2]
  exact c3
theorem LCi.Gt {S T : Ms} {b : Int} (hW : Wf S) (hb : 2 ≤ b ∧ b ≤ 4) (h : LCi S b (fun _ _ => True) T) : Gt (sC T) (sP T) (S.1 2) b :=
  Gt.eq (fun f t h0 h1 h2 => (h.2.2 f t h0 h1 h2 trivial).1) (fun m f t h0 h1 h2 m1 m2 => (h.2.2 f t h0 h1 h2 trivial).2 m m1 m2) hb.1 (PT_Gt hW hb)
theorem t_cut_eq {C C' : Int → Int → Int} {P P' : Int → Int → Int → Int} {N b : Int} (hC : ∀ f t : Int, 0 ≤ f → f < t → t ≤ N → C' f t = C f t) (hP : ∀ m f t : Int, 0 ≤ f → f < t → t ≤ N → 1 ≤ m → m ≤ b → P' m f t = P m f t) {m f t : Int} (h0 : 0 ≤ f) (h1 : f < t) (h2 : t ≤ N) (hm : 1 ≤ m ∧ m ≤ b) : t_cut C' P' m f t = t_cut C P m f t := by
  unfold t_cut
  by_cases e : m = 1
  · rw [if_pos e, if_pos e]
  · rw [if_neg e, if_neg e]
    refine firstB_eq (fun c c1 c2 => ?_)
    unfold goodC
    rw [hC f c h0 (by omega) (by omega), hP (m - 1) c t (by omega) (by omega) h2 (by omega) (by omega), hP m f t h0 h1 h2 (by omega) (by omega)]
theorem t_seek_eq {C C' : Int → Int → Int} {P P' : Int → Int → Int → Int} {N b a t : Int} (hC : ∀ f t : Int, 0 ≤ f → f < t → t ≤ N → C' f t = C f t) (hP : ∀ m f t : Int, 0 ≤ f → f < t → t ≤ N → 1 ≤ m → m ≤ b → P' m f t = P m f t) (hG : Gt C P N b) (h2 : t ≤ N) (ha : a < t) : ∀ (n : Nat) (m f p : Int), 0 ≤ f → f ≤ a → 1 ≤ m → m ≤ b → (m ≠ 1 → P m f t ≠ 268435456) → t_seek C' P' a t n m f p = t_seek C P a t n m f p := by
  intro n
  induction n with
  | zero => intro m f p _ _ _ _ _; rfl
  | succ n ih =>
    intro m f p h0 h1 m1 m2 m3
    rw [t_seek, t_seek, t_cut_eq hC hP h0 (by omega) h2 ⟨m1, m2⟩]
    split
    · rename_i q
      rcases hG.cut h0 (by omega) h2 ⟨m1, m2⟩ m3 with ⟨-, e⟩ | ⟨e, c1, c2, c3, -⟩
      · omega
      · exact ih (m - 1) _ (p + 1) (by omega) q (by omega) (by omega) (fun _ => c3)
    · rfl
/-- the part that is found has the name, and is smaller -/
theorem Gt.seek {C : Int → Int → Int} {P : Int → Int → Int → Int} {N b a t : Int} (hG : Gt C P N b) (h2 : t ≤ N) (ha : a < t) : ∀ (n : Nat) (m f p : Int), 0 ≤ f → f ≤ a → 1 ≤ m → m ≤ b → m ≤ n → (m ≠ 1 → P m f t ≠ 268435456) → f ≤ (t_seek C P a t n m f p).1 ∧ (t_seek C P a t n m f p).1 ≤ a ∧ a < (t_seek C P a t n m f p).2.2 ∧ (t_seek C P a t n m f p).2.2 ≤ t ∧ (m ≠ 1 → (t_seek C P a t n m f p).2.2 - (t_seek C P a t n m f p).1 < t - f) ∧ (p ≤ (t_seek C P a t n m f p).2.1 ∧ (t_seek C P a t n m f p).2.1 < p + m) := by
  intro n
  induction n with
  | zero => intro m f p _ _ m1 _ m2; omega
  | succ n ih =>
    intro m f p h0 h1 m1 m2 mn m3
    rw [t_seek]
    have hc := hG.cut h0 (by omega) h2 ⟨m1, m2⟩ m3
    split
    · rename_i q
      rcases hc with ⟨-, e⟩ | ⟨e, c1, c2, c3, -⟩
      · omega
      · have := ih (m - 1) (t_cut C P m f t) (p + 1) (by omega) q (by omega) (by omega) (by omega) (fun _ => c3)
        refine ⟨by omega, this.2.1, this.2.2.1, this.2.2.2.1, fun _ => by omega, by omega, by omega⟩
    · rename_i q
      refine ⟨Int.le_refl _, h1, by dsimp only; omega, ?_, fun e => ?_, by dsimp only; omega, by dsimp only; omega⟩
      · dsimp only; rcases hc with ⟨-, e⟩ | ⟨-, _, c2, _⟩ <;> omega
      · dsimp only; rcases hc with ⟨e2, -⟩ | ⟨-, c1, c2, _⟩
        · exact absurd e2 e
        · omega
theorem t_pth_eq {C C' : Int → Int → Int} {P P' : Int → Int → Int → Int} {N b a : Int} (hb : 2 ≤ b ∧ b ≤ 4) (hC : ∀ f t : Int, 0 ≤ f → f < t → t ≤ N → C' f t = C f t) (hP : ∀ m f t : Int, 0 ≤ f → f < t → t ≤ N → 1 ≤ m → m ≤ b → P' m f t = P m f t) (hG : Gt C P N b) : ∀ (n : Nat) (f t : Int), 0 ≤ f → f ≤ a → a < t → t ≤ N → t_pth C' P' b a n f t = t_pth C P b a n f t := by
  intro n
  induction n with
  | zero => intro f t _ _ _ _; rfl
  | succ n ih =>
    intro f t h0 h1 h3 h2
    rw [t_pth, t_pth]
    split
    · rfl
    · rename_i q
      have e : t_of P' b f t = t_of P b f t := amin_eq (fun i i1 i2 => hP i f t h0 (by omega) h2 (by omega) (by omega))
      have g := hG.of hb.1 h0 (by omega) h2
      have es := t_seek_eq hC hP hG h2 h3 4 (t_of P b f t) f 1 h0 h1 (by omega) g.1.2 (fun _ => g.2)
      have sk := hG.seek h2 h3 4 (t_of P b f t) f 1 h0 h1 (by omega) g.1.2 (by omega) (fun _ => g.2)
      rw [e, es, ih _ _ (by omega) sk.2.1 sk.2.2.1 (by omega)]
theorem t_pth_len {C : Int → Int → Int} {P : Int → Int → Int → Int} {N b a : Int} (hb : 2 ≤ b ∧ b ≤ 4) (hG : Gt C P N b) : ∀ (n : Nat) (f t : Int), 0 ≤ f → f ≤ a → a < t → t ≤ N → ((t_pth C P b a n f t).length : Int) ≤ t - f - 1 := by
  intro n
  induction n with
  | zero => intro f t _ _ _ _; show ((0 : Nat) : Int) ≤ _; omega
  | succ n ih =>
    intro f t h0 h1 h3 h2
    rw [t_pth]
    split
    · show ((0 : Nat) : Int) ≤ _; omega
    · have g := hG.of hb.1 h0 (by omega) h2
      have sk := hG.seek h2 h3 4 (t_of P b f t) f 1 h0 h1 (by omega) g.1.2 (by omega) (fun _ => g.2)
      have := ih (t_seek C P a t 4 (t_of P b f t) f 1).1 (t_seek C P a t 4 (t_of P b f t) f 1).2.2 (by omega) sk.2.1 sk.2.2.1 (by omega)
      have s5 := sk.2.2.2.2.1 (by omega)
      rw [List.length_cons]
      omega
/-- a path is laid for the name a -/
def PW (S : Ms) (a : Int) (L : List Int) (T : Ms) : Prop := T.1 = S.1 ∧ (∀ k, k ≠ 28 → k ≠ 29 → T.2 k = S.2 k) ∧ (∀ i : Int, i ≠ a → T.2 28 i = S.2 28 i) ∧ T.2 28 a = L.length ∧ (∀ i : Int, ¬ (14 * a ≤ i ∧ i < 14 * a + L.length) → T.2 29 i = S.2 29 i) ∧ ∀ i : Nat, i < L.length → T.2 29 (14 * a + i) = L.getD i 0
theorem PW.nil (S : Ms) (a : Int) : PW S a [] (sa S 28 a 0) := by
  refine ⟨rfl, fun k k1 k2 => funext fun i => sa_n (fun z => k1 z.1), fun i hi => sa_n (fun z => hi z.2), sa_s _ _ _ _, fun i _ => sa_n (fun z => by cases z.1), fun i hi => by cases hi⟩
theorem PW.step {S T : Ms} {a p : Int} {L : List Int} (h : PW S a L T) (hl : L.length < 14) : PW S a (L ++ [p]) (sa (sa T 29 (14 * a + T.2 28 a) p) 28 a (T.2 28 a + 1)) := by
  obtain ⟨h1, h2, h3, h4, h5, h6⟩ := h
  refine ⟨h1, fun k k1 k2 => ?_, fun i hi => ?_, ?_, fun i hi => ?_, fun i hi => ?_⟩
  · rw [← h2 k k1 k2]; funext i; rw [sa_n (fun z => k1 z.1), sa_n (fun z => k2 z.1)]
  · rw [sa_n (fun z => hi z.2), sa_n (fun z => by cases z.1)]; exact h3 i hi
  · rw [sa_s, h4, List.length_append]; rfl
  · rw [List.length_append] at hi
    have hi : ¬ (14 * a ≤ i ∧ i < 14 * a + ((L.length + 1 : Nat) : Int)) := hi
    rw [sa_n (fun z => by cases z.1), sa_n (fun z => hi (by rw [z.2, h4]; omega))]; exact h5 i (by omega)
  · rw [List.length_append] at hi
    have hi : i < L.length + 1 := hi
    rw [sa_n (fun z => by cases z.1)]
    by_cases e : i = L.length
    · subst e
      rw [h4, sa_s]; simp
    · rw [sa_n (fun z => e (by have := z.2; rw [h4] at this; omega)), h6 i (by omega)]
      simp [List.getD, List.getElem?_append_left (show i < L.length by omega)]
theorem PW.tab {S T : Ms} {a : Int} {L : List Int} (h : PW S a L T) : sC T = sC S ∧ sP T = sP S ∧ T.1 = S.1 := ⟨by unfold sC; rw [h.2.1 26 (by decide) (by decide)], by unfold sP; rw [h.2.1 27 (by decide) (by decide)], h.1⟩
