/-! PURE 9: the menu that is taken, and what is told of it -/
def Wm (S : Ms) : Prop := (S.1 12 = 0 ∨ (2 ≤ S.1 12 ∧ S.1 12 ≤ 4 ∧ 1 ≤ S.1 2)) ∧ (∀ i : Int, 0 ≤ i → i < 14 → 0 ≤ S.2 13 i ∧ S.2 13 i ≤ 13) ∧ ∀ i : Int, 0 ≤ i → i < 196 → 0 ≤ S.2 14 i ∧ S.2 14 i ≤ 4
theorem Wm.cs {S T : Ms} (h : Wm S) (c : Cs S T) : Wm T := by
  unfold Wm
  rw [c.1 12 rfl, c.1 2 rfl, c.2 13 rfl, c.2 14 rfl]
  exact h
theorem f_usesOf_cs {S T : Ms} (c : Cs S T) : f_usesOf T = f_usesOf S := by
  funext f t; unfold f_usesOf; rw [c.2 5 rfl]
theorem tb_cs {S T : Ms} (c : Cs S T) (b : Int) (n : Nat) : tb T b n = tb S b n := by
  induction n with
  | zero => rfl
  | succ n ih =>
    funext m f t
    show (if t - f = n + 1 then (if m = 1 then e_cost T (tb T b n) b f t else e_best (tb T b n) m f t) else tb T b n m f t) = if t - f = n + 1 then (if m = 1 then e_cost S (tb S b n) b f t else e_best (tb S b n) m f t) else tb S b n m f t
    rw [ih]; unfold e_cost; rw [f_usesOf_cs c]
theorem PT_cs {S T : Ms} (c : Cs S T) : PT T = PT S := by
  funext b m f t; unfold PT; rw [tb_cs c]
theorem g_path_cs {S T : Ms} (c : Cs S T) : g_path T = g_path S := by
  funext b a; unfold g_path; rw [PT_cs c, c.1 2 rfl]
theorem f_name_cs {S T : Ms} (c : Cs S T) : f_name T = f_name S := by
  funext a w; unfold f_name; rw [c.2 3 rfl, c.2 5 rfl, c.2 13 rfl, c.1 12 rfl, f_twins_cs c, f_telling_cs c, f_presses_cs c, f_place_cs c, g_path_cs c]
theorem f_about_cs {S T : Ms} (c : Cs S T) : f_about T = f_about S := by
  funext w; unfold f_about f_uses f_withTwins f_codes f_most f_pressAll f_digits; rw [c.1 2 rfl, c.2 3 rfl, c.2 5 rfl, f_twins_cs c, f_twin_cs c, f_telling_cs c, f_presses_cs c]
def f_chg (S : Ms) (a : Int) : Bool := !decide (S.2 13 a = S.2 28 a) || !allB (fun i => decide (S.2 14 (14 * a + i) = S.2 29 (14 * a + i))) (S.2 13 a).toNat
def f_chgs (S : Ms) : Int := cntB (fun k => f_chg S k) (S.1 2).toNat
def s_c1 (S : Ms) (n : Int) : Ms := (S.1, fun k i => if k = 13 ∧ (0 ≤ i ∧ i < n) then S.2 28 i else S.2 k i)
def s_c2 (S : Ms) (n : Int) : Ms := (S.1, fun k i => if k = 14 ∧ (0 ≤ i ∧ i < n) then S.2 29 i else S.2 k i)
theorem c1_0 (S : Ms) : S = s_c1 S 0 := by
  refine Prod.ext rfl (funext fun k => funext fun i => ?_)
  show _ = if _ then _ else _
  rw [if_neg (by omega)]
theorem c2_0 (S : Ms) : S = s_c2 S 0 := by
  refine Prod.ext rfl (funext fun k => funext fun i => ?_)
  show _ = if _ then _ else _
  rw [if_neg (by omega)]
theorem c1_s (S : Ms) (n : Nat) : sa (s_c1 S n) 13 n (S.2 28 n) = s_c1 S ((n + 1 : Nat) : Int) := by
  refine Prod.ext rfl (funext fun k => funext fun i => ?_)
  simp only [sa, s_c1]
  by_cases hk : k = 13
  · subst hk
    by_cases hi : i = n
    · subst hi; rw [if_pos ⟨rfl, rfl⟩, if_pos ⟨rfl, by omega⟩]
    · rw [if_neg (fun z => hi z.2)]
      by_cases h : 0 ≤ i ∧ i < (n : Int)
      · rw [if_pos ⟨rfl, h⟩, if_pos ⟨rfl, by omega⟩]
      · rw [if_neg (fun z => h z.2), if_neg (fun z => by omega)]
  · simp [hk]
theorem c2_s (S : Ms) (n : Nat) : sa (s_c2 S n) 14 n (S.2 29 n) = s_c2 S ((n + 1 : Nat) : Int) := by
  refine Prod.ext rfl (funext fun k => funext fun i => ?_)
  simp only [sa, s_c2]
  by_cases hk : k = 14
  · subst hk
    by_cases hi : i = n
    · subst hi; rw [if_pos ⟨rfl, rfl⟩, if_pos ⟨rfl, by omega⟩]
    · rw [if_neg (fun z => hi z.2)]
      by_cases h : 0 ≤ i ∧ i < (n : Int)
      · rw [if_pos ⟨rfl, h⟩, if_pos ⟨rfl, by omega⟩]
      · rw [if_neg (fun z => h z.2), if_neg (fun z => by omega)]
  · simp [hk]
def s_take (S : Ms) (b : Int) : Ms := sv (sv (s_c2 (s_c1 S (S.1 2)) 196) 12 b) 15 (S.1 15 + 1)
def f_costNow (S : Ms) : Int := sumZ (fun k => S.2 5 k * S.2 13 k) (S.1 2).toNat
theorem mulR {a b c d : Int} (ha : 0 ≤ a ∧ a ≤ c) (hb : 0 ≤ b ∧ b ≤ d) : 0 ≤ a * b ∧ a * b ≤ c * d :=
  ⟨Int.mul_nonneg ha.1 hb.1, Int.mul_le_mul ha.2 hb.2 hb.1 (by omega)⟩
theorem costNow_R {S : Ms} (hW : Wf S) (hM : Wm S) : 0 ≤ f_costNow S ∧ f_costNow S ≤ 18018 := by
  have hn := hW.nm
  have := sumZ_R (f := fun k => S.2 5 k * S.2 13 k) (n := (S.1 2).toNat) (a := 0) (b := 1287) (fun i h0 h1 => by
    have u := hW.use (k := i) (by omega)
    have v := hM.2.1 i h0 (by omega)
    exact mulR (c := 99) (d := 13) ⟨by omega, u.2⟩ v)
  unfold f_costNow
  omega
/-- the menu of width b is taken -/
def BM (S : Ms) (b : Int) (T : Ms) : Prop := (∀ k, k ≠ 12 → k ≠ 15 → T.1 k = S.1 k) ∧ T.1 12 = b ∧ T.1 15 = S.1 15 + 1 ∧ (∀ k, cA k = true → k ≠ 13 → k ≠ 14 → T.2 k = S.2 k) ∧
  (∀ i : Int, 0 ≤ i → i < S.1 2 → T.2 13 i = (g_path S b i).length ∧ ∀ j : Nat, j < (g_path S b i).length → T.2 14 (14 * i + j) = (g_path S b i).getD j 0) ∧ (Wm S → B29 S → 1 ≤ S.1 2 → Wm T ∧ B29 T)
theorem take_2 (T : Ms) (b : Int) (k : Nat) (i : Int) : (s_take T b).2 k i = if k = 14 ∧ (0 ≤ i ∧ i < 196) then T.2 29 i else if k = 13 ∧ (0 ≤ i ∧ i < T.1 2) then T.2 28 i else T.2 k i := by
  show (if k = 14 ∧ (0 ≤ i ∧ i < 196) then (if 29 = 13 ∧ (0 ≤ i ∧ i < T.1 2) then T.2 28 i else T.2 29 i) else (if k = 13 ∧ (0 ≤ i ∧ i < T.1 2) then T.2 28 i else T.2 k i)) = _
  rw [if_neg (show ¬ (29 = 13 ∧ (0 ≤ i ∧ i < T.1 2)) from fun z => absurd z.1 (by decide))]
theorem LM.take {S T : Ms} {b : Int} (hW : Wf S) (hb : 2 ≤ b ∧ b ≤ 4) (h : LM S b (S.1 2) T) : BM S b (s_take T b) := by
  have hn := hW.nm
  obtain ⟨h1, h2, h3, h4, h5⟩ := h
  have e2 : T.1 2 = S.1 2 := congrFun h1 2
  refine ⟨fun k k1 k2 => ?_, ?_, ?_, fun k hk k1 k2 => ?_, fun i i0 i1 => ⟨?_, fun j hj => ?_⟩, fun w1 w2 w3 => ⟨⟨?_, fun i i0 i1 => ?_, fun i i0 i1 => ?_⟩, fun i => ?_⟩⟩
  · unfold s_take; rw [sv_n k2, sv_n k1]; exact congrFun h1 k
  · unfold s_take; rw [sv_n (by decide), sv_s]
  · unfold s_take; rw [sv_s, h1]
  · funext i
    rw [take_2, if_neg (fun z => k2 z.1), if_neg (fun z => k1 z.1)]
    exact congrFun (h2 k (fun z => by subst z; cases hk) (fun z => by subst z; cases hk) (fun z => by subst z; cases hk) (fun z => by subst z; cases hk)) i
  · rw [take_2, if_neg (by omega), if_pos (by omega)]; exact (h5 i i0 i1).1
  · have hl := g_len hW hb (a := i) ⟨i0, i1⟩
    rw [take_2, if_pos (by omega)]; exact (h5 i i0 i1).2 j hj
  · right
    refine ⟨hb.1, hb.2, ?_⟩
    show 1 ≤ T.1 2
    omega
  · rw [take_2, if_neg (by omega)]
    by_cases q : i < S.1 2
    · rw [if_pos (by omega), (h5 i i0 q).1]
      have hl := g_len hW hb (a := i) ⟨i0, q⟩
      omega
    · rw [if_neg (by omega), h2 13 (by decide) (by decide) (by decide) (by decide)]; exact w1.2.1 i i0 i1
  · rw [take_2, if_pos (by omega)]; exact h4 w2 i
  · rw [take_2, if_neg (by omega), if_neg (by omega)]; exact h4 w2 i
def g_chg (S : Ms) (b a : Int) : Bool := !decide (S.2 13 a = (g_path S b a).length) || !allB (fun i => decide (S.2 14 (14 * a + i) = (g_path S b a).getD i.toNat 0)) (S.2 13 a).toNat
def g_chgs (S : Ms) (b : Int) : Int := cntB (fun k => g_chg S b k) (S.1 2).toNat
def g_cost (S : Ms) (b : Int) : Int := sumZ (fun k => S.2 5 k * (g_path S b k).length) (S.1 2).toNat
theorem cntB_eq {p q : Int → Bool} {n : Nat} (h : ∀ i : Int, 0 ≤ i → i < n → p i = q i) : cntB p n = cntB q n := by
  induction n with
  | zero => rfl
  | succ n ih => rw [cntB, cntB, ih (fun i h0 h1 => h i h0 (by omega)), h n (by omega) (by omega)]
theorem allB_eq {p q : Int → Bool} {n : Nat} (h : ∀ i : Int, 0 ≤ i → i < n → p i = q i) : allB p n = allB q n := by
  induction n with
  | zero => rfl
  | succ n ih => rw [allB, allB, ih (fun i h0 h1 => h i h0 (by omega)), h n (by omega) (by omega)]
theorem LM.chgs {S T : Ms} {b : Int} (hW : Wf S) (h : LM S b (S.1 2) T) : f_chgs T = g_chgs S b := by
  have hn := hW.nm
  obtain ⟨h1, h2, h3, h4, h5⟩ := h
  unfold f_chgs g_chgs
  rw [show T.1 2 = S.1 2 from congrFun h1 2]
  refine cntB_eq (fun i i0 i1 => ?_)
  obtain ⟨a1, a2⟩ := h5 i i0 (by omega)
  unfold f_chg g_chg
  rw [h2 13 (by decide) (by decide) (by decide) (by decide), h2 14 (by decide) (by decide) (by decide) (by decide), a1]
  by_cases e : S.2 13 i = (g_path S b i).length
  · rw [decide_eq_true e]
    simp only [Bool.not_true, Bool.false_or]
    congr 1
    refine allB_eq (fun j j0 j1 => ?_)
    have := a2 j.toNat (by omega)
    rw [show ((j.toNat : Nat) : Int) = j by omega] at this
    rw [this]
  · rw [decide_eq_false e]; simp
theorem BM.cost {S T : Ms} {b : Int} (hW : Wf S) (h : BM S b T) : f_costNow T = g_cost S b := by
  unfold f_costNow g_cost
  rw [h.1 2 (by decide) (by decide), h.2.2.2.1 5 rfl (by decide) (by decide)]
  have hn := hW.nm
  exact sumZ_eq (fun i i0 i1 => by rw [(h.2.2.2.2.1 i i0 (by omega)).1])
def f_build (S : Ms) (b : Int) : Int := if inB b 2 4 then (if S.1 2 = 0 then -103 else g_cost S b) else -102
def r_build (S : Ms) (b : Int) (T : Ms) : Prop := if inB b 2 4 then (if S.1 2 = 0 then T = S else BM S b T) else T = S
def f_least (S : Ms) : Int := PT S (S.1 12) 1 0 (S.1 2)
def lazyT (S : Ms) (sl : Int) : Prop := 100 * (f_costNow S - f_least S) ≤ sl * f_least S
def f_path2 (S : Ms) (a i : Int) : Int := if S.1 12 = 0 then -103 else if inB a 0 (S.1 2 - 1) && inB i 0 (S.2 13 a - 1) then S.2 14 (14 * a + i) else -101
def f_longest (S : Ms) : Int := maxZ 0 (fun k => S.2 13 k) (S.1 2).toNat
def f_same (S : Ms) (a b m : Int) : Bool := (decide (m ≤ S.2 13 a) && decide (m ≤ S.2 13 b)) && allB (fun i => decide (S.2 14 (14 * a + i) = S.2 14 (14 * b + i))) m.toNat
def f_menus (S : Ms) : Int := sumZ (fun k => cntB (fun m => decide (k = 0) || !f_same S (k - 1) k m) (S.2 13 k).toNat) (S.1 2).toNat
def mxW (S : Ms) : Nat → Int
  | 0 => 0
  | k + 1 => if 0 < S.2 13 k ∧ mxW S k < S.2 14 (14 * k) then S.2 14 (14 * k) else mxW S k
theorem mxW_R {S : Ms} (h : Wm S) (k : Nat) (hk : k ≤ 14) : 0 ≤ mxW S k ∧ mxW S k ≤ 4 := by
  induction k with
  | zero => exact ⟨Int.le_refl _, by show (0 : Int) ≤ 4; decide⟩
  | succ k ih =>
    have := ih (by omega)
    have := h.2.2 (14 * k) (by omega) (by omega)
    rw [mxW]; split <;> omega
def f_menu (S : Ms) (w : Int) : Int := if w = 0 then S.1 12 else if w = 1 then f_costNow S else if w = 2 then f_least S else if w = 3 then f_longest S else if w = 4 then f_menus S else if w = 5 then mxW S (S.1 2).toNat else S.1 15
def f_menuQ (S : Ms) (w : Int) : Int := if S.1 12 = 0 then -103 else if inB w 0 6 then f_menu S w else -102
def f_tend (S : Ms) (sl : Int) : Int := if S.1 12 = 0 then -103 else if inB sl 0 100 then (if 100 * (f_costNow S - f_least S) ≤ sl * f_least S then -1 else g_chgs S (S.1 12)) else -102
def r_tend (S : Ms) (sl : Int) (T : Ms) : Prop := if S.1 12 = 0 then T = S else if inB sl 0 100 then (if 100 * (f_costNow S - f_least S) ≤ sl * f_least S then Cb S T else BM S (S.1 12) T) else T = S
theorem LCi.cb {S T : Ms} {b : Int} {P : Int → Int → Prop} (h : LCi S b P T) : Cb S T := ⟨h.cs, fun q => by unfold B29; rw [h.2.1 29 (by decide) (by decide)]; exact q⟩
theorem LCi.cc {S T : Ms} {b : Int} {P : Int → Int → Prop} (h : LCi S b P T) : Cc S T := ⟨h.cb, h.1⟩
theorem f_costNow_cs {S T : Ms} (c : Cs S T) : f_costNow T = f_costNow S := by
  unfold f_costNow; rw [c.1 2 rfl, c.2 5 rfl, c.2 13 rfl]
theorem g_chgs_cs {S T : Ms} (c : Cs S T) : g_chgs T = g_chgs S := by
  funext b; unfold g_chgs g_chg; rw [c.1 2 rfl, c.2 13 rfl, c.2 14 rfl, g_path_cs c]
theorem BM.cs {S T U : Ms} {b : Int} (c : Cb S T) (hs : T.1 = S.1) (h : BM T b U) : BM S b U := by
  obtain ⟨h1, h2, h3, h4, h5, h6⟩ := h
  rw [g_path_cs c.1, c.1.1 2 rfl] at h5
  refine ⟨fun k k1 k2 => (h1 k k1 k2).trans (congrFun hs k), h2, by rw [h3, hs], fun k hk k1 k2 => (h4 k hk k1 k2).trans (c.1.2 k hk), h5, fun w1 w2 w3 => h6 (w1.cs c.1) (c.2 w2) (by rw [c.1.1 2 rfl]; exact w3)⟩
theorem least_R {S : Ms} (hW : Wf S) (hM : Wm S) (h : ¬ S.1 12 = 0) : 0 ≤ f_least S ∧ f_least S ≤ 19404 := by
  have h1 := hM.1.resolve_left h
  have hn := hW.nm
  have := PT_small hW (b := S.1 12) h1.1 (S.1 2).toNat 0 (S.1 2) (by omega) (by omega) (by omega) (by omega)
  unfold f_least; omega
/-- the menu laid from a state that differs in the table alone -/
theorem LM.of_cs {S T U : Ms} {b c n : Int} {P : Int → Int → Prop} (h : LM T b n U) (hL : LCi S c P T) : LM S b n U := by
  obtain ⟨h1, h2, h3, h4, h5⟩ := h
  have cs := hL.cs
  rw [hL.1, PT_cs cs] at h3
  rw [g_path_cs cs] at h5
  exact ⟨h1.trans hL.1, fun k a1 a2 a3 a4 => (h2 k a1 a2 a3 a4).trans (hL.2.1 k a1 a2), h3, fun q => h4 (hL.cb.2 q), h5⟩
theorem LM.take2 {S T : Ms} {b c : Int} (hW : Wf S) (hb : 2 ≤ b ∧ b ≤ 4) (e : c = b) (h : LM S b (S.1 2) T) : BM S b (s_take T c) := by
  subst e; exact h.take hW hb
