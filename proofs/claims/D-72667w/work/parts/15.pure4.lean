/-! PURE 4: spellings laid -/
theorem f_code_cs {S T : Ms} (c : Cs S T) : f_code T = f_code S := by
  funext a i; unfold f_code; rw [c.2 9 rfl, c.2 4 rfl]
theorem f_begins_cs {S T : Ms} (c : Cs S T) : f_begins T = f_begins S := by
  funext a m b; unfold f_begins; rw [c.2 3 rfl, f_code_cs c]
theorem f_twin_cs {S T : Ms} (c : Cs S T) : f_twin T = f_twin S := by
  funext a b; unfold f_twin; rw [c.2 3 rfl, f_begins_cs c]
theorem f_twins_cs {S T : Ms} (c : Cs S T) : f_twins T = f_twins S := by
  funext a; unfold f_twins; rw [c.1 2 rfl, f_twin_cs c]
theorem f_telling_cs {S T : Ms} (c : Cs S T) : f_telling T = f_telling S := by
  funext a; unfold f_telling f_alone; rw [c.1 2 rfl, c.2 3 rfl, f_begins_cs c]
theorem f_ahead_cs {S T : Ms} (c : Cs S T) : f_ahead T = f_ahead S := by
  funext a b; unfold f_ahead; rw [c.2 5 rfl]
theorem f_place_cs {S T : Ms} (c : Cs S T) : f_place T = f_place S := by
  funext a m; unfold f_place; rw [c.1 2 rfl, f_begins_cs c, f_ahead_cs c]
theorem f_presses_cs {S T : Ms} (c : Cs S T) : f_presses T = f_presses S := by
  funext a; unfold f_presses; rw [c.2 3 rfl, f_place_cs c]
theorem f_chosen_cs {S T : Ms} (c : Cs S T) : f_chosen T = f_chosen S := by
  funext a; unfold f_chosen; rw [c.1 10 rfl, c.2 3 rfl, c.2 11 rfl, f_code_cs c]
theorem f_chAhead_cs {S T : Ms} (c : Cs S T) : f_chAhead T = f_chAhead S := by
  funext a; unfold f_chAhead; rw [c.1 2 rfl, f_chosen_cs c, f_ahead_cs c]
theorem f_choice_cs {S T : Ms} (c : Cs S T) : f_choice T = f_choice S := by
  funext a; unfold f_choice; rw [c.1 2 rfl, f_chosen_cs c, f_chAhead_cs c]
theorem f_fits_cs {S T : Ms} (c : Cs S T) : f_fits T = f_fits S := by
  funext a p; unfold f_fits; rw [c.1 10 rfl, c.2 3 rfl, c.2 11 rfl, f_code_cs c]
theorem f_fits_le {S : Ms} {a p : Int} (h : f_fits S a p = true) : p + S.2 3 a ≤ S.1 10 := by
  unfold f_fits at h
  rw [Bool.and_eq_true] at h
  exact of_decide_eq_true h.1
def pfold (S : Ms) (t : Int → Q4) (p : Int) : Nat → Q4
  | 0 => tkp (0, 268435456, 268435456, 0) (t (p + 1)) 1
  | k + 1 => if f_fits S k p then tkp (pfold S t p k) (t (p + S.2 3 k)) 0 else pfold S t p k
def tab (S : Ms) : Nat → Int → Q4
  | 0 => fun _ => (1, 0, 0, 1)
  | j + 1 => fun i => if i = S.1 10 - 1 - j then pfold S (tab S j) i (S.1 2).toNat else tab S j i
def s_sp (S : Ms) (j : Nat) : Ms := (S.1, fun k i => if (22 ≤ k ∧ k ≤ 25) ∧ (S.1 10 - j ≤ i ∧ i ≤ S.1 10) then qc k (tab S j i) else S.2 k i)
theorem pfold_ok {S : Ms} {t : Int → Q4} (ht : ∀ i, tOk (t i)) (p : Int) (k : Nat) : tOk (pfold S t p k) := by
  induction k with
  | zero => exact tkp_ok (by unfold tOk; decide) (ht _) (by decide)
  | succ k ih =>
    rw [pfold]
    split
    · exact tkp_ok ih (ht _) (by decide)
    · exact ih
theorem tab_ok (S : Ms) (j : Nat) : ∀ i, tOk (tab S j i) := by
  induction j with
  | zero => intro i; show tOk (1, 0, 0, 1); unfold tOk; decide
  | succ j ih =>
    intro i
    show tOk (if i = S.1 10 - 1 - j then pfold S (tab S j) i (S.1 2).toNat else tab S j i)
    split
    · exact pfold_ok ih _ _
    · exact ih i
theorem sp_get {S : Ms} {j : Nat} {i : Int} (h : S.1 10 - j ≤ i ∧ i ≤ S.1 10) : getp (s_sp S j) i = tab S j i := by
  unfold getp s_sp
  simp only [h, and_self, and_true, show (22 ≤ 22 ∧ 22 ≤ 25) from by decide, show (22 ≤ 23 ∧ 23 ≤ 25) from by decide, show (22 ≤ 24 ∧ 24 ≤ 25) from by decide, show (22 ≤ 25 ∧ 25 ≤ 25) from by decide, if_true]
  rfl
theorem sp_cs (S : Ms) (j : Nat) : Cs S (s_sp S j) := by
  refine ⟨fun _ _ => rfl, fun k hk => funext fun i => ?_⟩
  show (if (22 ≤ k ∧ k ≤ 25) ∧ (S.1 10 - j ≤ i ∧ i ≤ S.1 10) then qc k (tab S j i) else S.2 k i) = _
  rw [if_neg]
  rintro ⟨⟨h1, h2⟩, -⟩
  have : k = 22 ∨ k = 23 ∨ k = 24 ∨ k = 25 := by omega
  rcases this with rfl | rfl | rfl | rfl <;> cases hk
theorem sp_0 (S : Ms) : setp S (S.1 10) (1, 0, 0, 1) = s_sp S 0 := by
  refine Prod.ext rfl (funext fun k => funext fun i => ?_)
  simp only [setp, s_sp, tab]
  by_cases h : i = S.1 10
  · subst h; simp
  · rw [if_neg (by simp [h]), if_neg (by omega)]
theorem sp_s {S : Ms} {j : Nat} {p : Int} (hp : p = S.1 10 - 1 - j) : setp (s_sp S j) p (pfold S (tab S j) p (S.1 2).toNat) = s_sp S (j + 1) := by
  refine Prod.ext rfl (funext fun k => funext fun i => ?_)
  simp only [setp, s_sp]
  by_cases h : i = p
  · subst h
    by_cases hk : 22 ≤ k ∧ k ≤ 25
    · rw [if_pos ⟨hk, rfl⟩, if_pos ⟨hk, by omega⟩]
      congr 1
      show _ = if i = S.1 10 - 1 - j then _ else _
      rw [if_pos hp]
    · rw [if_neg (fun q => hk q.1), if_neg (fun q => hk q.1), if_neg (fun q => hk q.1)]
  · rw [if_neg (fun q => h q.2)]
    by_cases hk : (22 ≤ k ∧ k ≤ 25) ∧ (S.1 10 - j ≤ i ∧ i ≤ S.1 10)
    · rw [if_pos hk, if_pos ⟨hk.1, by omega⟩]
      congr 1
      show _ = if i = S.1 10 - 1 - j then _ else _
      rw [if_neg (by omega)]
    · rw [if_neg hk, if_neg (by omega)]
/-- the first piece at a place: a digit by itself -/
theorem sp_a {S : Ms} {j : Nat} {p : Int} (hp : p = S.1 10 - 1 - j) (h0 : 0 ≤ (j : Int)) : setp (setp (s_sp S j) p (0, 268435456, 268435456, 0)) p (tkp (getp (setp (s_sp S j) p (0, 268435456, 268435456, 0)) p) (getp (setp (s_sp S j) p (0, 268435456, 268435456, 0)) (p + 1)) 1) = setp (s_sp S j) p (pfold S (tab S j) p 0) := by
  rw [setp_setp, setp_get, setp_getn (by omega), sp_get (by omega)]; rfl
theorem sp_b {S : Ms} {j k : Nat} {p q : Int} (hp : p = S.1 10 - 1 - j) (hf : f_fits S k p = true) (hq : q = p + S.2 3 k) (h1 : 1 ≤ S.2 3 k) : setp (setp (s_sp S j) p (pfold S (tab S j) p k)) p (tkp (getp (setp (s_sp S j) p (pfold S (tab S j) p k)) p) (getp (setp (s_sp S j) p (pfold S (tab S j) p k)) q) 0) = setp (s_sp S j) p (pfold S (tab S j) p (k + 1)) := by
  have h2 := f_fits_le hf
  rw [setp_setp, setp_get, setp_getn (by omega), sp_get (by omega), hq]
  rw [show pfold S (tab S j) p (k + 1) = if f_fits S k p then tkp (pfold S (tab S j) p k) (tab S j (p + S.2 3 k)) 0 else pfold S (tab S j) p k from rfl, if_pos hf]
theorem sp_c {S : Ms} {j k : Nat} {p : Int} (hf : f_fits S k p = false) : setp (s_sp S j) p (pfold S (tab S j) p k) = setp (s_sp S j) p (pfold S (tab S j) p (k + 1)) := by
  rw [show pfold S (tab S j) p (k + 1) = if f_fits S k p then tkp (pfold S (tab S j) p k) (tab S j (p + S.2 3 k)) 0 else pfold S (tab S j) p k from rfl, if_neg (bf hf)]
/-- the state with its spellings laid -/
def s_lay (S : Ms) : Ms := s_sp S (S.1 10).toNat
def f_spell (S : Ms) (w : Int) : Int := if w = 0 then (tab S (S.1 10).toNat 0).1 else if w = 1 then (tab S (S.1 10).toNat 0).2.1 else if w = 2 then (tab S (S.1 10).toNat 0).2.2.1 else (tab S (S.1 10).toNat 0).2.2.2
theorem lay_cs (S : Ms) : Cs S (s_lay S) := sp_cs S _
theorem lay_get {S : Ms} (h : Wt S) {i : Int} (hi : 0 ≤ i ∧ i ≤ S.1 10) : getp (s_lay S) i = tab S (S.1 10).toNat i := by
  have := h.1
  exact sp_get (by omega)
theorem lay_ok {S : Ms} (h : Wt S) {i : Int} (hi : 0 ≤ i ∧ i ≤ S.1 10) : tOk (getp (s_lay S) i) := by
  rw [lay_get h hi]; exact tab_ok _ _ _
def f_best (S : Ms) (p : Int) : Int := firstB (fun k => f_fits S k p && (decide (S.2 23 (p + S.2 3 k) = S.2 23 p) && decide (S.2 24 (p + S.2 3 k) + 1 = S.2 24 p))) (-1) (S.1 2).toNat 0
theorem firstB_is {p : Int → Bool} {d : Int} : ∀ {n : Nat} {i : Int}, firstB p d n i = d ∨ (p (firstB p d n i) = true ∧ (i ≤ firstB p d n i ∧ firstB p d n i < i + n)) := by
  intro n
  induction n with
  | zero => intro i; exact Or.inl rfl
  | succ n ih =>
    intro i
    rw [firstB]
    split
    · rename_i u; exact Or.inr ⟨u, Int.le_refl _, by omega⟩
    · rcases ih (i := i + 1) with h | h
      · exact Or.inl h
      · exact Or.inr ⟨h.1, by omega, by omega⟩
theorem f_best_is {S : Ms} (hW : Wf S) (p : Int) : f_best S p = -1 ∨ (f_fits S (f_best S p) p = true ∧ 0 ≤ f_best S p ∧ f_best S p < S.1 2) := by
  have h1 := hW.nm
  have h2 := firstB_is (p := fun k => f_fits S k p && (decide (S.2 23 (p + S.2 3 k) = S.2 23 p) && decide (S.2 24 (p + S.2 3 k) + 1 = S.2 24 p))) (d := -1) (n := (S.1 2).toNat) (i := 0)
  rcases h2 with h | ⟨h, h3, h4⟩
  · exact Or.inl h
  · rw [Bool.and_eq_true] at h
    exact Or.inr ⟨h.1, h3, by unfold f_best; omega⟩
/-- the piece number q from place p on, where n pieces are behind -/
def pcs (T : Ms) (q : Int) : Nat → Int → Int → Int
  | 0, _, _ => -101
  | f + 1, p, n => if T.1 10 ≤ p then -101 else if n = q then (if f_best T p = -1 then -2 - T.2 11 p else f_best T p) else pcs T q f (p + (if f_best T p = -1 then 1 else T.2 3 (f_best T p))) (n + 1)
def f_piece (S : Ms) (q : Int) : Int := pcs (s_lay S) q 12 0 0
