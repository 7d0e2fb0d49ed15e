/-! PURE 13: names come in order; a dial is read -/
def OE (S : Ms) (a : Int) : Prop := (1 ≤ S.2 3 a ∧ S.2 3 a ≤ 8) ∧ ∀ i : Int, 0 ≤ i → i < S.2 3 a → 97 ≤ S.2 4 (8 * a + i) ∧ S.2 4 (8 * a + i) ≤ 122
def NE (S : Ms) (r : Int) : Prop := (1 ≤ S.2 18 r ∧ S.2 18 r ≤ 8) ∧ ∀ i : Int, 0 ≤ i → i < S.2 18 r → 97 ≤ S.2 19 (8 * r + i) ∧ S.2 19 (8 * r + i) ≤ 122
def l_old (S : Ms) (a i : Int) : Int := if i < S.2 3 a then S.2 4 (8 * a + i) else 0
def l_new (S : Ms) (r i : Int) : Int := if i < S.2 18 r then S.2 19 (8 * r + i) else 0
def cmpF (f g : Int → Int) : Nat → Int → Int
  | 0, _ => 0
  | n + 1, i => if f i = g i then cmpF f g n (i + 1) else if f i < g i then -1 else 1
def f_cmp (S : Ms) (a r : Int) : Int := cmpF (l_old S a) (l_new S r) 8 0
theorem cmpF_R (f g : Int → Int) : ∀ (n : Nat) (i : Int), -1 ≤ cmpF f g n i ∧ cmpF f g n i ≤ 1 := by
  intro n
  induction n with
  | zero => intro i; show -1 ≤ (0 : Int) ∧ (0 : Int) ≤ 1; decide
  | succ n ih => intro i; rw [cmpF]; split; exact ih _; split <;> decide
theorem l_old_R {S : Ms} {a i : Int} (h : OE S a) (h0 : 0 ≤ i) : 0 ≤ l_old S a i ∧ l_old S a i ≤ 122 := by
  unfold l_old; split
  · have := h.2 i h0 (by assumption); omega
  · decide
theorem l_new_R {S : Ms} {a i : Int} (h : NE S a) (h0 : 0 ≤ i) : 0 ≤ l_new S a i ∧ l_new S a i ≤ 122 := by
  unfold l_new; split
  · have := h.2 i h0 (by assumption); omega
  · decide
def f_there (S : Ms) (r : Int) : Bool := anyB (fun k => decide (f_cmp S k r = 0)) (S.1 2).toNat
/-- where the new name r comes, of the first n -/
def ip (S : Ms) (r : Int) : Nat → Nat
  | 0 => 0
  | n + 1 => if 0 < f_cmp S n r then ip S r n else n + 1
theorem ip_le (S : Ms) (r : Int) (n : Nat) : ip S r n ≤ n := by
  induction n with
  | zero => exact Nat.le_refl _
  | succ n ih => rw [ip]; split <;> omega
/-- the names from n on, of N, one place higher -/
def sh (S : Ms) (n N : Int) : Ms := (S.1, fun k i => if (k = 3 ∨ k = 5) ∧ (n < i ∧ i ≤ N) then S.2 k (i - 1) else if k = 4 ∧ (8 * (n + 1) ≤ i ∧ i < 8 * (N + 1)) then S.2 4 (i - 8) else S.2 k i)
theorem sh_0 (S : Ms) (N : Int) : S = sh S N N := by
  refine Prod.ext rfl (funext fun k => funext fun i => ?_)
  show _ = if _ then _ else if _ then _ else _
  rw [if_neg (by omega), if_neg (by omega)]
theorem sh_s {S : Ms} {n N : Int} (h : n ≤ N) : s_mv (sh S n N) (n - 1) n 8 = sh S (n - 1) N := by
  refine Prod.ext rfl (funext fun k => funext fun i => ?_)
  simp only [s_mv, sh]
  by_cases h3 : k = 3
  · subst h3
    simp only [true_or, true_and, show ¬ (3 = 5) by decide, show ¬ (3 = 4) by decide, false_and, if_false]
    by_cases hi : i = n
    · subst hi; rw [if_pos rfl, if_neg (by omega), if_pos (by omega)]
    · rw [if_neg hi]
      by_cases h : n < i ∧ i ≤ N
      · rw [if_pos h, if_pos (by omega)]
      · rw [if_neg h, if_neg (by omega)]
  · by_cases h5 : k = 5
    · subst h5
      simp only [or_true, true_and, show ¬ (5 = 3) by decide, show ¬ (5 = 4) by decide, false_and, if_false]
      by_cases hi : i = n
      · subst hi; rw [if_pos rfl, if_neg (by omega), if_pos (by omega)]
      · rw [if_neg hi]
        by_cases h : n < i ∧ i ≤ N
        · rw [if_pos h, if_pos (by omega)]
        · rw [if_neg h, if_neg (by omega)]
    · by_cases h4 : k = 4
      · subst h4
        simp only [show ¬ (4 = 3) by decide, show ¬ (4 = 5) by decide, or_self, false_and, if_false, true_and]
        by_cases h : 8 * n ≤ i ∧ i < 8 * n + 8
        · rw [if_pos h, if_neg (by omega), if_pos (by omega)]
          exact congrArg (S.2 4) (by omega)
        · rw [if_neg h]
          by_cases h6 : 8 * (n + 1) ≤ i ∧ i < 8 * (N + 1)
          · rw [if_pos h6, if_pos (by omega)]
          · rw [if_neg h6, if_neg (by omega)]
      · simp only [h3, h5, h4, or_self, false_and, if_false]
theorem sh_2 (S : Ms) (n N : Int) (k : Nat) (i : Int) : (sh S n N).2 k i = if (k = 3 ∨ k = 5) ∧ (n < i ∧ i ≤ N) then S.2 k (i - 1) else if k = 4 ∧ (8 * (n + 1) ≤ i ∧ i < 8 * (N + 1)) then S.2 4 (i - 8) else S.2 k i := rfl
theorem sh_low {S : Ms} {n N a : Int} (h : a ≤ n) : (sh S n N).2 3 a = S.2 3 a ∧ ∀ i : Int, i < 8 → (sh S n N).2 4 (8 * a + i) = S.2 4 (8 * a + i) := by
  constructor
  · rw [sh_2, if_neg (by omega), if_neg (by omega)]
  · intro i hi
    rw [sh_2, if_neg (by omega), if_neg (by omega)]
theorem sh_k {S : Ms} {n N : Int} {k : Nat} (h3 : k ≠ 3) (h4 : k ≠ 4) (h5 : k ≠ 5) : (sh S n N).2 k = S.2 k := by
  funext i
  rw [sh_2, if_neg (by omega), if_neg (by omega)]
theorem OE.eq {S T : Ms} {a : Int} (h : OE S a) (e3 : T.2 3 a = S.2 3 a) (e4 : ∀ i : Int, i < 8 → T.2 4 (8 * a + i) = S.2 4 (8 * a + i)) : OE T a := by
  unfold OE
  rw [e3]
  exact ⟨h.1, fun i i0 i1 => by rw [e4 i (by have := h.1; omega)]; exact h.2 i i0 i1⟩
theorem cmpF_eq {f f' g g' : Int → Int} : ∀ (n : Nat) (i : Int), (∀ j : Int, i ≤ j → j < i + n → f j = f' j ∧ g j = g' j) → cmpF f g n i = cmpF f' g' n i := by
  intro n
  induction n with
  | zero => intro i _; rfl
  | succ n ih =>
    intro i h
    rw [cmpF, cmpF, (h i (by omega) (by omega)).1, (h i (by omega) (by omega)).2, ih (i + 1) (fun j a b => h j (by omega) (by omega))]
theorem f_cmp_eq {S T : Ms} {a r : Int} (e3 : T.2 3 a = S.2 3 a) (e4 : ∀ i : Int, i < 8 → T.2 4 (8 * a + i) = S.2 4 (8 * a + i)) (e18 : T.2 18 = S.2 18) (e19 : T.2 19 = S.2 19) : f_cmp T a r = f_cmp S a r := by
  unfold f_cmp
  refine cmpF_eq 8 0 (fun j j0 j1 => ?_)
  unfold l_old l_new
  rw [e3, e18, e19, e4 j (by omega)]
  exact ⟨rfl, rfl⟩
def s_put (S : Ms) (a r n : Int) : Ms := (S.1, fun k i => if k = 3 ∧ i = a then S.2 18 r else if k = 5 ∧ i = a then S.2 20 r else if k = 4 ∧ (8 * a ≤ i ∧ i < 8 * a + n) then S.2 19 (8 * r + (i - 8 * a)) else S.2 k i)
theorem put_2 (S : Ms) (a r n : Int) (k : Nat) (i : Int) : (s_put S a r n).2 k i = if k = 3 ∧ i = a then S.2 18 r else if k = 5 ∧ i = a then S.2 20 r else if k = 4 ∧ (8 * a ≤ i ∧ i < 8 * a + n) then S.2 19 (8 * r + (i - 8 * a)) else S.2 k i := rfl
theorem put_0 (S : Ms) (a r : Int) : sa (sa S 3 a (S.2 18 r)) 5 a (S.2 20 r) = s_put S a r 0 := by
  refine Prod.ext rfl (funext fun k => funext fun i => ?_)
  simp only [sa, s_put]
  by_cases h3 : k = 3
  · subst h3; simp
  · by_cases h5 : k = 5
    · subst h5; simp
    · simp only [h3, h5, false_and, if_false]
      rw [if_neg (by omega)]
theorem put_s (S : Ms) {a r : Int} (n : Nat) : sa (s_put S a r n) 4 (8 * a + n) (S.2 19 (8 * r + n)) = s_put S a r ((n + 1 : Nat) : Int) := by
  refine Prod.ext rfl (funext fun k => funext fun i => ?_)
  simp only [sa, s_put]
  by_cases h4 : k = 4
  · subst h4
    simp only [show ¬ (4 = 3) by decide, show ¬ (4 = 5) by decide, false_and, if_false, true_and]
    by_cases hi : i = 8 * a + n
    · rw [if_pos hi, if_pos (by omega)]
      exact congrArg (S.2 19) (by omega)
    · rw [if_neg hi]
      by_cases h : 8 * a ≤ i ∧ i < 8 * a + (n : Int)
      · rw [if_pos h, if_pos (by omega)]
      · rw [if_neg h, if_neg (by omega)]
  · simp only [h4, false_and, if_false]
/-- the new name r comes -/
def s_come (S : Ms) (r : Int) : Ms := sv (s_put (sh S (ip S r (S.1 2).toNat) (S.1 2)) (ip S r (S.1 2).toNat) r 8) 2 (S.1 2 + 1)
def s_comes (S : Ms) : Nat → Ms
  | 0 => S
  | k + 1 => s_come (s_comes S k) k
def b_names (S : Ms) : Bool := (decide (f_read S = S.1 0) && decide (2 < (s_read S).1 16)) && allB (fun k => !f_there (s_read S) k) ((s_read S).1 17).toNat
def f_names (S : Ms) : Int := if b_names S then (if S.1 2 + (s_read S).1 17 ≤ 14 then (s_read S).1 17 else -104) else -103
def s_names (S : Ms) : Ms := if b_names S then (if S.1 2 + (s_read S).1 17 ≤ 14 then sv (sv (sv (s_comes (s_read S) ((s_read S).1 17).toNat) 6 (S.1 6 + 1)) 12 0) 0 0 else s_read S) else s_read S
theorem come_2 (S : Ms) (r : Int) {k : Nat} (h3 : k ≠ 3) (h4 : k ≠ 4) (h5 : k ≠ 5) : (s_come S r).2 k = S.2 k := by
  funext i
  rw [show (s_come S r).2 k i = (s_put (sh S (ip S r (S.1 2).toNat) (S.1 2)) (ip S r (S.1 2).toNat) r 8).2 k i from rfl, put_2, if_neg (fun z => h3 z.1), if_neg (fun z => h5 z.1), if_neg (fun z => h4 z.1), sh_k h3 h4 h5]
theorem come_1 (S : Ms) (r : Int) {k : Nat} (h : k ≠ 2) : (s_come S r).1 k = S.1 k := sv_n h
theorem comes_2 (S : Ms) (n : Nat) {k : Nat} (h3 : k ≠ 3) (h4 : k ≠ 4) (h5 : k ≠ 5) : (s_comes S n).2 k = S.2 k := by
  induction n with
  | zero => rfl
  | succ n ih => rw [s_comes, come_2 _ _ h3 h4 h5, ih]
theorem comes_1 (S : Ms) (n : Nat) {k : Nat} (h : k ≠ 2) : (s_comes S n).1 k = S.1 k := by
  induction n with
  | zero => rfl
  | succ n ih => rw [s_comes, come_1 _ _ h, ih]
theorem comes_n (S : Ms) (n : Nat) : (s_comes S n).1 2 = S.1 2 + n := by
  induction n with
  | zero => show S.1 2 = S.1 2 + ((0 : Nat) : Int); omega
  | succ n ih =>
    rw [s_comes]
    show (sv _ 2 ((s_comes S n).1 2 + 1)).1 2 = _
    rw [sv_s, ih]; omega
theorem come_OE {S : Ms} {r : Int} (hN : 0 ≤ S.1 2) (h : ∀ a : Int, 0 ≤ a → a < S.1 2 → OE S a) (hr : NE S r) : ∀ a : Int, 0 ≤ a → a < S.1 2 + 1 → OE (s_come S r) a := by
  intro a a0 a1
  have hp := ip_le S r (S.1 2).toNat
  have key3 : (s_come S r).2 3 a = if a = ip S r (S.1 2).toNat then S.2 18 r else if (ip S r (S.1 2).toNat : Int) < a then S.2 3 (a - 1) else S.2 3 a := by
    rw [show (s_come S r).2 3 a = (s_put (sh S (ip S r (S.1 2).toNat) (S.1 2)) (ip S r (S.1 2).toNat) r 8).2 3 a from rfl, put_2]
    by_cases e : a = ip S r (S.1 2).toNat
    · rw [if_pos ⟨rfl, e⟩, if_pos e, sh_k (by decide) (by decide) (by decide)]
    · rw [if_neg (fun z => e z.2), if_neg (fun z => by cases z.1), if_neg (fun z => by cases z.1), if_neg e]
      by_cases q : (ip S r (S.1 2).toNat : Int) < a
      · rw [if_pos q]
        rw [sh_2, if_pos ⟨Or.inl rfl, by omega⟩]
      · rw [if_neg q]; exact (sh_low (by omega)).1
  have key4 : ∀ i : Int, 0 ≤ i → i < 8 → (s_come S r).2 4 (8 * a + i) = if a = ip S r (S.1 2).toNat then S.2 19 (8 * r + i) else if (ip S r (S.1 2).toNat : Int) < a then S.2 4 (8 * (a - 1) + i) else S.2 4 (8 * a + i) := by
    intro i i0 i1
    rw [show (s_come S r).2 4 (8 * a + i) = (s_put (sh S (ip S r (S.1 2).toNat) (S.1 2)) (ip S r (S.1 2).toNat) r 8).2 4 (8 * a + i) from rfl, put_2, if_neg (fun z => by cases z.1), if_neg (fun z => by cases z.1)]
    by_cases e : a = ip S r (S.1 2).toNat
    · rw [if_pos ⟨rfl, by omega⟩, if_pos e, sh_k (by decide) (by decide) (by decide)]
      exact congrArg (S.2 19) (by omega)
    · rw [if_neg (fun z => by omega), if_neg e]
      by_cases q : (ip S r (S.1 2).toNat : Int) < a
      · rw [if_pos q]
        rw [sh_2, if_neg (fun z => by rcases z.1 with u | u <;> cases u), if_pos ⟨rfl, by omega⟩]
        exact congrArg (S.2 4) (by omega)
      · rw [if_neg q]; exact (sh_low (by omega)).2 i i1
  unfold OE
  rw [key3]
  by_cases e : a = ip S r (S.1 2).toNat
  · rw [if_pos e]
    refine ⟨hr.1, fun i i0 i1 => ?_⟩
    rw [key4 i i0 (by have := hr.1; omega), if_pos e]; exact hr.2 i i0 i1
  · rw [if_neg e]
    by_cases q : (ip S r (S.1 2).toNat : Int) < a
    · rw [if_pos q]
      have ho := h (a - 1) (by omega) (by omega)
      refine ⟨ho.1, fun i i0 i1 => ?_⟩
      rw [key4 i i0 (by have := ho.1; omega), if_neg e, if_pos q]; exact ho.2 i i0 i1
    · rw [if_neg q]
      have ho := h a a0 (by omega)
      refine ⟨ho.1, fun i i0 i1 => ?_⟩
      rw [key4 i i0 (by have := ho.1; omega), if_neg e, if_neg q]; exact ho.2 i i0 i1
theorem comes_OE {S : Ms} (hN : 0 ≤ S.1 2) (h : ∀ a : Int, 0 ≤ a → a < S.1 2 → OE S a) (m : Nat) (hr : ∀ r : Int, 0 ≤ r → r < m → NE S r) : ∀ a : Int, 0 ≤ a → a < S.1 2 + m → OE (s_comes S m) a := by
  induction m with
  | zero => intro a a0 a1; exact h a a0 (by omega)
  | succ m ih =>
    intro a a0 a1
    have i1 := ih (fun r r0 r1 => hr r r0 (by omega))
    have e := comes_n S m
    have en : NE (s_comes S m) m := by
      unfold NE
      rw [comes_2 S m (by decide) (by decide) (by decide), comes_2 S m (by decide) (by decide) (by decide)]
      exact hr m (by omega) (by omega)
    rw [s_comes]
    exact come_OE (by omega) (fun a b c => i1 a b (by omega)) en a a0 (by omega)
theorem rd_1 (S : Ms) (k : Nat) : 0 ≤ (rd S k).1 ∧ (rd S k).1 ≤ k := by
  induction k with
  | zero => exact ⟨Int.le_refl _, Int.le_refl _⟩
  | succ k ih =>
    rw [rd]
    split
    · split
      · constructor
        · show 0 ≤ (k : Int) + 1; omega
        · show (k : Int) + 1 ≤ ((k + 1 : Nat) : Int); omega
      · constructor
        · show 0 ≤ (k : Int); omega
        · show (k : Int) ≤ ((k + 1 : Nat) : Int); omega
    · omega
theorem read_R {S : Ms} (h : Wp S) : 0 ≤ f_read S ∧ f_read S ≤ 50 := by
  have h0 := h.1
  have := rd_1 S (S.1 0).toNat
  unfold f_read; omega
theorem rd_t (S : Ms) (k : Nat) : (rd S k).2.1 = true ∨ (rd S k).1 < k := by
  induction k with
  | zero => exact Or.inl rfl
  | succ k ih =>
    rw [rd]
    split
    · split
      · exact Or.inl rfl
      · exact Or.inr (by show (k : Int) < ((k + 1 : Nat) : Int); omega)
    · rename_i q
      right
      have := ih.resolve_left q
      omega
theorem read_RI {S : Ms} (h : f_read S = S.1 0) : RI (s_read S) := by
  unfold f_read at h
  rcases rd_t S (S.1 0).toNat with q | q
  · exact (rd_RI S _ q).1
  · have := rd_1 S (S.1 0).toNat; omega
/-- the stage stays small, whatever is read -/
theorem rd_st (S : Ms) (k : Nat) : (0 ≤ (rd S k).2.2.1 16 ∧ (rd S k).2.2.1 16 ≤ 4) ∧ (0 ≤ (rd S k).2.2.1 17 ∧ (rd S k).2.2.1 17 ≤ 14) := by
  induction k with
  | zero => exact ⟨⟨Int.le_refl _, by show (0 : Int) ≤ 4; decide⟩, ⟨Int.le_refl _, by show (0 : Int) ≤ 14; decide⟩⟩
  | succ k ih =>
    rw [rd]
    split
    · rename_i q
      have hr := (rd_RI S k q).1
      split
      · rename_i q2
        have := hr.takes q2
        exact ⟨this.1, this.2.1⟩
      · rename_i q2
        show (0 ≤ (s_takes (rd S k).2.2 (S.2 1 k)).1 16 ∧ (s_takes (rd S k).2.2 (S.2 1 k)).1 16 ≤ 4) ∧ (0 ≤ (s_takes (rd S k).2.2 (S.2 1 k)).1 17 ∧ (s_takes (rd S k).2.2 (S.2 1 k)).1 17 ≤ 14)
        generalize (rd S k).2.2 = T at *
        generalize S.2 1 k = c at *
        have q3 : f_takes T c = false := by cases h : f_takes T c with | true => exact absurd h q2 | false => rfl
        unfold f_takes f_tName f_tUse at q3
        unfold s_takes s_tName s_tUse
        have hz : (s_nm0 T).1 = T.1 := by unfold s_nm0; split <;> rfl
        split
        · rename_i a1
          rw [if_pos a1] at q3
          split
          · rename_i a2
            rw [if_pos a2] at q3
            rw [q3]; exact ih
          · rename_i a2
            rw [if_neg a2] at q3
            unfold s_let
            rw [q3]
            show (0 ≤ (s_nm0 T).1 16 ∧ (s_nm0 T).1 16 ≤ 4) ∧ (0 ≤ (s_nm0 T).1 17 ∧ (s_nm0 T).1 17 ≤ 14)
            rw [hz]; exact ih
        · rename_i a1
          rw [if_neg a1] at q3
          split
          · rename_i a2
            rw [if_pos a2] at q3
            rw [q3]
            show (0 ≤ T.1 16 ∧ T.1 16 ≤ 4) ∧ (0 ≤ T.1 17 + 0 ∧ T.1 17 + 0 ≤ 14)
            omega
          · rename_i a2
            rw [if_neg a2] at q3
            split
            · rename_i a3
              rw [if_pos a3] at q3
              rw [q3]; exact ih
            · rename_i a3
              rw [if_neg a3] at q3
              rw [q3]; exact ih
    · exact ih
theorem read_st (S : Ms) : (0 ≤ (s_read S).1 16 ∧ (s_read S).1 16 ≤ 4) ∧ (0 ≤ (s_read S).1 17 ∧ (s_read S).1 17 ≤ 14) := rd_st S _
theorem b_names_1 {S : Ms} (h : b_names S = true) : f_read S = S.1 0 := by
  unfold b_names at h
  rw [Bool.and_eq_true, Bool.and_eq_true, decide_eq_true_eq] at h
  exact h.1.1
