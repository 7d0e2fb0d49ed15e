/-! PURE B: telling by what is in common -/
set_option maxRecDepth 100000
theorem maxZ_ge (m : Int) (f : Int → Int) : ∀ n : Nat, m ≤ maxZ m f n ∧ ∀ j : Nat, j < n → f j ≤ maxZ m f n
  | 0 => ⟨Int.le_refl _, fun j h => absurd h (Nat.not_lt_zero _)⟩
  | n + 1 => by
    have ih := maxZ_ge m f n
    rw [maxZ]
    refine ⟨by split <;> omega, fun j hj => ?_⟩
    by_cases e : j = n
    · subst e; split <;> omega
    · have := ih.2 j (by omega)
      split <;> omega
theorem maxZ_is (m : Int) (f : Int → Int) : ∀ n : Nat, maxZ m f n = m ∨ ∃ j : Nat, j < n ∧ maxZ m f n = f j
  | 0 => Or.inl rfl
  | n + 1 => by
    rw [maxZ]
    split
    · exact Or.inr ⟨n, by omega, rfl⟩
    · rcases maxZ_is m f n with u | ⟨j, u, v⟩
      · exact Or.inl u
      · exact Or.inr ⟨j, by omega, v⟩
/-- what stands alone: above all that is in common -/
theorem f_alone_max {S : Ms} (h : Wf S) {a m : Int} (ha : 0 ≤ a ∧ a < S.1 2) (hm : 0 ≤ m ∧ m ≤ S.2 3 a) : f_alone S a m = decide (maxZ 0 (fun k => if k = a then 0 else (f_cm S a k : Int) + 1) (S.1 2).toNat ≤ m) := by
  have h2 := h.nm
  have g := maxZ_ge 0 (fun k => if k = a then 0 else (f_cm S a k : Int) + 1) (S.1 2).toNat
  rw [Bool.eq_iff_iff, f_alone, allB_iff, decide_eq_true_iff]
  constructor
  · intro hh
    rcases maxZ_is 0 (fun k => if k = a then 0 else (f_cm S a k : Int) + 1) (S.1 2).toNat with u | ⟨j, u, v⟩
    · omega
    · have hj := hh j u
      by_cases e : (j : Int) = a
      · rw [if_pos e] at v; omega
      · rw [if_neg e] at v
        simp only [decide_eq_false e, Bool.false_or, Bool.not_eq_true'] at hj
        rw [f_begins_cm h ha (by omega) hm] at hj
        have := of_decide_eq_false hj
        omega
  · intro hh j hj
    by_cases e : (j : Int) = a
    · simp [e]
    · have := g.2 j hj
      simp only [if_neg e] at this
      simp only [decide_eq_false e, Bool.false_or, Bool.not_eq_true']
      rw [f_begins_cm h ha (by omega) hm]
      exact decide_eq_false (by omega)
theorem firstB_dec {M d : Int} : ∀ (n : Nat) (i : Int), i ≤ M → firstB (fun m => decide (M ≤ m)) d n i = if M < i + n then M else d
  | 0, i, h => by rw [firstB, if_neg (by omega)]
  | n + 1, i, h => by
    rw [firstB]
    by_cases u : M ≤ i
    · rw [if_pos (decide_eq_true u), if_pos (by omega)]; omega
    · rw [if_neg (by simpa using u), firstB_dec n (i + 1) (by omega)]
      by_cases v : M < i + 1 + n
      · rw [if_pos v, if_pos (by omega)]
      · rw [if_neg v, if_neg (by omega)]
theorem f_telling_cm {S : Ms} (h : Wf S) {a : Int} (ha : 0 ≤ a ∧ a < S.1 2) : f_telling S a = if maxZ 0 (fun k => if k = a then 0 else (f_cm S a k : Int) + 1) (S.1 2).toNat ≤ S.2 3 a then maxZ 0 (fun k => if k = a then 0 else (f_cm S a k : Int) + 1) (S.1 2).toNat else -1 := by
  have l := h.len ha
  have g := (maxZ_ge 0 (fun k => if k = a then 0 else (f_cm S a k : Int) + 1) (S.1 2).toNat).1
  unfold f_telling
  rw [firstB_eq (p' := fun m => decide (maxZ 0 (fun k => if k = a then 0 else (f_cm S a k : Int) + 1) (S.1 2).toNat ≤ m)) (fun j h1 h2 => f_alone_max h ha (by omega)), firstB_dec _ _ g]
  by_cases v : maxZ 0 (fun k => if k = a then 0 else (f_cm S a k : Int) + 1) (S.1 2).toNat ≤ S.2 3 a
  · rw [if_pos v, if_pos (by omega)]
  · rw [if_neg v, if_neg (by omega)]
