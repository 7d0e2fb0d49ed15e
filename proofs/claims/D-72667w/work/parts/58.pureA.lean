/-! PURE A: how many first places agree, and the model's begins -/
set_option maxRecDepth 100000
theorem cmnF_ge (f g : Nat → Int) : ∀ (t k : Nat), k ≤ cmnF f g t k ∧ cmnF f g t k ≤ k + t
  | 0, k => ⟨Nat.le_refl _, Nat.le_refl _⟩
  | t + 1, k => by
    have ih := cmnF_ge f g t (k + 1)
    rw [cmnF]
    split <;> omega
/-- up to it all places agree; at it they don't -/
theorem cmnF_lt (f g : Nat → Int) : ∀ (t k j : Nat), k ≤ j → j < cmnF f g t k → f j = g j
  | 0, k, j, h1, h2 => by simp only [cmnF] at h2; omega
  | t + 1, k, j, h1, h2 => by
    rw [cmnF] at h2
    split at h2
    · rename_i u
      by_cases e : j = k
      · rw [e]; exact u
      · exact cmnF_lt f g t (k + 1) j (by omega) h2
    · omega
theorem cmnF_at (f g : Nat → Int) : ∀ (t k : Nat), cmnF f g t k < k + t → f (cmnF f g t k) ≠ g (cmnF f g t k)
  | 0, k, h => by simp only [cmnF] at h; omega
  | t + 1, k, h => by
    rw [cmnF] at h ⊢
    split at h
    · rename_i u
      rw [if_pos u]
      exact cmnF_at f g t (k + 1) (by omega)
    · rename_i u
      rw [if_neg u]; exact u
theorem allB_iff (p : Int → Bool) : ∀ n : Nat, allB p n = true ↔ ∀ j : Nat, j < n → p j = true
  | 0 => ⟨fun _ j h => absurd h (Nat.not_lt_zero _), fun _ => rfl⟩
  | n + 1 => by
    rw [allB, Bool.and_eq_true, allB_iff p n]
    constructor
    · intro h j hj
      by_cases e : j = n
      · rw [e]; exact h.2
      · exact h.1 j (by omega)
    · intro h
      exact ⟨fun j hj => h j (by omega), h n (by omega)⟩
/-- the first digits that two names have in common -/
def f_cm (S : Ms) (a b : Int) : Nat := cmnF (fun j => f_code S a j) (fun j => f_code S b j) (min (S.2 3 a).toNat (S.2 3 b).toNat) 0
theorem f_begins_cm {S : Ms} (h : Wf S) {a b m : Int} (ha : 0 ≤ a ∧ a < S.1 2) (hb : 0 ≤ b ∧ b < S.1 2) (hm : 0 ≤ m ∧ m ≤ S.2 3 a) : f_begins S a m b = decide (m ≤ (f_cm S a b : Int)) := by
  have l1 := h.len ha
  have l2 := h.len hb
  have g := cmnF_ge (fun j => f_code S a j) (fun j => f_code S b j) (min (S.2 3 a).toNat (S.2 3 b).toNat) 0
  rw [Bool.eq_iff_iff, f_begins, Bool.and_eq_true, allB_iff, decide_eq_true_iff, decide_eq_true_iff]
  constructor
  · intro hh
    refine Classical.byContradiction fun u => ?_
    have u2 : (f_cm S a b : Int) < m := by omega
    have hx := cmnF_at (fun j => f_code S a j) (fun j => f_code S b j) (min (S.2 3 a).toNat (S.2 3 b).toNat) 0 (by unfold f_cm at u2; omega)
    exact hx (of_decide_eq_true (hh.2 (f_cm S a b) (by omega)))
  · intro hh
    refine ⟨by unfold f_cm at hh; omega, fun j hj => decide_eq_true ?_⟩
    exact cmnF_lt (fun j => f_code S a j) (fun j => f_code S b j) (min (S.2 3 a).toNat (S.2 3 b).toNat) 0 j (Nat.zero_le _) (by unfold f_cm at hh; omega)
