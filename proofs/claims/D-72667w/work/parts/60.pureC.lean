/-! PURE C: what Name.common answers is f_cm -/
set_option maxRecDepth 100000
theorem cmnF_congr {f g f' g' : Nat → Int} : ∀ (t k : Nat), (∀ j : Nat, k ≤ j → j < k + t → f j = f' j ∧ g j = g' j) → cmnF f g t k = cmnF f' g' t k
  | 0, k, _ => rfl
  | t + 1, k, h => by
    have h0 := h k (by omega) (by omega)
    rw [cmnF, cmnF, h0.1, h0.2, cmnF_congr t (k + 1) (fun j h1 h2 => h j (by omega) (by omega))]
theorem cmn_np {S : Ms} (h : Wf S) {a b : Int} (ha : 0 ≤ a ∧ a < S.1 2) (hb : 0 ≤ b ∧ b < S.1 2) : cmnF (fun j => (fun j : Nat => S.2 9 (j : Int)) ((fun j : Nat => S.2 4 (8 * a + (j : Int))) j - 97).toNat) (fun j => (fun j : Nat => S.2 9 (j : Int)) ((fun j : Nat => S.2 4 (8 * b + (j : Int))) j - 97).toNat) (min (S.2 3 a).toNat (S.2 3 b).toNat) 0 = f_cm S a b := by
  refine cmnF_congr _ _ fun j h1 h2 => ⟨?_, ?_⟩
  · exact np_d h ha (i := (j : Int)) (by omega)
  · exact np_d h hb (i := (j : Int)) (by omega)
theorem np_ls {S : Ms} (h : Wf S) {a : Int} (h7 : 0 ≤ a ∧ a < S.1 2) : ∀ j : Nat, j < (S.2 3 a).toNat → 97 ≤ (fun j : Nat => S.2 4 (8 * a + (j : Int))) j ∧ (fun j : Nat => S.2 4 (8 * a + (j : Int))) j ≤ 122 := fun j hj => by
  have hL := h.let h7 (i := (j : Int)) (by omega)
  exact hL
