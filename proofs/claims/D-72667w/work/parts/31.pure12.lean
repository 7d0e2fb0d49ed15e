/-! PURE 12: reading keeps what it has read -/
theorem RI.of {T : Ms} {st nn : Int} (e1 : T.1 16 = st) (e2 : T.1 17 = nn) (h1 : 0 ≤ st ∧ st ≤ 4) (h2 : 0 ≤ nn ∧ nn ≤ 14) (h3 : st < 3 → nn < 14) (h4 : 3 ≤ st → 1 ≤ nn)
    (h5 : ∀ k : Int, 0 ≤ k → k < nn → (1 ≤ T.2 18 k ∧ T.2 18 k ≤ 8) ∧ (1 ≤ T.2 20 k ∧ T.2 20 k ≤ 99) ∧ ∀ i : Int, 0 ≤ i → i < T.2 18 k → 97 ≤ T.2 19 (8 * k + i) ∧ T.2 19 (8 * k + i) ≤ 122)
    (h6 : (st = 1 ∨ st = 2) → (1 ≤ T.2 18 nn ∧ T.2 18 nn ≤ 8) ∧ ∀ i : Int, 0 ≤ i → i < T.2 18 nn → 97 ≤ T.2 19 (8 * nn + i) ∧ T.2 19 (8 * nn + i) ≤ 122) (h7 : st = 3 → T.2 20 (nn - 1) ≤ 9) : RI T := by
  unfold RI
  rw [e1, e2]
  exact ⟨h1, h2, h3, h4, h5, h6, h7⟩
theorem RI.takes {S : Ms} {c : Int} (h : RI S) (ht : f_takes S c = true) : RI (s_takes S c) := by
  obtain ⟨r1, r2, r3, r4, r5, r6, r7⟩ := h
  unfold f_takes at ht
  unfold s_takes
  by_cases q : S.1 16 < 2
  · rw [if_pos q] at ht ⊢
    have r3 := r3 (by omega)
    unfold f_tName at ht
    unfold s_tName
    by_cases q2 : c = 58 ∧ S.1 16 = 1
    · rw [if_pos q2] at ht ⊢
      rw [ht]
      have r6 := r6 (Or.inl q2.2)
      exact RI.of (st := 2) (nn := S.1 17) rfl rfl (by decide) r2 (fun _ => r3) (fun z => absurd z (by decide)) r5 (fun _ => r6) (fun z => absurd z (by decide))
    · rw [if_neg q2] at ht ⊢
      have hz : (s_nm0 S).1 = S.1 := by unfold s_nm0; split <;> rfl
      have ht2 := ht
      unfold b_let at ht2
      rw [Bool.and_eq_true, decide_eq_true_eq, hz, Bool.and_eq_true, decide_eq_true_eq, decide_eq_true_eq] at ht2
      obtain ⟨ht3, ht4⟩ := ht2
      have z19 : (s_nm0 S).2 19 = S.2 19 := by unfold s_nm0; split; (funext i; exact sa_n (fun z => by cases z.1)); rfl
      have z20 : (s_nm0 S).2 20 = S.2 20 := by unfold s_nm0; split; (funext i; exact sa_n (fun z => by cases z.1)); rfl
      have z18 : ∀ k : Int, k ≠ S.1 17 → (s_nm0 S).2 18 k = S.2 18 k := by
        intro k hk; unfold s_nm0; split
        · exact sa_n (fun z => hk z.2)
        · rfl
      have zL : 0 ≤ (s_nm0 S).2 18 (S.1 17) ∧ ∀ i : Int, 0 ≤ i → i < (s_nm0 S).2 18 (S.1 17) → 97 ≤ S.2 19 (8 * S.1 17 + i) ∧ S.2 19 (8 * S.1 17 + i) ≤ 122 := by
        unfold s_nm0
        split
        · rw [sa_s]; exact ⟨Int.le_refl _, fun i a b => by omega⟩
        · have r6 := r6 (Or.inl (by omega))
          exact ⟨by omega, r6.2⟩
      unfold s_let
      rw [if_pos ht, ht, hz]
      generalize (s_nm0 S).2 18 (S.1 17) = L at ht4 zL
      have t18 : ∀ k : Int, (s_goes (sa (sa (s_nm0 S) 19 (8 * S.1 17 + L) c) 18 (S.1 17) (L + 1)) true 1).2 18 k = if k = S.1 17 then L + 1 else (s_nm0 S).2 18 k := by
        intro k
        show (if 18 = 18 ∧ k = S.1 17 then L + 1 else (if 18 = 19 ∧ k = 8 * S.1 17 + L then c else (s_nm0 S).2 18 k)) = _
        by_cases e : k = S.1 17
        · rw [if_pos ⟨rfl, e⟩, if_pos e]
        · rw [if_neg (fun z => e z.2), if_neg (fun z => by cases z.1), if_neg e]
      have t19 : ∀ k : Int, (s_goes (sa (sa (s_nm0 S) 19 (8 * S.1 17 + L) c) 18 (S.1 17) (L + 1)) true 1).2 19 k = if k = 8 * S.1 17 + L then c else S.2 19 k := by
        intro k
        show (if 19 = 18 ∧ k = S.1 17 then L + 1 else (if 19 = 19 ∧ k = 8 * S.1 17 + L then c else (s_nm0 S).2 19 k)) = _
        rw [if_neg (fun z => by cases z.1), z19]
        by_cases e : k = 8 * S.1 17 + L
        · rw [if_pos ⟨rfl, e⟩, if_pos e]
        · rw [if_neg (fun z => e z.2), if_neg e]
      have t20 : ∀ k : Int, (s_goes (sa (sa (s_nm0 S) 19 (8 * S.1 17 + L) c) 18 (S.1 17) (L + 1)) true 1).2 20 k = S.2 20 k := by
        intro k
        show (if 20 = 18 ∧ k = S.1 17 then L + 1 else (if 20 = 19 ∧ k = 8 * S.1 17 + L then c else (s_nm0 S).2 20 k)) = _
        rw [if_neg (fun z => by cases z.1), if_neg (fun z => by cases z.1), z20]
      refine RI.of (st := 1) (nn := S.1 17) rfl (by show (s_nm0 S).1 17 = _; rw [hz]) (by decide) r2 (fun _ => r3) (fun z => absurd z (by decide)) (fun k k0 k1 => ?_) (fun _ => ?_) (fun z => absurd z (by decide))
      · rw [t18, if_neg (by omega), z18 k (by omega), t20]
        refine ⟨(r5 k k0 k1).1, (r5 k k0 k1).2.1, fun i i0 i1 => ?_⟩
        have := (r5 k k0 k1).1
        rw [t19, if_neg (by omega)]; exact (r5 k k0 k1).2.2 i i0 i1
      · rw [t18, if_pos rfl]
        refine ⟨by omega, fun i i0 i1 => ?_⟩
        rw [t19]
        split
        · exact ht3
        · exact zL.2 i i0 (by omega)
  · rw [if_neg q] at ht ⊢
    unfold f_tUse at ht
    unfold s_tUse
    by_cases q2 : S.1 16 = 2
    · rw [if_pos q2] at ht ⊢
      have r6 := r6 (Or.inr q2)
      have r3 := r3 (by omega)
      rw [ht]
      rw [Bool.and_eq_true, decide_eq_true_eq, decide_eq_true_eq] at ht
      refine RI.of (st := 3) (nn := S.1 17 + 1) rfl rfl (by decide) (by omega) (fun z => absurd z (by decide)) (fun _ => by omega) (fun k k0 k1 => ?_) (fun z => by omega) (fun _ => ?_)
      · have t20 : (s_goes (sv (sa S 20 (S.1 17) (c - 48)) 17 (S.1 17 + bI true)) true 3).2 20 k = if k = S.1 17 then c - 48 else S.2 20 k := by
          show (if 20 = 20 ∧ k = S.1 17 then c - 48 else S.2 20 k) = _
          by_cases e : k = S.1 17
          · rw [if_pos ⟨rfl, e⟩, if_pos e]
          · rw [if_neg (fun z => e z.2), if_neg e]
        rw [t20]
        show (1 ≤ S.2 18 k ∧ S.2 18 k ≤ 8) ∧ _ ∧ ∀ i : Int, 0 ≤ i → i < S.2 18 k → 97 ≤ S.2 19 (8 * k + i) ∧ S.2 19 (8 * k + i) ≤ 122
        by_cases e : k = S.1 17
        · rw [if_pos e, e]; exact ⟨r6.1, by omega, r6.2⟩
        · rw [if_neg e]; exact r5 k k0 (by omega)
      · show (if 20 = 20 ∧ S.1 17 + 1 - 1 = S.1 17 then c - 48 else _) ≤ 9
        rw [if_pos ⟨rfl, by omega⟩]; omega
    · rw [if_neg q2] at ht ⊢
      by_cases q3 : c = 59
      · rw [if_pos q3] at ht ⊢
        rw [ht]
        rw [decide_eq_true_eq] at ht
        exact RI.of (st := 0) (nn := S.1 17) rfl rfl (by decide) r2 (fun _ => ht) (fun z => absurd z (by decide)) r5 (fun z => by omega) (fun z => absurd z (by decide))
      · rw [if_neg q3] at ht ⊢
        rw [if_pos ht, ht]
        rw [Bool.and_eq_true, decide_eq_true_eq, Bool.and_eq_true, decide_eq_true_eq, decide_eq_true_eq] at ht
        have r7 := r7 ht.1
        have r4 := r4 (by omega)
        refine RI.of (st := 4) (nn := S.1 17) rfl rfl (by decide) r2 (fun z => absurd z (by decide)) (fun _ => r4) (fun k k0 k1 => ?_) (fun z => by omega) (fun z => absurd z (by decide))
        have t20 : (s_goes (sa S 20 (S.1 17 - 1) (10 * S.2 20 (S.1 17 - 1) + (c - 48))) true 4).2 20 k = if k = S.1 17 - 1 then 10 * S.2 20 (S.1 17 - 1) + (c - 48) else S.2 20 k := by
          show (if 20 = 20 ∧ k = S.1 17 - 1 then _ else S.2 20 k) = _
          by_cases e : k = S.1 17 - 1
          · rw [if_pos ⟨rfl, e⟩, if_pos e]
          · rw [if_neg (fun z => e z.2), if_neg e]
        rw [t20]
        show (1 ≤ S.2 18 k ∧ S.2 18 k ≤ 8) ∧ _ ∧ ∀ i : Int, 0 ≤ i → i < S.2 18 k → 97 ≤ S.2 19 (8 * k + i) ∧ S.2 19 (8 * k + i) ≤ 122
        have r8 := r5 k k0 k1
        by_cases e : k = S.1 17 - 1
        · rw [if_pos e, ← e]; rw [← e] at r7; exact ⟨r8.1, by omega, r8.2.2⟩
        · rw [if_neg e]; exact r8
theorem rd_RI (S : Ms) (k : Nat) (h : (rd S k).2.1 = true) : RI (rd S k).2.2 ∧ (rd S k).1 = k := by
  induction k with
  | zero => exact ⟨RI.of (st := 0) (nn := 0) rfl rfl (by decide) (by decide) (fun _ => by decide) (fun z => absurd z (by decide)) (fun k a b => by omega) (fun z => by omega) (fun z => absurd z (by decide)), rfl⟩
  | succ k ih =>
    rw [rd] at h ⊢
    split at h
    · rename_i q
      rw [if_pos q]
      split at h
      · rename_i q2
        rw [if_pos q2]
        exact ⟨(ih q).1.takes q2, by show (k : Int) + 1 = ((k + 1 : Nat) : Int); omega⟩
      · cases h
    · rename_i q; exact absurd h q
