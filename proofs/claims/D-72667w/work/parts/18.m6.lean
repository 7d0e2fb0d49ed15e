/-! MODEL 6: costs of stretches -/
set_option maxRecDepth 100000
abbrev q_X1_usesOf (G : Gw) (M : Mg) (B : Hp) (S : Ms) (f : Int) (t : Int) : Option Value → Hp → Prop := fun v_ h_ => v_ = some (iv (f_usesOf S f t)) ∧ h_ = mh G M B (S)
set_option maxHeartbeats 4000000 in
theorem c_X1_usesOf (l : Launch) (G : Gw) (M : Mg) (B : Hp) (S : Ms) (f : Int) (t : Int) (hM : MOk M) (hp0 : Wf S) (hp1 : 0 ≤ f ∧ f < t ∧ t ≤ S.1 2) : Mt l G yX1_usesOf cX1_usesOf 5 (some .int) 0 [.ref (M.1), iv (f), iv (t)] (mh G M B S) (q_X1_usesOf G M B S f t) (0) (0) := by
  refine Mt.of (lv := [(0, .ref (M.1)), (1, iv (f)), (2, iv (t))]) (by decide) (Nat.le_of_ble_eq_true rfl) rfl (fun X => ?_)
  have h2 := hp0.nm
  refine x_iconst dX1_usesOf_0 ?_
  refine x_istore_n (lv' := [(0, _), (1, _), (2, _), (3, _)]) dX1_usesOf_1 rfl (by decide) ?_
  refine x_iload_n dX1_usesOf_2 rfl ?_
  refine x_istore (lv' := [(0, _), (1, _), (2, _), (3, _), (4, _)]) dX1_usesOf_3 rfl (by decide) ?_
  have L5 : ∀ (n5 : Nat) (k : Int) (j : Nat), (t - k) < (n5 : Int) → k = f + j → k ≤ t → V G X cX1_usesOf 5 yX1_usesOf (some .int) 0 (q_X1_usesOf G M B S f t) (0) (0) 5 [(0, .ref (M.1)), (1, iv (f)), (2, iv (t)), (3, iv (sumZ (fun j => S.2 5 (f + j)) j)), (4, iv (k))] [] (mh G M B S) (0) (0) := by
    intro n5
    induction n5 with
    | zero =>
      intro k j hm hk hj
      exact absurd hm (by omega)
    | succ n5 ih5 =>
      intro k j hm5 hk hj
      refine x_iload dX1_usesOf_5 rfl ?_
      refine x_iload_n dX1_usesOf_7 rfl ?_
      refine x_icmp_ge 27 dX1_usesOf_8 rfl (by omega) (by omega) (fun c_8 => ?_) (fun c_8 => ?_)
      · refine x_iload_n dX1_usesOf_27 rfl ?_
        exact x_iret rfl ⟨ri (by rw [f_usesOf, show (t - f).toNat = j by omega]), rfl⟩ dX1_usesOf_28
      · refine x_iload_n dX1_usesOf_11 rfl ?_
        refine x_aload_n dX1_usesOf_12 rfl ?_
        refine m_get_uses hM dX1_usesOf_13 ?_
        refine x_iload dX1_usesOf_16 rfl ?_
        refine m_ald hM (N := 14) rfl (by omega) (by decide) dX1_usesOf_18 ?_
        refine x_ji (show S.2 5 k = S.2 5 (f + j) by rw [hk]) ?_
        refine x_iadd dX1_usesOf_19 ?_
        refine x_istore_n (lv' := [(0, _), (1, _), (2, _), (3, _), (4, _)]) dX1_usesOf_20 rfl (by decide) ?_
        refine x_iinc (lv' := [(0, _), (1, _), (2, _), (3, _), (4, _)]) dX1_usesOf_21 rfl rfl (by decide) ?_
        refine x_goto 5 dX1_usesOf_24 rfl ?_
        exact ih5 (k + 1) (j + 1) (by omega) (by omega) (by omega)
  exact L5 ((t - f).toNat + 1) (f) (0) (by omega) (by omega) (by omega)
theorem k_X1_usesOf {G : Gw} {X : Cx} {cc : ByteArray} {nL : Nat} {y : MethodName} {ret : Option FieldType} {dp : Nat} {P : Option Value → Hp → Prop} {mc ms pc : Nat} {lv : List (Nat × Value)} {st : List Value} {kc ks : Nat} {M : Mg} {B : Hp} {S : Ms} {f : Int} {t : Int} (hM : MOk M) (hd : decode cc pc = .ok (.invokevirtual 241, 3)) (hp0 : Wf S) (hp1 : 0 ≤ f ∧ f < t ∧ t ≤ S.1 2) (kk : V G X cc nL y ret dp P mc ms (pc + 3) lv (iv (f_usesOf S f t) :: st) (mh G M B (S)) kc ks) (hy : y.cls = RX1 := by rfl) (hdp : 0 + 1 ≤ dp := by decide) (hrs : (st.map fun v => v.category).sum ≤ 8 := by first | decide | (simp [Value.category, iv, jv]; done)) : V G X cc nL y ret dp P mc ms pc lv (iv (t) :: iv (f) :: .ref M.1 :: st) (mh G M B S) kc ks := by
  refine x_callV (ci := 1) (T := TX1) (N := 33) (As := [iv (f), iv (t)]) 2 (fun l => c_X1_usesOf l G M B S f t hM hp0 hp1) (by rw [hy]; exact q3072) q3074 qs101 q173 q3075 (by decide +kernel) hdp (by decide) (mh_o hM) rfl rfl rfl hrs hd (Nat.zero_le _) (Nat.zero_le _) (fun v h hv => ?_)
  obtain ⟨rfl, rfl⟩ := hv
  exact kk
abbrev q_X1_costAt (G : Gw) (M : Mg) (B : Hp) (S : Ms) (f : Int) (t : Int) : Option Value → Hp → Prop := fun v_ h_ => v_ = some (iv (S.2 26 (15 * f + t))) ∧ h_ = mh G M B (S)
set_option maxHeartbeats 4000000 in
theorem c_X1_costAt (l : Launch) (G : Gw) (M : Mg) (B : Hp) (S : Ms) (f : Int) (t : Int) (hM : MOk M) (hp0 : 0 ≤ f ∧ f < 15) (hp1 : 0 ≤ t ∧ t < 15) : Mt l G yX1_costAt cX1_costAt 3 (some .int) 0 [.ref (M.1), iv (f), iv (t)] (mh G M B S) (q_X1_costAt G M B S f t) (0) (0) := by
  refine Mt.of (lv := [(0, .ref (M.1)), (1, iv (f)), (2, iv (t))]) (by decide) (Nat.le_of_ble_eq_true rfl) rfl (fun X => ?_)
  refine x_aload_n dX1_costAt_0 rfl ?_
  refine m_get_costs hM dX1_costAt_1 ?_
  refine x_bipush dX1_costAt_4 ?_
  refine x_iload_n dX1_costAt_6 rfl ?_
  refine x_imul dX1_costAt_7 ?_
  refine x_iload_n dX1_costAt_8 rfl ?_
  refine x_iadd dX1_costAt_9 ?_
  refine m_ald hM (N := 225) rfl (by omega) (by decide) dX1_costAt_10 ?_
  exact x_iret rfl ⟨ri (by first | rfl | (simp_all; done) | (simp; omega) | (simp_all; omega)), rfl⟩ dX1_costAt_11
theorem k_X1_costAt {G : Gw} {X : Cx} {cc : ByteArray} {nL : Nat} {y : MethodName} {ret : Option FieldType} {dp : Nat} {P : Option Value → Hp → Prop} {mc ms pc : Nat} {lv : List (Nat × Value)} {st : List Value} {kc ks : Nat} {M : Mg} {B : Hp} {S : Ms} {f : Int} {t : Int} (hM : MOk M) (hd : decode cc pc = .ok (.invokevirtual 232, 3)) (hp0 : 0 ≤ f ∧ f < 15) (hp1 : 0 ≤ t ∧ t < 15) (kk : V G X cc nL y ret dp P mc ms (pc + 3) lv (iv (S.2 26 (15 * f + t)) :: st) (mh G M B (S)) kc ks) (hy : y.cls = RX1 := by rfl) (hdp : 0 + 1 ≤ dp := by decide) (hrs : (st.map fun v => v.category).sum ≤ 8 := by first | decide | (simp [Value.category, iv, jv]; done)) : V G X cc nL y ret dp P mc ms pc lv (iv (t) :: iv (f) :: .ref M.1 :: st) (mh G M B S) kc ks := by
  refine x_callV (ci := 1) (T := TX1) (N := 33) (As := [iv (f), iv (t)]) 2 (fun l => c_X1_costAt l G M B S f t hM hp0 hp1) (by rw [hy]; exact q3068) q3070 qs100 q173 q3071 (by decide +kernel) hdp (by decide) (mh_o hM) rfl rfl rfl hrs hd (Nat.zero_le _) (Nat.zero_le _) (fun v h hv => ?_)
  obtain ⟨rfl, rfl⟩ := hv
  exact kk
abbrev q_X1_partsAt (G : Gw) (M : Mg) (B : Hp) (S : Ms) (m : Int) (f : Int) (t : Int) : Option Value → Hp → Prop := fun v_ h_ => v_ = some (iv (S.2 27 (225 * m + 15 * f + t))) ∧ h_ = mh G M B (S)
set_option maxHeartbeats 4000000 in
theorem c_X1_partsAt (l : Launch) (G : Gw) (M : Mg) (B : Hp) (S : Ms) (m : Int) (f : Int) (t : Int) (hM : MOk M) (hp0 : 0 ≤ m ∧ m < 5) (hp1 : 0 ≤ f ∧ f < 15) (hp2 : 0 ≤ t ∧ t < 15) : Mt l G yX1_partsAt cX1_partsAt 4 (some .int) 0 [.ref (M.1), iv (m), iv (f), iv (t)] (mh G M B S) (q_X1_partsAt G M B S m f t) (0) (0) := by
  refine Mt.of (lv := [(0, .ref (M.1)), (1, iv (m)), (2, iv (f)), (3, iv (t))]) (by decide) (Nat.le_of_ble_eq_true rfl) rfl (fun X => ?_)
  refine x_aload_n dX1_partsAt_0 rfl ?_
  refine m_get_parts hM dX1_partsAt_1 ?_
  refine x_sipush dX1_partsAt_4 ?_
  refine x_iload_n dX1_partsAt_7 rfl ?_
  refine x_imul dX1_partsAt_8 ?_
  refine x_bipush dX1_partsAt_9 ?_
  refine x_iload_n dX1_partsAt_11 rfl ?_
  refine x_imul dX1_partsAt_12 ?_
  refine x_iadd dX1_partsAt_13 ?_
  refine x_iload_n dX1_partsAt_14 rfl ?_
  refine x_iadd dX1_partsAt_15 ?_
  refine m_ald hM (N := 1125) rfl (by omega) (by decide) dX1_partsAt_16 ?_
  exact x_iret rfl ⟨ri (by first | rfl | (simp_all; done) | (simp; omega) | (simp_all; omega)), rfl⟩ dX1_partsAt_17
theorem k_X1_partsAt {G : Gw} {X : Cx} {cc : ByteArray} {nL : Nat} {y : MethodName} {ret : Option FieldType} {dp : Nat} {P : Option Value → Hp → Prop} {mc ms pc : Nat} {lv : List (Nat × Value)} {st : List Value} {kc ks : Nat} {M : Mg} {B : Hp} {S : Ms} {m : Int} {f : Int} {t : Int} (hM : MOk M) (hd : decode cc pc = .ok (.invokevirtual 228, 3)) (hp0 : 0 ≤ m ∧ m < 5) (hp1 : 0 ≤ f ∧ f < 15) (hp2 : 0 ≤ t ∧ t < 15) (kk : V G X cc nL y ret dp P mc ms (pc + 3) lv (iv (S.2 27 (225 * m + 15 * f + t)) :: st) (mh G M B (S)) kc ks) (hy : y.cls = RX1 := by rfl) (hdp : 0 + 1 ≤ dp := by decide) (hrs : (st.map fun v => v.category).sum ≤ 8 := by first | decide | (simp [Value.category, iv, jv]; done)) : V G X cc nL y ret dp P mc ms pc lv (iv (t) :: iv (f) :: iv (m) :: .ref M.1 :: st) (mh G M B S) kc ks := by
  refine x_callV (ci := 1) (T := TX1) (N := 33) (As := [iv (m), iv (f), iv (t)]) 3 (fun l => c_X1_partsAt l G M B S m f t hM hp0 hp1 hp2) (by rw [hy]; exact q3064) q3066 qs99 q173 q3067 (by decide +kernel) hdp (by decide) (mh_o hM) rfl rfl rfl hrs hd (Nat.zero_le _) (Nat.zero_le _) (fun v h hv => ?_)
  obtain ⟨rfl, rfl⟩ := hv
  exact kk
abbrev q_X1_bestParts (G : Gw) (M : Mg) (B : Hp) (S : Ms) (m : Int) (f : Int) (t : Int) : Option Value → Hp → Prop := fun v_ h_ => v_ = some (iv (f_bestP S m f t)) ∧ h_ = mh G M B (S)
set_option maxHeartbeats 4000000 in
theorem c_X1_bestParts (l : Launch) (G : Gw) (M : Mg) (B : Hp) (S : Ms) (m : Int) (f : Int) (t : Int) (hM : MOk M) (hp0 : 0 ≤ f ∧ f < t ∧ t < 15) (hp1 : 2 ≤ m ∧ m ≤ 4) (hp2 : ∀ c : Int, f < c → c < t → bnd (S.2 26 (15 * f + c)) ∧ bnd (S.2 27 (225 * (m - 1) + 15 * c + t))) : Mt l G yX1_bestParts cX1_bestParts 8 (some .int) 1 [.ref (M.1), iv (m), iv (f), iv (t)] (mh G M B S) (q_X1_bestParts G M B S m f t) (0) (0) := by
  refine Mt.of (lv := [(0, .ref (M.1)), (1, iv (m)), (2, iv (f)), (3, iv (t))]) (by decide) (Nat.le_of_ble_eq_true rfl) rfl (fun X => ?_)
  refine x_ldc 268435456 q3039 dX1_bestParts_0 rfl ?_
  refine x_istore (lv' := [(0, _), (1, _), (2, _), (3, _), (4, _)]) dX1_bestParts_2 rfl (by decide) ?_
  refine x_iload_n dX1_bestParts_4 rfl ?_
  refine x_iconst dX1_bestParts_5 ?_
  refine x_iadd dX1_bestParts_6 ?_
  refine x_istore (lv' := [(0, _), (1, _), (2, _), (3, _), (4, _), (5, _)]) dX1_bestParts_7 rfl (by decide) ?_
  have L9 : ∀ (n9 : Nat) (c : Int) (j : Nat), (t - c) < (n9 : Int) → c = f + 1 + j → c ≤ t → V G X cX1_bestParts 8 yX1_bestParts (some .int) 1 (q_X1_bestParts G M B S m f t) (0) (0) 9 [(0, .ref (M.1)), (1, iv (m)), (2, iv (f)), (3, iv (t)), (4, iv (minZ 268435456 (fun j => f_now S m f t (f + 1 + j)) j)), (5, iv (c))] [] (mh G M B S) (0) (0) := by
    intro n9
    induction n9 with
    | zero =>
      intro c j hm hc hj
      exact absurd hm (by omega)
    | succ n9 ih9 =>
      intro c j hm9 hc hj
      refine x_iload dX1_bestParts_9 rfl ?_
      refine x_iload_n dX1_bestParts_11 rfl ?_
      refine x_icmp_ge 73 dX1_bestParts_12 rfl (by omega) (by omega) (fun c_12 => ?_) (fun c_12 => ?_)
      · refine x_iload dX1_bestParts_73 rfl ?_
        exact x_iret rfl ⟨ri (by rw [f_bestP, show (t - f - 1).toNat = j by omega]), rfl⟩ dX1_bestParts_75
      · obtain ⟨b1, b2⟩ := hp2 c (by omega) (by omega)
        unfold bnd at b1 b2
        have b3 := minZ_R (m := 268435456) (a := 0) (f := fun j => f_now S m f t (f + 1 + j)) (n := j) (fun i h0 h1 => by have := hp2 (f + 1 + i) (by omega) (by omega); unfold bnd at this; show 0 ≤ f_now S m f t (f + 1 + i); unfold f_now; split <;> omega) (by decide)
        have b4 : 0 ≤ f_now S m f t c ∧ f_now S m f t c ≤ 536880000 := by unfold f_now; split <;> omega
        refine x_aload_n dX1_bestParts_15 rfl ?_
        refine x_iload_n dX1_bestParts_16 rfl ?_
        refine x_iconst dX1_bestParts_17 ?_
        refine x_isub dX1_bestParts_18 ?_
        refine x_iload dX1_bestParts_19 rfl ?_
        refine x_iload_n dX1_bestParts_21 rfl ?_
        refine k_X1_partsAt (m := m - 1) (f := c) (t := t) hM dX1_bestParts_22 (by omega) (by omega) (by omega) ?_
        refine x_istore (lv' := [(0, _), (1, _), (2, _), (3, _), (4, _), (5, _), (6, _)]) dX1_bestParts_25 rfl (by decide) ?_
        have J49 : V G X cX1_bestParts 8 yX1_bestParts (some .int) 1 (q_X1_bestParts G M B S m f t) (0) (0) 49 [(0, .ref (M.1)), (1, iv (m)), (2, iv (f)), (3, iv (t)), (4, iv (minZ 268435456 (fun j => f_now S m f t (f + 1 + j)) j)), (5, iv (c)), (6, iv (S.2 27 (225 * (m - 1) + 15 * c + t)))] [iv (f_now S m f t c)] (mh G M B S) (0) (0) := by
          refine x_istore (lv' := [(0, _), (1, _), (2, _), (3, _), (4, _), (5, _), (6, _), (7, _)]) dX1_bestParts_49 rfl (by decide) ?_
          have J65 : V G X cX1_bestParts 8 yX1_bestParts (some .int) 1 (q_X1_bestParts G M B S m f t) (0) (0) 65 [(0, .ref (M.1)), (1, iv (m)), (2, iv (f)), (3, iv (t)), (4, iv (minZ 268435456 (fun j => f_now S m f t (f + 1 + j)) j)), (5, iv (c)), (6, iv (S.2 27 (225 * (m - 1) + 15 * c + t))), (7, iv (f_now S m f t c))] [iv (minZ 268435456 (fun j => f_now S m f t (f + 1 + j)) (j + 1))] (mh G M B S) (0) (0) := by
            refine x_istore (lv' := [(0, _), (1, _), (2, _), (3, _), (4, _), (5, _), (6, _), (7, _)]) dX1_bestParts_65 rfl (by decide) ?_
            refine x_iinc (lv' := [(0, _), (1, _), (2, _), (3, _), (4, _), (5, _), (6, _), (7, _)]) dX1_bestParts_67 rfl rfl (by decide) ?_
            refine x_goto 9 dX1_bestParts_70 rfl ?_
            refine x_lvp [0, 1, 2, 3, 4, 5] (lv' := [(0, _), (1, _), (2, _), (3, _), (4, _), (5, _)]) rfl ?_
            exact ih9 (c + 1) (j + 1) (by omega) (by omega) (by omega)
          refine x_iload dX1_bestParts_51 rfl ?_
          refine x_iload dX1_bestParts_53 rfl ?_
          refine x_icmp_ge 63 dX1_bestParts_55 rfl (by omega) (by omega) (fun c_55 => ?_) (fun c_55 => ?_)
          · refine x_iload dX1_bestParts_63 rfl ?_
            exact x_ji (by rw [minZ, ← hc]; simp_all; try omega) J65
          · refine x_iload dX1_bestParts_58 rfl ?_
            refine x_goto 65 dX1_bestParts_60 rfl ?_
            exact x_ji (by rw [minZ, ← hc]; simp_all; try omega) J65
        refine x_iload dX1_bestParts_27 rfl ?_
        refine x_ldc 268435456 q3039 dX1_bestParts_29 rfl ?_
        refine x_icmp_ne 39 dX1_bestParts_31 rfl (by omega) (by omega) (fun c_31 => ?_) (fun c_31 => ?_)
        · refine x_aload_n dX1_bestParts_39 rfl ?_
          refine x_iload_n dX1_bestParts_40 rfl ?_
          refine x_iload dX1_bestParts_41 rfl ?_
          refine k_X1_costAt (f := f) (t := c) hM dX1_bestParts_43 (by omega) (by omega) ?_
          refine x_iload dX1_bestParts_46 rfl ?_
          refine x_iadd dX1_bestParts_48 ?_
          exact x_ji (by unfold f_now; simp_all) J49
        · refine x_ldc 268435456 q3039 dX1_bestParts_34 rfl ?_
          refine x_goto 49 dX1_bestParts_36 rfl ?_
          exact x_ji (by unfold f_now; simp_all) J49
  exact L9 ((t - f).toNat + 1) (_) (0) (by omega) (by omega) (by omega)
theorem k_X1_bestParts {G : Gw} {X : Cx} {cc : ByteArray} {nL : Nat} {y : MethodName} {ret : Option FieldType} {dp : Nat} {P : Option Value → Hp → Prop} {mc ms pc : Nat} {lv : List (Nat × Value)} {st : List Value} {kc ks : Nat} {M : Mg} {B : Hp} {S : Ms} {m : Int} {f : Int} {t : Int} (hM : MOk M) (hd : decode cc pc = .ok (.invokevirtual 238, 3)) (hp0 : 0 ≤ f ∧ f < t ∧ t < 15) (hp1 : 2 ≤ m ∧ m ≤ 4) (hp2 : ∀ c : Int, f < c → c < t → bnd (S.2 26 (15 * f + c)) ∧ bnd (S.2 27 (225 * (m - 1) + 15 * c + t))) (kk : V G X cc nL y ret dp P mc ms (pc + 3) lv (iv (f_bestP S m f t) :: st) (mh G M B (S)) kc ks) (hy : y.cls = RX1 := by rfl) (hdp : 1 + 1 ≤ dp := by decide) (hrs : (st.map fun v => v.category).sum ≤ 8 := by first | decide | (simp [Value.category, iv, jv]; done)) : V G X cc nL y ret dp P mc ms pc lv (iv (t) :: iv (f) :: iv (m) :: .ref M.1 :: st) (mh G M B S) kc ks := by
  refine x_callV (ci := 1) (T := TX1) (N := 33) (As := [iv (m), iv (f), iv (t)]) 3 (fun l => c_X1_bestParts l G M B S m f t hM hp0 hp1 hp2) (by rw [hy]; exact q3060) q3062 qs98 q173 q3063 (by decide +kernel) hdp (by decide) (mh_o hM) rfl rfl rfl hrs hd (Nat.zero_le _) (Nat.zero_le _) (fun v h hv => ?_)
  obtain ⟨rfl, rfl⟩ := hv
  exact kk
abbrev q_X1_layStretch (G : Gw) (M : Mg) (B : Hp) (S : Ms) (b : Int) (f : Int) (t : Int) : Option Value → Hp → Prop := fun v_ h_ => v_ = none ∧ h_ = mh G M B (s_str S b f t)
set_option maxHeartbeats 4000000 in
theorem c_X1_layStretch (l : Launch) (G : Gw) (M : Mg) (B : Hp) (S : Ms) (b : Int) (f : Int) (t : Int) (hM : MOk M) (hp0 : Wf S) (hp1 : 0 ≤ f ∧ f < t ∧ t ≤ S.1 2) (hp2 : 2 ≤ b ∧ b ≤ 4) (hp3 : ∀ m c : Int, 1 ≤ m → m < b → f < c → c < t → bnd (S.2 26 (15 * f + c)) ∧ bnd (S.2 27 (225 * m + 15 * c + t))) : Mt l G yX1_layStretch cX1_layStretch 7 none 2 [.ref (M.1), iv (b), iv (f), iv (t)] (mh G M B S) (q_X1_layStretch G M B S b f t) (0) (0) := by
  refine Mt.of (lv := [(0, .ref (M.1)), (1, iv (b)), (2, iv (f)), (3, iv (t))]) (by decide) (Nat.le_of_ble_eq_true rfl) rfl (fun X => ?_)
  have h2 := hp0.nm
  have hb : ∀ m : Int, 2 ≤ m → m ≤ b → ∀ c : Int, f < c → c < t → bnd (S.2 26 (15 * f + c)) ∧ bnd (S.2 27 (225 * (m - 1) + 15 * c + t)) := fun m h0 h1 c h2 h3 => hp3 (m - 1) c (by omega) (by omega) h2 h3
  refine x_ldc 268435456 q3039 dX1_layStretch_0 rfl ?_
  refine x_istore (lv' := [(0, _), (1, _), (2, _), (3, _), (4, _)]) dX1_layStretch_2 rfl (by decide) ?_
  refine x_iconst dX1_layStretch_4 ?_
  refine x_istore (lv' := [(0, _), (1, _), (2, _), (3, _), (4, _), (5, _)]) dX1_layStretch_5 rfl (by decide) ?_
  have L7 : ∀ (n7 : Nat) (m : Int) (j : Nat), (b + 1 - m) < (n7 : Int) → m = 2 + j → m ≤ b + 1 → V G X cX1_layStretch 7 yX1_layStretch none 2 (q_X1_layStretch G M B S b f t) (0) (0) 7 [(0, .ref (M.1)), (1, iv (b)), (2, iv (f)), (3, iv (t)), (4, iv (minZ 268435456 (fun j => f_bestP S (2 + j) f t) j)), (5, iv (m))] [] (mh G M B (s_st S f t m)) (0) (0) := by
    intro n7
    induction n7 with
    | zero =>
      intro m j hm hm hj
      exact absurd hm (by omega)
    | succ n7 ih7 =>
      intro m j hm7 hm hj
      have b3 := leastP_R (S := S) (b := b) (f := f) (t := t) (fun m h0 h1 => (bestP_R (hb m h0 h1)).1) j (by omega)
      refine x_iload dX1_layStretch_7 rfl ?_
      refine x_iload_n dX1_layStretch_9 rfl ?_
      refine x_icmp_gt 65 dX1_layStretch_10 rfl (by omega) (by omega) (fun c_10 => ?_) (fun c_10 => ?_)
      · refine x_aload_n dX1_layStretch_65 rfl ?_
        refine m_get_costs hM dX1_layStretch_66 ?_
        refine x_bipush dX1_layStretch_69 ?_
        refine x_iload_n dX1_layStretch_71 rfl ?_
        refine x_imul dX1_layStretch_72 ?_
        refine x_iload_n dX1_layStretch_73 rfl ?_
        refine x_iadd dX1_layStretch_74 ?_
        have J95 : V G X cX1_layStretch 7 yX1_layStretch none 2 (q_X1_layStretch G M B S b f t) (0) (0) 95 [(0, .ref (M.1)), (1, iv (b)), (2, iv (f)), (3, iv (t)), (4, iv (minZ 268435456 (fun j => f_bestP S (2 + j) f t) j)), (5, iv (m))] [iv (f_costE S b f t), iv ((15 * f) + t), .ref (M.2.1 26)] (mh G M B (s_st S f t m)) (0) (0) := by
          refine m_ast hM (N := 225) rfl (by omega) (by decide) dX1_layStretch_95 ?_
          refine x_aload_n dX1_layStretch_96 rfl ?_
          refine m_get_parts hM dX1_layStretch_97 ?_
          refine x_sipush dX1_layStretch_100 ?_
          refine x_bipush dX1_layStretch_103 ?_
          refine x_iload_n dX1_layStretch_105 rfl ?_
          refine x_imul dX1_layStretch_106 ?_
          refine x_iadd dX1_layStretch_107 ?_
          refine x_iload_n dX1_layStretch_108 rfl ?_
          refine x_iadd dX1_layStretch_109 ?_
          refine x_aload_n dX1_layStretch_110 rfl ?_
          refine x_iload_n dX1_layStretch_111 rfl ?_
          refine x_iload_n dX1_layStretch_112 rfl ?_
          refine k_X1_costAt (f := f) (t := t) hM dX1_layStretch_113 (by omega) (by omega) ?_
          refine m_ast hM (N := 1125) rfl (by omega) (by decide) dX1_layStretch_116 ?_
          exact x_vret rfl ⟨rfl, congrArg (mh G M B) (by unfold s_str; rw [show b + 1 = m by omega, sa_s])⟩ dX1_layStretch_117
        refine x_iload_n dX1_layStretch_75 rfl ?_
        refine x_iload_n dX1_layStretch_76 rfl ?_
        refine x_isub dX1_layStretch_77 ?_
        refine x_iconst dX1_layStretch_78 ?_
        refine x_icmp_ne 86 dX1_layStretch_79 rfl (by omega) (by omega) (fun c_79 => ?_) (fun c_79 => ?_)
        · refine x_iload dX1_layStretch_86 rfl ?_
          refine x_aload_n dX1_layStretch_88 rfl ?_
          refine x_iload_n dX1_layStretch_89 rfl ?_
          refine x_iload_n dX1_layStretch_90 rfl ?_
          refine k_X1_usesOf (f := f) (t := t) hM dX1_layStretch_91 (hp0) (hp1) ?_
          refine x_iadd dX1_layStretch_94 ?_
          exact x_ji (by unfold f_costE f_leastP; rw [show (b - 1).toNat = j by omega]; first | (simp_all; done) | (simp_all; rfl)) J95
        · refine x_iconst dX1_layStretch_82 ?_
          refine x_goto 95 dX1_layStretch_83 rfl ?_
          exact x_ji (by unfold f_costE f_leastP; rw [show (b - 1).toNat = j by omega]; first | (simp_all; done) | (simp_all; rfl)) J95
      · have b4 := bestP_R (hb m (by omega) (by omega))
        refine x_aload_n dX1_layStretch_13 rfl ?_
        refine x_iload dX1_layStretch_14 rfl ?_
        refine x_iload_n dX1_layStretch_16 rfl ?_
        refine x_iload_n dX1_layStretch_17 rfl ?_
        refine k_X1_bestParts (m := m) (f := f) (t := t) hM dX1_layStretch_18 (by omega) (by omega) (fun c h0 h1 => by rw [st_26, st_27 (by omega)]; exact hb m (by omega) (by omega) c h0 h1) ?_
        refine x_ji (show f_bestP (s_st S f t m) m f t = f_bestP S m f t from st_bestP (by omega)) ?_
        refine x_istore (lv' := [(0, _), (1, _), (2, _), (3, _), (4, _), (5, _), (6, _)]) dX1_layStretch_21 rfl (by decide) ?_
        refine x_aload_n dX1_layStretch_23 rfl ?_
        refine m_get_parts hM dX1_layStretch_24 ?_
        refine x_sipush dX1_layStretch_27 ?_
        refine x_iload dX1_layStretch_30 rfl ?_
        refine x_imul dX1_layStretch_32 ?_
        refine x_bipush dX1_layStretch_33 ?_
        refine x_iload_n dX1_layStretch_35 rfl ?_
        refine x_imul dX1_layStretch_36 ?_
        refine x_iadd dX1_layStretch_37 ?_
        refine x_iload_n dX1_layStretch_38 rfl ?_
        refine x_iadd dX1_layStretch_39 ?_
        refine x_iload dX1_layStretch_40 rfl ?_
        refine m_ast hM (N := 1125) rfl (by omega) (by decide) dX1_layStretch_42 ?_
        refine x_h (congrArg (mh G M B) (show sa (s_st S f t m) 27 (((225 * m) + (15 * f)) + t) (f_bestP S m f t) = s_st S f t (m + 1) from st_s S (by omega))) ?_
        have J57 : V G X cX1_layStretch 7 yX1_layStretch none 2 (q_X1_layStretch G M B S b f t) (0) (0) 57 [(0, .ref (M.1)), (1, iv (b)), (2, iv (f)), (3, iv (t)), (4, iv (minZ 268435456 (fun j => f_bestP S (2 + j) f t) j)), (5, iv (m)), (6, iv (f_bestP S m f t))] [iv (minZ 268435456 (fun j => f_bestP S (2 + j) f t) (j + 1))] (mh G M B (s_st S f t (m + 1))) (0) (0) := by
          refine x_istore (lv' := [(0, _), (1, _), (2, _), (3, _), (4, _), (5, _), (6, _)]) dX1_layStretch_57 rfl (by decide) ?_
          refine x_iinc (lv' := [(0, _), (1, _), (2, _), (3, _), (4, _), (5, _), (6, _)]) dX1_layStretch_59 rfl rfl (by decide) ?_
          refine x_goto 7 dX1_layStretch_62 rfl ?_
          refine x_lvp [0, 1, 2, 3, 4, 5] (lv' := [(0, _), (1, _), (2, _), (3, _), (4, _), (5, _)]) rfl ?_
          exact ih7 (m + 1) (j + 1) (by omega) (by omega) (by omega)
        refine x_iload dX1_layStretch_43 rfl ?_
        refine x_iload dX1_layStretch_45 rfl ?_
        refine x_icmp_ge 55 dX1_layStretch_47 rfl (by omega) (by omega) (fun c_47 => ?_) (fun c_47 => ?_)
        · refine x_iload dX1_layStretch_55 rfl ?_
          exact x_ji (by rw [minZ, ← hm]; simp_all; try omega) J57
        · refine x_iload dX1_layStretch_50 rfl ?_
          refine x_goto 57 dX1_layStretch_52 rfl ?_
          exact x_ji (by rw [minZ, ← hm]; simp_all; try omega) J57
  refine x_h (congrArg (mh G M B) (st_0 S f t)) ?_
  exact L7 (4) (2) (0) (by omega) (by omega) (by omega)
theorem k_X1_layStretch {G : Gw} {X : Cx} {cc : ByteArray} {nL : Nat} {y : MethodName} {ret : Option FieldType} {dp : Nat} {P : Option Value → Hp → Prop} {mc ms pc : Nat} {lv : List (Nat × Value)} {st : List Value} {kc ks : Nat} {M : Mg} {B : Hp} {S : Ms} {b : Int} {f : Int} {t : Int} (hM : MOk M) (hd : decode cc pc = .ok (.invokevirtual 235, 3)) (hp0 : Wf S) (hp1 : 0 ≤ f ∧ f < t ∧ t ≤ S.1 2) (hp2 : 2 ≤ b ∧ b ≤ 4) (hp3 : ∀ m c : Int, 1 ≤ m → m < b → f < c → c < t → bnd (S.2 26 (15 * f + c)) ∧ bnd (S.2 27 (225 * m + 15 * c + t))) (kk : V G X cc nL y ret dp P mc ms (pc + 3) lv (st) (mh G M B (s_str S b f t)) kc ks) (hy : y.cls = RX1 := by rfl) (hdp : 2 + 1 ≤ dp := by decide) (hrs : (st.map fun v => v.category).sum ≤ 8 := by first | decide | (simp [Value.category, iv, jv]; done)) : V G X cc nL y ret dp P mc ms pc lv (iv (t) :: iv (f) :: iv (b) :: .ref M.1 :: st) (mh G M B S) kc ks := by
  refine x_callV (ci := 1) (T := TX1) (N := 33) (As := [iv (b), iv (f), iv (t)]) 3 (fun l => c_X1_layStretch l G M B S b f t hM hp0 hp1 hp2 hp3) (by rw [hy]; exact q3056) q3058 qs97 q173 q3059 (by decide +kernel) hdp (by decide) (mh_o hM) rfl rfl rfl hrs hd (Nat.zero_le _) (Nat.zero_le _) (fun v h hv => ?_)
  obtain ⟨rfl, rfl⟩ := hv
  exact kk
