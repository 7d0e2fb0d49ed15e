/-! MODEL 1: names and their codes -/
set_option maxRecDepth 100000
abbrev q_X1_within (G : Gw) (M : Mg) (B : Hp) (S : Ms) (v : Int) (lo : Int) (hi : Int) : Option Value → Hp → Prop := fun v_ h_ => v_ = some (iv (bI (decide (lo ≤ v) && decide (v ≤ hi)))) ∧ h_ = mh G M B (S)
set_option maxHeartbeats 4000000 in
theorem c_X1_within (l : Launch) (G : Gw) (M : Mg) (B : Hp) (S : Ms) (v : Int) (lo : Int) (hi : Int) (hM : MOk M) (hp0 : -2147483648 ≤ v ∧ v ≤ 2147483647) (hp1 : -2147483648 ≤ lo ∧ lo ≤ 2147483647) (hp2 : -2147483648 ≤ hi ∧ hi ≤ 2147483647) : Mt l G yX1_within cX1_within 3 (some .boolean) 0 [iv (v), iv (lo), iv (hi)] (mh G M B S) (q_X1_within G M B S v lo hi) (0) (0) := by
  refine Mt.of (lv := [(0, iv (v)), (1, iv (lo)), (2, iv (hi))]) (by decide) (Nat.le_of_ble_eq_true rfl) rfl (fun X => ?_)
  refine x_iload_n dX1_within_0 rfl ?_
  refine x_iload_n dX1_within_1 rfl ?_
  refine x_icmp_lt 14 dX1_within_2 rfl (by omega) (by omega) (fun c_2 => ?_) (fun c_2 => ?_)
  · refine x_iconst dX1_within_14 ?_
    exact x_zret rfl (by decide) ⟨rb0 (by first | rfl | (simp_all; done) | (simp; omega) | (simp_all; omega)), rfl⟩ dX1_within_15
  · refine x_iload_n dX1_within_5 rfl ?_
    refine x_iload_n dX1_within_6 rfl ?_
    refine x_icmp_gt 14 dX1_within_7 rfl (by omega) (by omega) (fun c_7 => ?_) (fun c_7 => ?_)
    · refine x_iconst dX1_within_14 ?_
      exact x_zret rfl (by decide) ⟨rb0 (by first | rfl | (simp_all; done) | (simp; omega) | (simp_all; omega)), rfl⟩ dX1_within_15
    · refine x_iconst dX1_within_10 ?_
      refine x_goto 15 dX1_within_11 rfl ?_
      exact x_zret rfl (by decide) ⟨rb1 (by first | rfl | (simp_all; done) | (simp; omega) | (simp_all; omega)), rfl⟩ dX1_within_15
theorem k_X1_within {G : Gw} {X : Cx} {cc : ByteArray} {nL : Nat} {y : MethodName} {ret : Option FieldType} {dp : Nat} {P : Option Value → Hp → Prop} {mc ms pc : Nat} {lv : List (Nat × Value)} {st : List Value} {kc ks : Nat} {M : Mg} {B : Hp} {S : Ms} {v : Int} {lo : Int} {hi : Int} (hM : MOk M) (hd : decode cc pc = .ok (.invokestatic 73, 3)) (hp0 : -2147483648 ≤ v ∧ v ≤ 2147483647) (hp1 : -2147483648 ≤ lo ∧ lo ≤ 2147483647) (hp2 : -2147483648 ≤ hi ∧ hi ≤ 2147483647) (kk : V G X cc nL y ret dp P mc ms (pc + 3) lv (iv (bI (decide (lo ≤ v) && decide (v ≤ hi))) :: st) (mh G M B (S)) kc ks) (hy : y.cls = RX1 := by rfl) (hdp : 0 + 1 ≤ dp := by decide) (hrs : (st.map fun v => v.category).sum ≤ 8 := by first | decide | (simp [Value.category, iv, jv]; done)) : V G X cc nL y ret dp P mc ms pc lv (iv (hi) :: iv (lo) :: iv (v) :: st) (mh G M B S) kc ks := by
  refine x_callS (As := [iv (v), iv (lo), iv (hi)]) 3 (fun l => c_X1_within l G M B S v lo hi hM hp0 hp1 hp2) (by rw [hy]; exact q2932) q2933 q173 q2934 (by decide +kernel) hdp (by decide) rfl rfl hrs hd (Nat.zero_le _) (Nat.zero_le _) (fun v h hv => ?_)
  obtain ⟨rfl, rfl⟩ := hv
  exact kk
abbrev q_X1_isName (G : Gw) (M : Mg) (B : Hp) (S : Ms) (a : Int) : Option Value → Hp → Prop := fun v_ h_ => v_ = some (iv (bI (decide (0 ≤ a) && decide (a ≤ S.1 2 - 1)))) ∧ h_ = mh G M B (S)
set_option maxHeartbeats 4000000 in
theorem c_X1_isName (l : Launch) (G : Gw) (M : Mg) (B : Hp) (S : Ms) (a : Int) (hM : MOk M) (hp0 : Wf S) (hp1 : -2147483648 ≤ a ∧ a ≤ 2147483647) : Mt l G yX1_isName cX1_isName 2 (some .boolean) 1 [.ref (M.1), iv (a)] (mh G M B S) (q_X1_isName G M B S a) (0) (0) := by
  refine Mt.of (lv := [(0, .ref (M.1)), (1, iv (a))]) (by decide) (Nat.le_of_ble_eq_true rfl) rfl (fun X => ?_)
  have h2 := hp0.nm
  refine x_iload_n dX1_isName_0 rfl ?_
  refine x_iconst dX1_isName_1 ?_
  refine x_aload_n dX1_isName_2 rfl ?_
  refine m_get_names hM dX1_isName_3 ?_
  refine x_iconst dX1_isName_6 ?_
  refine x_isub dX1_isName_7 ?_
  refine k_X1_within (v := a) (lo := 0) (hi := (S.1 2) - 1) hM dX1_isName_8 (by first | assumption | omega) (by first | assumption | omega) (by first | assumption | omega) ?_
  exact x_zret rfl (nar_b _) ⟨congrArg (fun b => some (iv (bI b))) (by first | rfl | (simp_all; done) | (simp; omega) | (simp_all; omega)), rfl⟩ dX1_isName_11
theorem k_X1_isName {G : Gw} {X : Cx} {cc : ByteArray} {nL : Nat} {y : MethodName} {ret : Option FieldType} {dp : Nat} {P : Option Value → Hp → Prop} {mc ms pc : Nat} {lv : List (Nat × Value)} {st : List Value} {kc ks : Nat} {M : Mg} {B : Hp} {S : Ms} {a : Int} (hM : MOk M) (hd : decode cc pc = .ok (.invokevirtual 139, 3)) (hp0 : Wf S) (hp1 : -2147483648 ≤ a ∧ a ≤ 2147483647) (kk : V G X cc nL y ret dp P mc ms (pc + 3) lv (iv (bI (decide (0 ≤ a) && decide (a ≤ S.1 2 - 1))) :: st) (mh G M B (S)) kc ks) (hy : y.cls = RX1 := by rfl) (hdp : 1 + 1 ≤ dp := by decide) (hrs : (st.map fun v => v.category).sum ≤ 8 := by first | decide | (simp [Value.category, iv, jv]; done)) : V G X cc nL y ret dp P mc ms pc lv (iv (a) :: .ref M.1 :: st) (mh G M B S) kc ks := by
  refine x_callV (ci := 1) (T := TX1) (N := 33) (As := [iv (a)]) 1 (fun l => c_X1_isName l G M B S a hM hp0 hp1) (by rw [hy]; exact q2999) q3001 qs85 q173 q3002 (by decide +kernel) hdp (by decide) (mh_o hM) rfl rfl rfl hrs hd (Nat.zero_le _) (Nat.zero_le _) (fun v h hv => ?_)
  obtain ⟨rfl, rfl⟩ := hv
  exact kk
abbrev q_X1_codeAt (G : Gw) (M : Mg) (B : Hp) (S : Ms) (a : Int) (i : Int) : Option Value → Hp → Prop := fun v_ h_ => v_ = some (iv (f_code S a i)) ∧ h_ = mh G M B (S)
set_option maxHeartbeats 4000000 in
theorem c_X1_codeAt (l : Launch) (G : Gw) (M : Mg) (B : Hp) (S : Ms) (a : Int) (i : Int) (hM : MOk M) (hp0 : Wf S) (hp1 : 0 ≤ a ∧ a < S.1 2) (hp2 : 0 ≤ i ∧ i < S.2 3 a) : Mt l G yX1_codeAt cX1_codeAt 3 (some .int) 0 [.ref (M.1), iv (a), iv (i)] (mh G M B S) (q_X1_codeAt G M B S a i) (0) (0) := by
  refine Mt.of (lv := [(0, .ref (M.1)), (1, iv (a)), (2, iv (i))]) (by decide) (Nat.le_of_ble_eq_true rfl) rfl (fun X => ?_)
  have h2 := hp0.nm
  have h3 := hp0.len hp1
  have h4 := hp0.let hp1 hp2
  refine x_aload_n dX1_codeAt_0 rfl ?_
  refine m_get_digitOf hM dX1_codeAt_1 ?_
  refine x_aload_n dX1_codeAt_4 rfl ?_
  refine m_get_letters hM dX1_codeAt_5 ?_
  refine x_bipush dX1_codeAt_8 ?_
  refine x_iload_n dX1_codeAt_10 rfl ?_
  refine x_imul dX1_codeAt_11 ?_
  refine x_iload_n dX1_codeAt_12 rfl ?_
  refine x_iadd dX1_codeAt_13 ?_
  refine m_ald hM (N := 112) rfl (by omega) (by decide) dX1_codeAt_14 ?_
  refine x_bipush dX1_codeAt_15 ?_
  refine x_isub dX1_codeAt_17 ?_
  refine m_ald hM (N := 26) rfl (by omega) (by decide) dX1_codeAt_18 ?_
  exact x_iret rfl ⟨ri (by first | rfl | (simp_all; done) | (simp; omega) | (simp_all; omega)), rfl⟩ dX1_codeAt_19
theorem k_X1_codeAt {G : Gw} {X : Cx} {cc : ByteArray} {nL : Nat} {y : MethodName} {ret : Option FieldType} {dp : Nat} {P : Option Value → Hp → Prop} {mc ms pc : Nat} {lv : List (Nat × Value)} {st : List Value} {kc ks : Nat} {M : Mg} {B : Hp} {S : Ms} {a : Int} {i : Int} (hM : MOk M) (hd : decode cc pc = .ok (.invokevirtual 145, 3)) (hp0 : Wf S) (hp1 : 0 ≤ a ∧ a < S.1 2) (hp2 : 0 ≤ i ∧ i < S.2 3 a) (kk : V G X cc nL y ret dp P mc ms (pc + 3) lv (iv (f_code S a i) :: st) (mh G M B (S)) kc ks) (hy : y.cls = RX1 := by rfl) (hdp : 0 + 1 ≤ dp := by decide) (hrs : (st.map fun v => v.category).sum ≤ 8 := by first | decide | (simp [Value.category, iv, jv]; done)) : V G X cc nL y ret dp P mc ms pc lv (iv (i) :: iv (a) :: .ref M.1 :: st) (mh G M B S) kc ks := by
  refine x_callV (ci := 1) (T := TX1) (N := 33) (As := [iv (a), iv (i)]) 2 (fun l => c_X1_codeAt l G M B S a i hM hp0 hp1 hp2) (by rw [hy]; exact q3027) q3029 qs90 q173 q3030 (by decide +kernel) hdp (by decide) (mh_o hM) rfl rfl rfl hrs hd (Nat.zero_le _) (Nat.zero_le _) (fun v h hv => ?_)
  obtain ⟨rfl, rfl⟩ := hv
  exact kk
abbrev q_X1_begins (G : Gw) (M : Mg) (B : Hp) (S : Ms) (a : Int) (m : Int) (b : Int) : Option Value → Hp → Prop := fun v_ h_ => v_ = some (iv (bI (f_begins S a m b))) ∧ h_ = mh G M B (S)
set_option maxHeartbeats 4000000 in
theorem c_X1_begins (l : Launch) (G : Gw) (M : Mg) (B : Hp) (S : Ms) (a : Int) (m : Int) (b : Int) (hM : MOk M) (hp0 : Wf S) (hp1 : 0 ≤ a ∧ a < S.1 2) (hp2 : 0 ≤ m ∧ m ≤ S.2 3 a) (hp3 : 0 ≤ b ∧ b < S.1 2) : Mt l G yX1_begins cX1_begins 6 (some .boolean) 1 [.ref (M.1), iv (a), iv (m), iv (b)] (mh G M B S) (q_X1_begins G M B S a m b) (0) (0) := by
  refine Mt.of (lv := [(0, .ref (M.1)), (1, iv (a)), (2, iv (m)), (3, iv (b))]) (by decide) (Nat.le_of_ble_eq_true rfl) rfl (fun X => ?_)
  have h2 := hp0.nm
  have h3 := hp0.len hp1
  have h4 := hp0.len hp3
  have J15 : V G X cX1_begins 6 yX1_begins (some .boolean) 1 (q_X1_begins G M B S a m b) (0) (0) 15 [(0, .ref (M.1)), (1, iv (a)), (2, iv (m)), (3, iv (b))] [iv (bI (decide (m ≤ S.2 3 b)))] (mh G M B S) (0) (0) := by
    refine x_istore (lv' := [(0, _), (1, _), (2, _), (3, _), (4, _)]) dX1_begins_15 rfl (by decide) ?_
    refine x_iconst dX1_begins_17 ?_
    refine x_istore (lv' := [(0, _), (1, _), (2, _), (3, _), (4, _), (5, _)]) dX1_begins_18 rfl (by decide) ?_
    have L20 : ∀ (n20 : Nat) (k : Nat) (is : Bool), (m - k) < (n20 : Int) → (k : Int) ≤ m → is = (decide (m ≤ S.2 3 b) && allB (fun i => decide (f_code S a i = f_code S b i)) k) → V G X cX1_begins 6 yX1_begins (some .boolean) 1 (q_X1_begins G M B S a m b) (0) (0) 20 [(0, .ref (M.1)), (1, iv (a)), (2, iv (m)), (3, iv (b)), (4, iv (bI (is))), (5, iv (k))] [] (mh G M B S) (0) (0) := by
      intro n20
      induction n20 with
      | zero =>
        intro k is hm hk hi
        exact absurd hm (by omega)
      | succ n20 ih20 =>
        intro k is hm20 hk hi
        refine x_iload dX1_begins_20 rfl ?_
        refine x_iload_n dX1_begins_22 rfl ?_
        refine x_icmp_ge 61 dX1_begins_23 rfl (by omega) (by omega) (fun c_23 => ?_) (fun c_23 => ?_)
        · refine x_iload dX1_begins_61 rfl ?_
          exact x_zret rfl (nar_b _) ⟨congrArg (fun b => some (iv (bI b))) (by rw [hi, f_begins]; congr 2; omega), rfl⟩ dX1_begins_63
        · refine x_iload dX1_begins_26 rfl ?_
          refine x_ifb_eq 61 dX1_begins_28 rfl (fun c_28 => ?_) (fun c_28 => ?_)
          · refine x_iload dX1_begins_61 rfl ?_
            exact x_zret rfl (nar_b _) ⟨congrArg (fun b => some (iv (bI b))) (by rw [c_28] at hi; rw [c_28, f_begins]; cases h9 : decide (m ≤ S.2 3 b) with | false => rfl | true => (rw [h9, Bool.true_and] at hi; rw [allB_f k (by omega) hi.symm]; rfl)), rfl⟩ dX1_begins_63
          · have J53 : V G X cX1_begins 6 yX1_begins (some .boolean) 1 (q_X1_begins G M B S a m b) (0) (0) 53 [(0, .ref (M.1)), (1, iv (a)), (2, iv (m)), (3, iv (b)), (4, iv (bI (is))), (5, iv (k))] [iv (bI (decide (f_code S a k = f_code S b k)))] (mh G M B S) (0) (0) := by
              refine x_istore (lv' := [(0, _), (1, _), (2, _), (3, _), (4, _), (5, _)]) dX1_begins_53 rfl (by decide) ?_
              refine x_iinc (lv' := [(0, _), (1, _), (2, _), (3, _), (4, _), (5, _)]) dX1_begins_55 rfl rfl (by decide) ?_
              refine x_goto 20 dX1_begins_58 rfl ?_
              exact ih20 (k + 1) (_) (by omega) (by omega) (by rw [c_28] at hi; have hi := hi.symm; simp only [Bool.and_eq_true] at hi; simp [allB, hi.1, hi.2])
            refine x_aload_n dX1_begins_31 rfl ?_
            refine x_iload_n dX1_begins_32 rfl ?_
            refine x_iload dX1_begins_33 rfl ?_
            refine k_X1_codeAt (a := a) (i := k) hM dX1_begins_35 (hp0) (hp1) (by omega) ?_
            refine x_aload_n dX1_begins_38 rfl ?_
            refine x_iload_n dX1_begins_39 rfl ?_
            refine x_iload dX1_begins_40 rfl ?_
            refine k_X1_codeAt (a := b) (i := k) hM dX1_begins_42 (hp0) (hp3) (by have hi := hi; rw [c_28] at hi; have hi := hi.symm; simp only [Bool.and_eq_true, decide_eq_true_eq] at hi; omega) ?_
            refine x_icmp_ne 52 dX1_begins_45 rfl (by have := hp0.code hp1 (i := k) (by omega); omega) (by have hi := hi; rw [c_28] at hi; have hi := hi.symm; simp only [Bool.and_eq_true, decide_eq_true_eq] at hi; have := hp0.code hp3 (i := k) (by omega); omega) (fun c_45 => ?_) (fun c_45 => ?_)
            · refine x_iconst dX1_begins_52 ?_
              exact x_jf (by first | (simp_all; done) | (simp; omega) | (simp_all; omega)) J53
            · refine x_iconst dX1_begins_48 ?_
              refine x_goto 53 dX1_begins_49 rfl ?_
              exact x_jt (by first | (simp_all; done) | (simp; omega) | (simp_all; omega)) J53
    exact L20 (m.toNat + 1) (0) (_) (by omega) (by omega) (by simp [allB])
  refine x_iload_n dX1_begins_0 rfl ?_
  refine x_aload_n dX1_begins_1 rfl ?_
  refine m_get_length hM dX1_begins_2 ?_
  refine x_iload_n dX1_begins_5 rfl ?_
  refine m_ald hM (N := 14) rfl (by omega) (by decide) dX1_begins_6 ?_
  refine x_icmp_gt 14 dX1_begins_7 rfl (by omega) (by omega) (fun c_7 => ?_) (fun c_7 => ?_)
  · refine x_iconst dX1_begins_14 ?_
    exact x_jf (by first | (simp_all; done) | (simp; omega) | (simp_all; omega)) J15
  · refine x_iconst dX1_begins_10 ?_
    refine x_goto 15 dX1_begins_11 rfl ?_
    exact x_jt (by first | (simp_all; done) | (simp; omega) | (simp_all; omega)) J15
theorem k_X1_begins {G : Gw} {X : Cx} {cc : ByteArray} {nL : Nat} {y : MethodName} {ret : Option FieldType} {dp : Nat} {P : Option Value → Hp → Prop} {mc ms pc : Nat} {lv : List (Nat × Value)} {st : List Value} {kc ks : Nat} {M : Mg} {B : Hp} {S : Ms} {a : Int} {m : Int} {b : Int} (hM : MOk M) (hd : decode cc pc = .ok (.invokevirtual 148, 3)) (hp0 : Wf S) (hp1 : 0 ≤ a ∧ a < S.1 2) (hp2 : 0 ≤ m ∧ m ≤ S.2 3 a) (hp3 : 0 ≤ b ∧ b < S.1 2) (kk : V G X cc nL y ret dp P mc ms (pc + 3) lv (iv (bI (f_begins S a m b)) :: st) (mh G M B (S)) kc ks) (hy : y.cls = RX1 := by rfl) (hdp : 1 + 1 ≤ dp := by decide) (hrs : (st.map fun v => v.category).sum ≤ 8 := by first | decide | (simp [Value.category, iv, jv]; done)) : V G X cc nL y ret dp P mc ms pc lv (iv (b) :: iv (m) :: iv (a) :: .ref M.1 :: st) (mh G M B S) kc ks := by
  refine x_callV (ci := 1) (T := TX1) (N := 33) (As := [iv (a), iv (m), iv (b)]) 3 (fun l => c_X1_begins l G M B S a m b hM hp0 hp1 hp2 hp3) (by rw [hy]; exact q3023) q3025 qs89 q173 q3026 (by decide +kernel) hdp (by decide) (mh_o hM) rfl rfl rfl hrs hd (Nat.zero_le _) (Nat.zero_le _) (fun v h hv => ?_)
  obtain ⟨rfl, rfl⟩ := hv
  exact kk
abbrev q_X1_isTwin (G : Gw) (M : Mg) (B : Hp) (S : Ms) (a : Int) (b : Int) : Option Value → Hp → Prop := fun v_ h_ => v_ = some (iv (bI (f_twin S a b))) ∧ h_ = mh G M B (S)
set_option maxHeartbeats 4000000 in
theorem c_X1_isTwin (l : Launch) (G : Gw) (M : Mg) (B : Hp) (S : Ms) (a : Int) (b : Int) (hM : MOk M) (hp0 : Wf S) (hp1 : 0 ≤ a ∧ a < S.1 2) (hp2 : 0 ≤ b ∧ b < S.1 2) : Mt l G yX1_isTwin cX1_isTwin 3 (some .boolean) 2 [.ref (M.1), iv (a), iv (b)] (mh G M B S) (q_X1_isTwin G M B S a b) (0) (0) := by
  refine Mt.of (lv := [(0, .ref (M.1)), (1, iv (a)), (2, iv (b))]) (by decide) (Nat.le_of_ble_eq_true rfl) rfl (fun X => ?_)
  have h2 := hp0.nm
  have h3 := hp0.len hp1
  have h4 := hp0.len hp2
  refine x_iload_n dX1_isTwin_0 rfl ?_
  refine x_iload_n dX1_isTwin_1 rfl ?_
  refine x_icmp_eq 39 dX1_isTwin_2 rfl (by omega) (by omega) (fun c_2 => ?_) (fun c_2 => ?_)
  · refine x_iconst dX1_isTwin_39 ?_
    exact x_zret rfl (by decide) ⟨rb0 (by simp_all [f_twin]), rfl⟩ dX1_isTwin_40
  · refine x_aload_n dX1_isTwin_5 rfl ?_
    refine m_get_length hM dX1_isTwin_6 ?_
    refine x_iload_n dX1_isTwin_9 rfl ?_
    refine m_ald hM (N := 14) rfl (by omega) (by decide) dX1_isTwin_10 ?_
    refine x_aload_n dX1_isTwin_11 rfl ?_
    refine m_get_length hM dX1_isTwin_12 ?_
    refine x_iload_n dX1_isTwin_15 rfl ?_
    refine m_ald hM (N := 14) rfl (by omega) (by decide) dX1_isTwin_16 ?_
    refine x_icmp_ne 39 dX1_isTwin_17 rfl (by omega) (by omega) (fun c_17 => ?_) (fun c_17 => ?_)
    · refine x_iconst dX1_isTwin_39 ?_
      exact x_zret rfl (by decide) ⟨rb0 (by simp_all [f_twin]), rfl⟩ dX1_isTwin_40
    · refine x_aload_n dX1_isTwin_20 rfl ?_
      refine x_iload_n dX1_isTwin_21 rfl ?_
      refine x_aload_n dX1_isTwin_22 rfl ?_
      refine m_get_length hM dX1_isTwin_23 ?_
      refine x_iload_n dX1_isTwin_26 rfl ?_
      refine m_ald hM (N := 14) rfl (by omega) (by decide) dX1_isTwin_27 ?_
      refine x_iload_n dX1_isTwin_28 rfl ?_
      refine k_X1_begins (a := a) (m := S.2 3 a) (b := b) hM dX1_isTwin_29 (hp0) (hp1) (by omega) (hp2) ?_
      refine x_ifb_eq 39 dX1_isTwin_32 rfl (fun c_32 => ?_) (fun c_32 => ?_)
      · refine x_iconst dX1_isTwin_39 ?_
        exact x_zret rfl (by decide) ⟨rb0 (by simp_all [f_twin]), rfl⟩ dX1_isTwin_40
      · refine x_iconst dX1_isTwin_35 ?_
        refine x_goto 40 dX1_isTwin_36 rfl ?_
        exact x_zret rfl (by decide) ⟨rb1 (by simp_all [f_twin]), rfl⟩ dX1_isTwin_40
theorem k_X1_isTwin {G : Gw} {X : Cx} {cc : ByteArray} {nL : Nat} {y : MethodName} {ret : Option FieldType} {dp : Nat} {P : Option Value → Hp → Prop} {mc ms pc : Nat} {lv : List (Nat × Value)} {st : List Value} {kc ks : Nat} {M : Mg} {B : Hp} {S : Ms} {a : Int} {b : Int} (hM : MOk M) (hd : decode cc pc = .ok (.invokevirtual 151, 3)) (hp0 : Wf S) (hp1 : 0 ≤ a ∧ a < S.1 2) (hp2 : 0 ≤ b ∧ b < S.1 2) (kk : V G X cc nL y ret dp P mc ms (pc + 3) lv (iv (bI (f_twin S a b)) :: st) (mh G M B (S)) kc ks) (hy : y.cls = RX1 := by rfl) (hdp : 2 + 1 ≤ dp := by decide) (hrs : (st.map fun v => v.category).sum ≤ 8 := by first | decide | (simp [Value.category, iv, jv]; done)) : V G X cc nL y ret dp P mc ms pc lv (iv (b) :: iv (a) :: .ref M.1 :: st) (mh G M B S) kc ks := by
  refine x_callV (ci := 1) (T := TX1) (N := 33) (As := [iv (a), iv (b)]) 2 (fun l => c_X1_isTwin l G M B S a b hM hp0 hp1 hp2) (by rw [hy]; exact q3019) q3021 qs88 q173 q3022 (by decide +kernel) hdp (by decide) (mh_o hM) rfl rfl rfl hrs hd (Nat.zero_le _) (Nat.zero_le _) (fun v h hv => ?_)
  obtain ⟨rfl, rfl⟩ := hv
  exact kk
abbrev q_X1_twins (G : Gw) (M : Mg) (B : Hp) (S : Ms) (a : Int) : Option Value → Hp → Prop := fun v_ h_ => v_ = some (iv (f_twins S a)) ∧ h_ = mh G M B (S)
set_option maxHeartbeats 4000000 in
theorem c_X1_twins (l : Launch) (G : Gw) (M : Mg) (B : Hp) (S : Ms) (a : Int) (hM : MOk M) (hp0 : Wf S) (hp1 : 0 ≤ a ∧ a < S.1 2) : Mt l G yX1_twins cX1_twins 4 (some .int) 3 [.ref (M.1), iv (a)] (mh G M B S) (q_X1_twins G M B S a) (0) (0) := by
  refine Mt.of (lv := [(0, .ref (M.1)), (1, iv (a))]) (by decide) (Nat.le_of_ble_eq_true rfl) rfl (fun X => ?_)
  have h2 := hp0.nm
  refine x_iconst dX1_twins_0 ?_
  refine x_istore_n (lv' := [(0, _), (1, _), (2, _)]) dX1_twins_1 rfl (by decide) ?_
  refine x_iconst dX1_twins_2 ?_
  refine x_istore_n (lv' := [(0, _), (1, _), (2, _), (3, _)]) dX1_twins_3 rfl (by decide) ?_
  have L4 : ∀ (n4 : Nat) (k : Nat), (S.1 2 - k) < (n4 : Int) → (k : Int) ≤ S.1 2 → V G X cX1_twins 4 yX1_twins (some .int) 3 (q_X1_twins G M B S a) (0) (0) 4 [(0, .ref (M.1)), (1, iv (a)), (2, iv (cntB (fun k => f_twin S a k) k)), (3, iv (k))] [] (mh G M B S) (0) (0) := by
    intro n4
    induction n4 with
    | zero =>
      intro k hm hk
      exact absurd hm (by omega)
    | succ n4 ih4 =>
      intro k hm4 hk
      have h5 := cntB_R (p := fun k => f_twin S a k) (n := k)
      refine x_iload_n dX1_twins_4 rfl ?_
      refine x_aload_n dX1_twins_5 rfl ?_
      refine m_get_names hM dX1_twins_6 ?_
      refine x_icmp_ge 35 dX1_twins_9 rfl (by omega) (by omega) (fun c_9 => ?_) (fun c_9 => ?_)
      · refine x_iload_n dX1_twins_35 rfl ?_
        exact x_iret rfl ⟨ri (by rw [f_twins, show (S.1 2).toNat = k by omega]), rfl⟩ dX1_twins_36
      · refine x_iload_n dX1_twins_12 rfl ?_
        have J27 : V G X cX1_twins 4 yX1_twins (some .int) 3 (q_X1_twins G M B S a) (0) (0) 27 [(0, .ref (M.1)), (1, iv (a)), (2, iv (cntB (fun k => f_twin S a k) k)), (3, iv (k))] [iv (bI (f_twin S a k)), iv (cntB (fun k => f_twin S a k) k)] (mh G M B S) (0) (0) := by
          refine x_iadd dX1_twins_27 ?_
          refine x_istore_n (lv' := [(0, _), (1, _), (2, _), (3, _)]) dX1_twins_28 rfl (by decide) ?_
          refine x_iinc (lv' := [(0, _), (1, _), (2, _), (3, _)]) dX1_twins_29 rfl rfl (by decide) ?_
          refine x_goto 4 dX1_twins_32 rfl ?_
          exact ih4 (k + 1) (by omega) (by omega)
        refine x_aload_n dX1_twins_13 rfl ?_
        refine x_iload_n dX1_twins_14 rfl ?_
        refine x_iload_n dX1_twins_15 rfl ?_
        refine k_X1_isTwin (a := a) (b := k) hM dX1_twins_16 (hp0) (hp1) (by omega) ?_
        refine x_ifb_eq 26 dX1_twins_19 rfl (fun c_19 => ?_) (fun c_19 => ?_)
        · refine x_iconst dX1_twins_26 ?_
          exact x_ji (by simp [c_19, bI]) J27
        · refine x_iconst dX1_twins_22 ?_
          refine x_goto 27 dX1_twins_23 rfl ?_
          exact x_ji (by simp [c_19, bI]) J27
  exact L4 ((S.1 2).toNat + 1) (0) (by omega) (by omega)
theorem k_X1_twins {G : Gw} {X : Cx} {cc : ByteArray} {nL : Nat} {y : MethodName} {ret : Option FieldType} {dp : Nat} {P : Option Value → Hp → Prop} {mc ms pc : Nat} {lv : List (Nat × Value)} {st : List Value} {kc ks : Nat} {M : Mg} {B : Hp} {S : Ms} {a : Int} (hM : MOk M) (hd : decode cc pc = .ok (.invokevirtual 162, 3)) (hp0 : Wf S) (hp1 : 0 ≤ a ∧ a < S.1 2) (kk : V G X cc nL y ret dp P mc ms (pc + 3) lv (iv (f_twins S a) :: st) (mh G M B (S)) kc ks) (hy : y.cls = RX1 := by rfl) (hdp : 3 + 1 ≤ dp := by decide) (hrs : (st.map fun v => v.category).sum ≤ 8 := by first | decide | (simp [Value.category, iv, jv]; done)) : V G X cc nL y ret dp P mc ms pc lv (iv (a) :: .ref M.1 :: st) (mh G M B S) kc ks := by
  refine x_callV (ci := 1) (T := TX1) (N := 33) (As := [iv (a)]) 1 (fun l => c_X1_twins l G M B S a hM hp0 hp1) (by rw [hy]; exact q3015) q3017 qs87 q173 q3018 (by decide +kernel) hdp (by decide) (mh_o hM) rfl rfl rfl hrs hd (Nat.zero_le _) (Nat.zero_le _) (fun v h hv => ?_)
  obtain ⟨rfl, rfl⟩ := hv
  exact kk
