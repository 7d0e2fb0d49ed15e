/-! MODEL 10: the menu is taken, told, tended -/
set_option maxRecDepth 100000
abbrev q_X1_name (G : Gw) (M : Mg) (B : Hp) (S : Ms) (a : Int) (w : Int) : Option Value → Hp → Prop := fun v_ h_ => ∃ T : Ms, v_ = some (iv (f_nameQ S a w)) ∧ h_ = mh G M B T ∧ (Cc S T)
set_option maxHeartbeats 4000000 in
theorem c_X1_name (l : Launch) (G : Gw) (M : Mg) (B : Hp) (S : Ms) (a : Int) (w : Int) (hM : MOk M) (hp0 : Wf S) (hp1 : -2147483648 ≤ a ∧ a ≤ 2147483647) (hp2 : -2147483648 ≤ w ∧ w ≤ 2147483647) (hp3 : 0 ≤ S.1 12 ∧ S.1 12 ≤ 4) : Mt l G yX1_name cX1_name 3 (some .int) 6 [.ref (M.1), iv (a), iv (w)] (mh G M B S) (q_X1_name G M B S a w) (0) (0) := by
  refine Mt.of (lv := [(0, .ref (M.1)), (1, iv (a)), (2, iv (w))]) (by decide) (Nat.le_of_ble_eq_true rfl) rfl (fun X => ?_)
  have h2 := hp0.nm
  refine x_aload_n dX1_name_0 rfl ?_
  refine x_iload_n dX1_name_1 rfl ?_
  refine k_X1_isName (a := a) hM dX1_name_2 (hp0) (hp1) ?_
  refine x_ifb_ne 13 dX1_name_5 rfl (fun c_5 => ?_) (fun c_5 => ?_)
  · have h9 : 0 ≤ a ∧ a < S.1 2 := by simp at c_5; omega
    refine x_iload_n dX1_name_13 rfl ?_
    refine x_iconst dX1_name_14 ?_
    refine x_bipush dX1_name_15 ?_
    refine k_X1_within (v := w) (lo := 0) (hi := 7) hM dX1_name_17 (hp2) (by decide) (by decide) ?_
    refine x_ifb_eq 32 dX1_name_20 rfl (fun c_20 => ?_) (fun c_20 => ?_)
    · refine x_bipush dX1_name_32 ?_
      exact x_iret rfl ⟨_, ri (by rw [f_nameQ, if_pos c_5, if_neg (bf c_20)]), rfl, Cc.rf S⟩ dX1_name_34
    · refine x_aload_n dX1_name_23 rfl ?_
      refine x_iload_n dX1_name_24 rfl ?_
      refine x_iload_n dX1_name_25 rfl ?_
      refine k_X1_nameNow (a := a) (w := w) hM dX1_name_26 (hp0) (h9) (hp2) (hp3) (fun T26_1 rT26_1 => ?_)
      refine x_goto 34 dX1_name_29 rfl ?_
      exact x_iret rfl ⟨_, ri (by rw [f_nameQ, if_pos c_5, if_pos c_20]), rfl, rT26_1⟩ dX1_name_34
  · refine x_bipush dX1_name_8 ?_
    refine x_goto 34 dX1_name_10 rfl ?_
    exact x_iret rfl ⟨_, ri (by rw [f_nameQ, if_neg (bf c_5)]), rfl, Cc.rf S⟩ dX1_name_34
abbrev q_X1_aboutNow (G : Gw) (M : Mg) (B : Hp) (S : Ms) (w : Int) : Option Value → Hp → Prop := fun v_ h_ => v_ = some (iv (f_about S w)) ∧ h_ = mh G M B (S)
set_option maxHeartbeats 4000000 in
theorem c_X1_aboutNow (l : Launch) (G : Gw) (M : Mg) (B : Hp) (S : Ms) (w : Int) (hM : MOk M) (hp0 : Wf S) (hp1 : -2147483648 ≤ w ∧ w ≤ 2147483647) : Mt l G yX1_aboutNow cX1_aboutNow 2 (some .int) 5 [.ref (M.1), iv (w)] (mh G M B S) (q_X1_aboutNow G M B S w) (0) (0) := by
  refine Mt.of (lv := [(0, .ref (M.1)), (1, iv (w))]) (by decide) (Nat.le_of_ble_eq_true rfl) rfl (fun X => ?_)
  refine x_iload_n dX1_aboutNow_0 rfl ?_
  by_cases t_1_0 : w = 0
  · refine x_ji t_1_0 ?_
    refine x_tin 40 dX1_aboutNow_1 (by decide) (by decide) (by decide) rfl rfl ?_
    refine x_aload_n dX1_aboutNow_40 rfl ?_
    refine m_get_names hM dX1_aboutNow_41 ?_
    exact x_iret rfl ⟨ri (by unfold f_about; simp_all), rfl⟩ dX1_aboutNow_44
  by_cases t_1_1 : w = 1
  · refine x_ji t_1_1 ?_
    refine x_tin 45 dX1_aboutNow_1 (by decide) (by decide) (by decide) rfl rfl ?_
    refine x_aload_n dX1_aboutNow_45 rfl ?_
    refine k_X1_usesAll  hM dX1_aboutNow_46 (hp0) ?_
    exact x_iret rfl ⟨ri (by unfold f_about; simp_all), rfl⟩ dX1_aboutNow_49
  by_cases t_1_2 : w = 2
  · refine x_ji t_1_2 ?_
    refine x_tin 50 dX1_aboutNow_1 (by decide) (by decide) (by decide) rfl rfl ?_
    refine x_aload_n dX1_aboutNow_50 rfl ?_
    refine k_X1_withTwins  hM dX1_aboutNow_51 (hp0) ?_
    exact x_iret rfl ⟨ri (by unfold f_about; simp_all), rfl⟩ dX1_aboutNow_54
  by_cases t_1_3 : w = 3
  · refine x_ji t_1_3 ?_
    refine x_tin 55 dX1_aboutNow_1 (by decide) (by decide) (by decide) rfl rfl ?_
    refine x_aload_n dX1_aboutNow_55 rfl ?_
    refine k_X1_codesMany  hM dX1_aboutNow_56 (hp0) ?_
    exact x_iret rfl ⟨ri (by unfold f_about; simp_all), rfl⟩ dX1_aboutNow_59
  by_cases t_1_4 : w = 4
  · refine x_ji t_1_4 ?_
    refine x_tin 60 dX1_aboutNow_1 (by decide) (by decide) (by decide) rfl rfl ?_
    refine x_aload_n dX1_aboutNow_60 rfl ?_
    refine k_X1_mostTelling  hM dX1_aboutNow_61 (hp0) ?_
    exact x_iret rfl ⟨ri (by unfold f_about; simp_all), rfl⟩ dX1_aboutNow_64
  by_cases t_1_5 : w = 5
  · refine x_ji t_1_5 ?_
    refine x_tin 65 dX1_aboutNow_1 (by decide) (by decide) (by decide) rfl rfl ?_
    refine x_aload_n dX1_aboutNow_65 rfl ?_
    refine k_X1_pressesAll  hM dX1_aboutNow_66 (hp0) ?_
    exact x_iret rfl ⟨ri (by unfold f_about; simp_all), rfl⟩ dX1_aboutNow_69
  refine x_tout 70 dX1_aboutNow_1 (by omega) (by omega) rfl ?_
  refine x_aload_n dX1_aboutNow_70 rfl ?_
  refine k_X1_digitsAll  hM dX1_aboutNow_71 (hp0) ?_
  exact x_iret rfl ⟨ri (by unfold f_about; simp_all), rfl⟩ dX1_aboutNow_74
theorem k_X1_aboutNow {G : Gw} {X : Cx} {cc : ByteArray} {nL : Nat} {y : MethodName} {ret : Option FieldType} {dp : Nat} {P : Option Value → Hp → Prop} {mc ms pc : Nat} {lv : List (Nat × Value)} {st : List Value} {kc ks : Nat} {M : Mg} {B : Hp} {S : Ms} {w : Int} (hM : MOk M) (hd : decode cc pc = .ok (.invokevirtual 196, 3)) (hp0 : Wf S) (hp1 : -2147483648 ≤ w ∧ w ≤ 2147483647) (kk : V G X cc nL y ret dp P mc ms (pc + 3) lv (iv (f_about S w) :: st) (mh G M B (S)) kc ks) (hy : y.cls = RX1 := by rfl) (hdp : 5 + 1 ≤ dp := by decide) (hrs : (st.map fun v => v.category).sum ≤ 8 := by first | decide | (simp [Value.category, iv, jv]; done)) : V G X cc nL y ret dp P mc ms pc lv (iv (w) :: .ref M.1 :: st) (mh G M B S) kc ks := by
  refine x_callV (ci := 1) (T := TX1) (N := 33) (As := [iv (w)]) 1 (fun l => c_X1_aboutNow l G M B S w hM hp0 hp1) (by rw [hy]; exact q3104) q3106 qs105 q173 q3107 (by decide +kernel) hdp (by decide) (mh_o hM) rfl rfl rfl hrs hd (Nat.zero_le _) (Nat.zero_le _) (fun v h hv => ?_)
  obtain ⟨rfl, rfl⟩ := hv
  exact kk
abbrev q_X1_about (G : Gw) (M : Mg) (B : Hp) (S : Ms) (w : Int) : Option Value → Hp → Prop := fun v_ h_ => v_ = some (iv (if inB w 0 6 then f_about S w else -102)) ∧ h_ = mh G M B (S)
set_option maxHeartbeats 4000000 in
theorem c_X1_about (l : Launch) (G : Gw) (M : Mg) (B : Hp) (S : Ms) (w : Int) (hM : MOk M) (hp0 : Wf S) (hp1 : -2147483648 ≤ w ∧ w ≤ 2147483647) : Mt l G yX1_about cX1_about 2 (some .int) 6 [.ref (M.1), iv (w)] (mh G M B S) (q_X1_about G M B S w) (0) (0) := by
  refine Mt.of (lv := [(0, .ref (M.1)), (1, iv (w))]) (by decide) (Nat.le_of_ble_eq_true rfl) rfl (fun X => ?_)
  refine x_iload_n dX1_about_0 rfl ?_
  refine x_iconst dX1_about_1 ?_
  refine x_bipush dX1_about_2 ?_
  refine k_X1_within (v := w) (lo := 0) (hi := 6) hM dX1_about_4 (hp1) (by decide) (by decide) ?_
  refine x_ifb_eq 18 dX1_about_7 rfl (fun c_7 => ?_) (fun c_7 => ?_)
  · refine x_bipush dX1_about_18 ?_
    exact x_iret rfl ⟨ri (by rw [if_neg (bf c_7)]), rfl⟩ dX1_about_20
  · refine x_aload_n dX1_about_10 rfl ?_
    refine x_iload_n dX1_about_11 rfl ?_
    refine k_X1_aboutNow (w := w) hM dX1_about_12 (hp0) (hp1) ?_
    refine x_goto 20 dX1_about_15 rfl ?_
    exact x_iret rfl ⟨ri (by rw [if_pos c_7]), rfl⟩ dX1_about_20
abbrev q_X1_isPathChanged (G : Gw) (M : Mg) (B : Hp) (S : Ms) (a : Int) : Option Value → Hp → Prop := fun v_ h_ => v_ = some (iv (bI (f_chg S a))) ∧ h_ = mh G M B (S)
set_option maxHeartbeats 4000000 in
theorem c_X1_isPathChanged (l : Launch) (G : Gw) (M : Mg) (B : Hp) (S : Ms) (a : Int) (hM : MOk M) (hp0 : Wm S) (hp1 : B29 S) (hp2 : 0 ≤ a ∧ a < 14) (hp3 : 0 ≤ S.2 28 a ∧ S.2 28 a ≤ 13) : Mt l G yX1_isPathChanged cX1_isPathChanged 4 (some .boolean) 0 [.ref (M.1), iv (a)] (mh G M B S) (q_X1_isPathChanged G M B S a) (0) (0) := by
  refine Mt.of (lv := [(0, .ref (M.1)), (1, iv (a))]) (by decide) (Nat.le_of_ble_eq_true rfl) rfl (fun X => ?_)
  have h1 := hp0.2.1 a hp2.1 hp2.2
  have J20 : V G X cX1_isPathChanged 4 yX1_isPathChanged (some .boolean) 0 (q_X1_isPathChanged G M B S a) (0) (0) 20 [(0, .ref (M.1)), (1, iv (a))] [iv (bI (!decide (S.2 13 a = S.2 28 a)))] (mh G M B S) (0) (0) := by
    refine x_istore_n (lv' := [(0, _), (1, _), (2, _)]) dX1_isPathChanged_20 rfl (by decide) ?_
    refine x_iconst dX1_isPathChanged_21 ?_
    refine x_istore_n (lv' := [(0, _), (1, _), (2, _), (3, _)]) dX1_isPathChanged_22 rfl (by decide) ?_
    have L23 : ∀ (n23 : Nat) (k : Nat) (is : Bool), (S.2 13 a - k) < (n23 : Int) → ((k : Int) ≤ S.2 13 a) → (is = (!decide (S.2 13 a = S.2 28 a) || !allB (fun i => decide (S.2 14 (14 * a + i) = S.2 29 (14 * a + i))) k)) → V G X cX1_isPathChanged 4 yX1_isPathChanged (some .boolean) 0 (q_X1_isPathChanged G M B S a) (0) (0) 23 [(0, .ref (M.1)), (1, iv (a)), (2, iv (bI (is))), (3, iv (k))] [] (mh G M B S) (0) (0) := by
      intro n23
      induction n23 with
      | zero =>
        intro k is hm hk hi
        exact absurd hm (by omega)
      | succ n23 ih23 =>
        intro k is hm23 hk hi
        refine x_iload_n dX1_isPathChanged_23 rfl ?_
        refine x_aload_n dX1_isPathChanged_24 rfl ?_
        refine m_get_pathLength hM dX1_isPathChanged_25 ?_
        refine x_iload_n dX1_isPathChanged_28 rfl ?_
        refine m_ald hM (N := 14) rfl (by omega) (by decide) dX1_isPathChanged_29 ?_
        refine x_icmp_ge 74 dX1_isPathChanged_30 rfl (by omega) (by omega) (fun c_30 => ?_) (fun c_30 => ?_)
        · refine x_iload_n dX1_isPathChanged_74 rfl ?_
          exact x_zret rfl (nar_b _) ⟨congrArg (fun b => some (iv (bI b))) (by rw [hi, f_chg]; congr 3; omega), rfl⟩ dX1_isPathChanged_75
        · refine x_iload_n dX1_isPathChanged_33 rfl ?_
          refine x_ifb_ne 74 dX1_isPathChanged_34 rfl (fun c_34 => ?_) (fun c_34 => ?_)
          · refine x_iload_n dX1_isPathChanged_74 rfl ?_
            exact x_zret rfl (nar_b _) ⟨congrArg (fun b => some (iv (bI b))) (by rw [c_34] at hi; rw [c_34, f_chg]; cases h9 : decide (S.2 13 a = S.2 28 a) with | false => rfl | true => (rw [h9] at hi; simp only [Bool.not_true, Bool.false_or] at hi; rw [allB_f k (by omega) (by cases hz : allB (fun i => decide (S.2 14 (14 * a + i) = S.2 29 (14 * a + i))) k with | false => rfl | true => (rw [hz] at hi; cases hi))]; rfl)), rfl⟩ dX1_isPathChanged_75
          · have J67 : V G X cX1_isPathChanged 4 yX1_isPathChanged (some .boolean) 0 (q_X1_isPathChanged G M B S a) (0) (0) 67 [(0, .ref (M.1)), (1, iv (a)), (2, iv (bI (is))), (3, iv (k))] [iv (bI (!decide (S.2 14 (14 * a + k) = S.2 29 (14 * a + k))))] (mh G M B S) (0) (0) := by
              refine x_istore_n (lv' := [(0, _), (1, _), (2, _), (3, _)]) dX1_isPathChanged_67 rfl (by decide) ?_
              refine x_iinc (lv' := [(0, _), (1, _), (2, _), (3, _)]) dX1_isPathChanged_68 rfl rfl (by decide) ?_
              refine x_goto 23 dX1_isPathChanged_71 rfl ?_
              exact ih23 (k + 1) (_) (by omega) (by omega) (by rw [c_34] at hi; have hi := hi.symm; rw [Bool.or_eq_false_iff] at hi; have h8 : allB (fun i => decide (S.2 14 (14 * a + i) = S.2 29 (14 * a + i))) k = true := (by cases hz : allB (fun i => decide (S.2 14 (14 * a + i) = S.2 29 (14 * a + i))) k with | true => rfl | false => (rw [hz] at hi; exact absurd hi.2 (by decide))); rw [allB, hi.1, h8]; rfl)
            refine x_aload_n dX1_isPathChanged_37 rfl ?_
            refine m_get_steps hM dX1_isPathChanged_38 ?_
            refine x_bipush dX1_isPathChanged_41 ?_
            refine x_iload_n dX1_isPathChanged_43 rfl ?_
            refine x_imul dX1_isPathChanged_44 ?_
            refine x_iload_n dX1_isPathChanged_45 rfl ?_
            refine x_iadd dX1_isPathChanged_46 ?_
            refine m_ald hM (N := 196) rfl (by omega) (by decide) dX1_isPathChanged_47 ?_
            refine x_aload_n dX1_isPathChanged_48 rfl ?_
            refine m_get_newSteps hM dX1_isPathChanged_49 ?_
            refine x_bipush dX1_isPathChanged_52 ?_
            refine x_iload_n dX1_isPathChanged_54 rfl ?_
            refine x_imul dX1_isPathChanged_55 ?_
            refine x_iload_n dX1_isPathChanged_56 rfl ?_
            refine x_iadd dX1_isPathChanged_57 ?_
            refine m_ald hM (N := 196) rfl (by omega) (by decide) dX1_isPathChanged_58 ?_
            refine x_icmp_eq 66 dX1_isPathChanged_59 rfl (by have := hp0.2.2 (14 * a + k) (by omega) (by omega); omega) (by have := hp1 (14 * a + k); omega) (fun c_59 => ?_) (fun c_59 => ?_)
            · refine x_iconst dX1_isPathChanged_66 ?_
              exact x_jf (by first | (simp_all; done) | (simp; omega) | (simp_all; omega)) J67
            · refine x_iconst dX1_isPathChanged_62 ?_
              refine x_goto 67 dX1_isPathChanged_63 rfl ?_
              exact x_jt (by first | (simp_all; done) | (simp; omega) | (simp_all; omega)) J67
    exact L23 ((S.2 13 a).toNat + 1) (0) (_) (by omega) (by omega) (by simp [allB])
  refine x_aload_n dX1_isPathChanged_0 rfl ?_
  refine m_get_pathLength hM dX1_isPathChanged_1 ?_
  refine x_iload_n dX1_isPathChanged_4 rfl ?_
  refine m_ald hM (N := 14) rfl (by omega) (by decide) dX1_isPathChanged_5 ?_
  refine x_aload_n dX1_isPathChanged_6 rfl ?_
  refine m_get_newPathLength hM dX1_isPathChanged_7 ?_
  refine x_iload_n dX1_isPathChanged_10 rfl ?_
  refine m_ald hM (N := 14) rfl (by omega) (by decide) dX1_isPathChanged_11 ?_
  refine x_icmp_eq 19 dX1_isPathChanged_12 rfl (by omega) (by omega) (fun c_12 => ?_) (fun c_12 => ?_)
  · refine x_iconst dX1_isPathChanged_19 ?_
    exact x_jf (by first | (simp_all; done) | (simp; omega) | (simp_all; omega)) J20
  · refine x_iconst dX1_isPathChanged_15 ?_
    refine x_goto 20 dX1_isPathChanged_16 rfl ?_
    exact x_jt (by first | (simp_all; done) | (simp; omega) | (simp_all; omega)) J20
theorem k_X1_isPathChanged {G : Gw} {X : Cx} {cc : ByteArray} {nL : Nat} {y : MethodName} {ret : Option FieldType} {dp : Nat} {P : Option Value → Hp → Prop} {mc ms pc : Nat} {lv : List (Nat × Value)} {st : List Value} {kc ks : Nat} {M : Mg} {B : Hp} {S : Ms} {a : Int} (hM : MOk M) (hd : decode cc pc = .ok (.invokevirtual 256, 3)) (hp0 : Wm S) (hp1 : B29 S) (hp2 : 0 ≤ a ∧ a < 14) (hp3 : 0 ≤ S.2 28 a ∧ S.2 28 a ≤ 13) (kk : V G X cc nL y ret dp P mc ms (pc + 3) lv (iv (bI (f_chg S a)) :: st) (mh G M B (S)) kc ks) (hy : y.cls = RX1 := by rfl) (hdp : 0 + 1 ≤ dp := by decide) (hrs : (st.map fun v => v.category).sum ≤ 8 := by first | decide | (simp [Value.category, iv, jv]; done)) : V G X cc nL y ret dp P mc ms pc lv (iv (a) :: .ref M.1 :: st) (mh G M B S) kc ks := by
  refine x_callV (ci := 1) (T := TX1) (N := 33) (As := [iv (a)]) 1 (fun l => c_X1_isPathChanged l G M B S a hM hp0 hp1 hp2 hp3) (by rw [hy]; exact q3201) q3203 qs121 q173 q3204 (by decide +kernel) hdp (by decide) (mh_o hM) rfl rfl rfl hrs hd (Nat.zero_le _) (Nat.zero_le _) (fun v h hv => ?_)
  obtain ⟨rfl, rfl⟩ := hv
  exact kk
abbrev q_X1_takeMenu (G : Gw) (M : Mg) (B : Hp) (S : Ms) (b : Int) : Option Value → Hp → Prop := fun v_ h_ => v_ = some (iv (f_chgs S)) ∧ h_ = mh G M B (s_take S b)
set_option maxHeartbeats 4000000 in
theorem c_X1_takeMenu (l : Launch) (G : Gw) (M : Mg) (B : Hp) (S : Ms) (b : Int) (hM : MOk M) (hp0 : Wf S) (hp1 : Wm S) (hp2 : B29 S) (hp3 : ∀ i : Int, 0 ≤ i → i < S.1 2 → 0 ≤ S.2 28 i ∧ S.2 28 i ≤ 13) : Mt l G yX1_takeMenu cX1_takeMenu 4 (some .int) 1 [.ref (M.1), iv (b)] (mh G M B S) (q_X1_takeMenu G M B S b) (0) (0) := by
  refine Mt.of (lv := [(0, .ref (M.1)), (1, iv (b))]) (by decide) (Nat.le_of_ble_eq_true rfl) rfl (fun X => ?_)
  have h2 := hp0.nm
  refine x_iconst dX1_takeMenu_0 ?_
  refine x_istore_n (lv' := [(0, _), (1, _), (2, _)]) dX1_takeMenu_1 rfl (by decide) ?_
  refine x_iconst dX1_takeMenu_2 ?_
  refine x_istore_n (lv' := [(0, _), (1, _), (2, _), (3, _)]) dX1_takeMenu_3 rfl (by decide) ?_
  have L4 : ∀ (n4 : Nat) (k : Nat), (S.1 2 - k) < (n4 : Int) → ((k : Int) ≤ S.1 2) → V G X cX1_takeMenu 4 yX1_takeMenu (some .int) 1 (q_X1_takeMenu G M B S b) (0) (0) 4 [(0, .ref (M.1)), (1, iv (b)), (2, iv (cntB (fun k => f_chg S k) k)), (3, iv (k))] [] (mh G M B S) (0) (0) := by
    intro n4
    induction n4 with
    | zero =>
      intro k hm hk
      exact absurd hm (by omega)
    | succ n4 ih4 =>
      intro k hm4 hk
      refine x_iload_n dX1_takeMenu_4 rfl ?_
      refine x_aload_n dX1_takeMenu_5 rfl ?_
      refine m_get_names hM dX1_takeMenu_6 ?_
      refine x_icmp_ge 34 dX1_takeMenu_9 rfl (by omega) (by omega) (fun c_9 => ?_) (fun c_9 => ?_)
      · have eN : (S.1 2).toNat = k := by omega
        refine x_iconst dX1_takeMenu_34 ?_
        refine x_istore_n (lv' := [(0, _), (1, _), (2, _), (3, _)]) dX1_takeMenu_35 rfl (by decide) ?_
        have L36 : ∀ (n36 : Nat) (e : Nat), (S.1 2 - e) < (n36 : Int) → ((e : Int) ≤ S.1 2) → V G X cX1_takeMenu 4 yX1_takeMenu (some .int) 1 (q_X1_takeMenu G M B S b) (0) (0) 36 [(0, .ref (M.1)), (1, iv (b)), (2, iv (cntB (fun k => f_chg S k) k)), (3, iv (e))] [] (mh G M B (s_c1 S e)) (0) (0) := by
          intro n36
          induction n36 with
          | zero =>
            intro e hm hk2
            exact absurd hm (by omega)
          | succ n36 ih36 =>
            intro e hm36 hk2
            refine x_iload_n dX1_takeMenu_36 rfl ?_
            refine x_aload_n dX1_takeMenu_37 rfl ?_
            refine m_get_names hM dX1_takeMenu_38 ?_
            refine x_icmp_ge 62 dX1_takeMenu_41 rfl (by omega) (show -2147483648 ≤ S.1 2 ∧ S.1 2 ≤ 2147483647 from ⟨by omega, by omega⟩) (fun c_41 => ?_) (fun c_41 => ?_)
            · refine x_h (congrArg (mh G M B) (show s_c1 S e = s_c1 S (S.1 2) from by rw [show (e : Int) = S.1 2 by have c9 : S.1 2 ≤ (e : Int) := c_41; omega])) ?_
              refine x_iconst dX1_takeMenu_62 ?_
              refine x_istore_n (lv' := [(0, _), (1, _), (2, _), (3, _)]) dX1_takeMenu_63 rfl (by decide) ?_
              have L64 : ∀ (n64 : Nat) (g : Nat), ((196 : Int) - g) < (n64 : Int) → ((g : Int) ≤ 196) → V G X cX1_takeMenu 4 yX1_takeMenu (some .int) 1 (q_X1_takeMenu G M B S b) (0) (0) 64 [(0, .ref (M.1)), (1, iv (b)), (2, iv (cntB (fun k => f_chg S k) k)), (3, iv (g))] [] (mh G M B (s_c2 (s_c1 S (S.1 2)) g)) (0) (0) := by
                intro n64
                induction n64 with
                | zero =>
                  intro g hm hk3
                  exact absurd hm (by omega)
                | succ n64 ih64 =>
                  intro g hm64 hk3
                  refine x_iload_n dX1_takeMenu_64 rfl ?_
                  refine x_sipush dX1_takeMenu_65 ?_
                  refine x_icmp_ge 89 dX1_takeMenu_68 rfl (by omega) (by omega) (fun c_68 => ?_) (fun c_68 => ?_)
                  · refine x_aload_n dX1_takeMenu_89 rfl ?_
                    refine x_iload_n dX1_takeMenu_90 rfl ?_
                    refine m_put_width hM dX1_takeMenu_91 ?_
                    refine x_aload_n dX1_takeMenu_94 rfl ?_
                    refine x_dup dX1_takeMenu_95 ?_
                    refine m_get_built hM dX1_takeMenu_96 ?_
                    refine x_iconst dX1_takeMenu_99 ?_
                    refine x_iadd dX1_takeMenu_100 ?_
                    refine m_put_built hM dX1_takeMenu_101 ?_
                    refine x_iload_n dX1_takeMenu_104 rfl ?_
                    exact x_iret rfl ⟨ri (by rw [f_chgs, eN]), congrArg (mh G M B) (by rw [show (g : Int) = 196 by omega]; rfl)⟩ dX1_takeMenu_105
                  · refine x_aload_n dX1_takeMenu_71 rfl ?_
                    refine m_get_steps hM dX1_takeMenu_72 ?_
                    refine x_iload_n dX1_takeMenu_75 rfl ?_
                    refine x_aload_n dX1_takeMenu_76 rfl ?_
                    refine m_get_newSteps hM dX1_takeMenu_77 ?_
                    refine x_iload_n dX1_takeMenu_80 rfl ?_
                    refine m_ald hM (N := 196) rfl (by omega) (by decide) dX1_takeMenu_81 ?_
                    refine m_ast hM (N := 196) rfl (by omega) (by decide) dX1_takeMenu_82 ?_
                    refine x_iinc (lv' := [(0, _), (1, _), (2, _), (3, _)]) dX1_takeMenu_83 rfl rfl (by decide) ?_
                    refine x_goto 64 dX1_takeMenu_86 rfl ?_
                    refine x_h (congrArg (mh G M B) (c2_s (s_c1 S (S.1 2)) g)) ?_
                    exact ih64 (g + 1) (by omega) (by omega)
              refine x_h (congrArg (mh G M B) (c2_0 _)) ?_
              exact L64 (197) (0) (by decide) (by omega)
            · refine x_aload_n dX1_takeMenu_44 rfl ?_
              refine m_get_pathLength hM dX1_takeMenu_45 ?_
              refine x_iload_n dX1_takeMenu_48 rfl ?_
              refine x_aload_n dX1_takeMenu_49 rfl ?_
              refine m_get_newPathLength hM dX1_takeMenu_50 ?_
              refine x_iload_n dX1_takeMenu_53 rfl ?_
              refine m_ald hM (N := 14) rfl (by have c9 : (e : Int) < S.1 2 := Int.not_le.mp c_41; omega) (by decide) dX1_takeMenu_54 ?_
              refine m_ast hM (N := 14) rfl (by have c9 : (e : Int) < S.1 2 := Int.not_le.mp c_41; omega) (by decide) dX1_takeMenu_55 ?_
              refine x_iinc (lv' := [(0, _), (1, _), (2, _), (3, _)]) dX1_takeMenu_56 rfl rfl (by decide) ?_
              refine x_goto 36 dX1_takeMenu_59 rfl ?_
              refine x_h (congrArg (mh G M B) (c1_s S e)) ?_
              exact ih36 (e + 1) (by have c9 : (e : Int) < S.1 2 := Int.not_le.mp c_41; omega) (by have c9 : (e : Int) < S.1 2 := Int.not_le.mp c_41; omega)
        refine x_h (congrArg (mh G M B) (c1_0 S)) ?_
        exact L36 ((S.1 2).toNat + 1) (0) (by omega) (by omega)
      · refine x_iload_n dX1_takeMenu_12 rfl ?_
        have J26 : V G X cX1_takeMenu 4 yX1_takeMenu (some .int) 1 (q_X1_takeMenu G M B S b) (0) (0) 26 [(0, .ref (M.1)), (1, iv (b)), (2, iv (cntB (fun k => f_chg S k) k)), (3, iv (k))] [iv (bI (f_chg S k)), iv (cntB (fun k => f_chg S k) k)] (mh G M B S) (0) (0) := by
          refine x_iadd dX1_takeMenu_26 ?_
          refine x_istore_n (lv' := [(0, _), (1, _), (2, _), (3, _)]) dX1_takeMenu_27 rfl (by decide) ?_
          refine x_iinc (lv' := [(0, _), (1, _), (2, _), (3, _)]) dX1_takeMenu_28 rfl rfl (by decide) ?_
          refine x_goto 4 dX1_takeMenu_31 rfl ?_
          exact ih4 (k + 1) (by omega) (by omega)
        refine x_aload_n dX1_takeMenu_13 rfl ?_
        refine x_iload_n dX1_takeMenu_14 rfl ?_
        refine k_X1_isPathChanged (a := k) hM dX1_takeMenu_15 (hp1) (hp2) (by omega) (hp3 k (by omega) (by omega)) ?_
        refine x_ifb_eq 25 dX1_takeMenu_18 rfl (fun c_18 => ?_) (fun c_18 => ?_)
        · refine x_iconst dX1_takeMenu_25 ?_
          exact x_ji (by simp [c_18, bI]) J26
        · refine x_iconst dX1_takeMenu_21 ?_
          refine x_goto 26 dX1_takeMenu_22 rfl ?_
          exact x_ji (by simp [c_18, bI]) J26
  exact L4 ((S.1 2).toNat + 1) (0) (by omega) (by omega)
theorem k_X1_takeMenu {G : Gw} {X : Cx} {cc : ByteArray} {nL : Nat} {y : MethodName} {ret : Option FieldType} {dp : Nat} {P : Option Value → Hp → Prop} {mc ms pc : Nat} {lv : List (Nat × Value)} {st : List Value} {kc ks : Nat} {M : Mg} {B : Hp} {S : Ms} {b : Int} (hM : MOk M) (hd : decode cc pc = .ok (.invokevirtual 262, 3)) (hp0 : Wf S) (hp1 : Wm S) (hp2 : B29 S) (hp3 : ∀ i : Int, 0 ≤ i → i < S.1 2 → 0 ≤ S.2 28 i ∧ S.2 28 i ≤ 13) (kk : V G X cc nL y ret dp P mc ms (pc + 3) lv (iv (f_chgs S) :: st) (mh G M B (s_take S b)) kc ks) (hy : y.cls = RX1 := by rfl) (hdp : 1 + 1 ≤ dp := by decide) (hrs : (st.map fun v => v.category).sum ≤ 8 := by first | decide | (simp [Value.category, iv, jv]; done)) : V G X cc nL y ret dp P mc ms pc lv (iv (b) :: .ref M.1 :: st) (mh G M B S) kc ks := by
  refine x_callV (ci := 1) (T := TX1) (N := 33) (As := [iv (b)]) 1 (fun l => c_X1_takeMenu l G M B S b hM hp0 hp1 hp2 hp3) (by rw [hy]; exact q3197) q3199 qs120 q173 q3200 (by decide +kernel) hdp (by decide) (mh_o hM) rfl rfl rfl hrs hd (Nat.zero_le _) (Nat.zero_le _) (fun v h hv => ?_)
  obtain ⟨rfl, rfl⟩ := hv
  exact kk
abbrev q_X1_costNow (G : Gw) (M : Mg) (B : Hp) (S : Ms)  : Option Value → Hp → Prop := fun v_ h_ => v_ = some (iv (f_costNow S)) ∧ h_ = mh G M B (S)
set_option maxHeartbeats 4000000 in
theorem c_X1_costNow (l : Launch) (G : Gw) (M : Mg) (B : Hp) (S : Ms)  (hM : MOk M) (hp0 : Wf S) : Mt l G yX1_costNow cX1_costNow 3 (some .int) 0 [.ref (M.1)] (mh G M B S) (q_X1_costNow G M B S ) (0) (0) := by
  refine Mt.of (lv := [(0, .ref (M.1))]) (by decide) (Nat.le_of_ble_eq_true rfl) rfl (fun X => ?_)
  have h2 := hp0.nm
  refine x_iconst dX1_costNow_0 ?_
  refine x_istore_n (lv' := [(0, _), (1, _)]) dX1_costNow_1 rfl (by decide) ?_
  refine x_iconst dX1_costNow_2 ?_
  refine x_istore_n (lv' := [(0, _), (1, _), (2, _)]) dX1_costNow_3 rfl (by decide) ?_
  have L4 : ∀ (n4 : Nat) (k : Nat), (S.1 2 - k) < (n4 : Int) → ((k : Int) ≤ S.1 2) → V G X cX1_costNow 3 yX1_costNow (some .int) 0 (q_X1_costNow G M B S ) (0) (0) 4 [(0, .ref (M.1)), (1, iv (sumZ (fun k => S.2 5 k * S.2 13 k) k)), (2, iv (k))] [] (mh G M B S) (0) (0) := by
    intro n4
    induction n4 with
    | zero =>
      intro k hm hk
      exact absurd hm (by omega)
    | succ n4 ih4 =>
      intro k hm4 hk
      refine x_iload_n dX1_costNow_4 rfl ?_
      refine x_aload_n dX1_costNow_5 rfl ?_
      refine m_get_names hM dX1_costNow_6 ?_
      refine x_icmp_ge 34 dX1_costNow_9 rfl (by omega) (by omega) (fun c_9 => ?_) (fun c_9 => ?_)
      · refine x_iload_n dX1_costNow_34 rfl ?_
        exact x_iret rfl ⟨ri (by rw [f_costNow, show (S.1 2).toNat = k by omega]), rfl⟩ dX1_costNow_35
      · refine x_iload_n dX1_costNow_12 rfl ?_
        refine x_aload_n dX1_costNow_13 rfl ?_
        refine m_get_uses hM dX1_costNow_14 ?_
        refine x_iload_n dX1_costNow_17 rfl ?_
        refine m_ald hM (N := 14) rfl (by omega) (by decide) dX1_costNow_18 ?_
        refine x_aload_n dX1_costNow_19 rfl ?_
        refine m_get_pathLength hM dX1_costNow_20 ?_
        refine x_iload_n dX1_costNow_23 rfl ?_
        refine m_ald hM (N := 14) rfl (by omega) (by decide) dX1_costNow_24 ?_
        refine x_imul dX1_costNow_25 ?_
        refine x_iadd dX1_costNow_26 ?_
        refine x_istore_n (lv' := [(0, _), (1, _), (2, _)]) dX1_costNow_27 rfl (by decide) ?_
        refine x_iinc (lv' := [(0, _), (1, _), (2, _)]) dX1_costNow_28 rfl rfl (by decide) ?_
        refine x_goto 4 dX1_costNow_31 rfl ?_
        exact ih4 (k + 1) (by omega) (by omega)
  exact L4 ((S.1 2).toNat + 1) (0) (by omega) (by omega)
theorem k_X1_costNow {G : Gw} {X : Cx} {cc : ByteArray} {nL : Nat} {y : MethodName} {ret : Option FieldType} {dp : Nat} {P : Option Value → Hp → Prop} {mc ms pc : Nat} {lv : List (Nat × Value)} {st : List Value} {kc ks : Nat} {M : Mg} {B : Hp} {S : Ms}  (hM : MOk M) (hd : decode cc pc = .ok (.invokevirtual 265, 3)) (hp0 : Wf S) (kk : V G X cc nL y ret dp P mc ms (pc + 3) lv (iv (f_costNow S) :: st) (mh G M B (S)) kc ks) (hy : y.cls = RX1 := by rfl) (hdp : 0 + 1 ≤ dp := by decide) (hrs : (st.map fun v => v.category).sum ≤ 8 := by first | decide | (simp [Value.category, iv, jv]; done)) : V G X cc nL y ret dp P mc ms pc lv (.ref M.1 :: st) (mh G M B S) kc ks := by
  refine x_callV (ci := 1) (T := TX1) (N := 33) (As := []) 0 (fun l => c_X1_costNow l G M B S  hM hp0) (by rw [hy]; exact q3205) q3207 qs122 q173 q3208 (by decide +kernel) hdp (by decide) (mh_o hM) rfl rfl rfl hrs hd (Nat.zero_le _) (Nat.zero_le _) (fun v h hv => ?_)
  obtain ⟨rfl, rfl⟩ := hv
  exact kk
abbrev q_X1_leastCost (G : Gw) (M : Mg) (B : Hp) (S : Ms)  : Option Value → Hp → Prop := fun v_ h_ => ∃ T : Ms, v_ = some (iv (f_least S)) ∧ h_ = mh G M B T ∧ (LCi S (S.1 12) (fun _ _ => True) T)
set_option maxHeartbeats 4000000 in
theorem c_X1_leastCost (l : Launch) (G : Gw) (M : Mg) (B : Hp) (S : Ms)  (hM : MOk M) (hp0 : Wf S) (hp1 : 2 ≤ S.1 12 ∧ S.1 12 ≤ 4) (hp2 : 1 ≤ S.1 2) : Mt l G yX1_leastCost cX1_leastCost 1 (some .int) 4 [.ref (M.1)] (mh G M B S) (q_X1_leastCost G M B S ) (0) (0) := by
  refine Mt.of (lv := [(0, .ref (M.1))]) (by decide) (Nat.le_of_ble_eq_true rfl) rfl (fun X => ?_)
  have h2 := hp0.nm
  refine x_aload_n dX1_leastCost_0 rfl ?_
  refine x_aload_n dX1_leastCost_1 rfl ?_
  refine m_get_width hM dX1_leastCost_2 ?_
  refine k_X1_layCosts (b := S.1 12) hM dX1_leastCost_5 (hp0) (hp1) (fun T5_1 rT5_1 => ?_)
  refine x_aload_n dX1_leastCost_8 rfl ?_
  refine x_iconst dX1_leastCost_9 ?_
  refine x_aload_n dX1_leastCost_10 rfl ?_
  refine m_get_names hM dX1_leastCost_11 ?_
  refine k_X1_costAt (f := 0) (t := T5_1.1 2) hM dX1_leastCost_14 (by decide) (by rw [rT5_1.1]; omega) ?_
  exact x_iret rfl ⟨_, ri (by rw [rT5_1.1]; exact (rT5_1.2.2 0 (S.1 2) (by omega) (by omega) (by omega) trivial).1), rfl, rT5_1⟩ dX1_leastCost_17
theorem k_X1_leastCost {G : Gw} {X : Cx} {cc : ByteArray} {nL : Nat} {y : MethodName} {ret : Option FieldType} {dp : Nat} {P : Option Value → Hp → Prop} {mc ms pc : Nat} {lv : List (Nat × Value)} {st : List Value} {kc ks : Nat} {M : Mg} {B : Hp} {S : Ms}  (hM : MOk M) (hd : decode cc pc = .ok (.invokevirtual 268, 3)) (hp0 : Wf S) (hp1 : 2 ≤ S.1 12 ∧ S.1 12 ≤ 4) (hp2 : 1 ≤ S.1 2) (kk : ∀ T : Ms, (LCi S (S.1 12) (fun _ _ => True) T) → V G X cc nL y ret dp P mc ms (pc + 3) lv (iv (f_least S) :: st) (mh G M B T) kc ks) (hy : y.cls = RX1 := by rfl) (hdp : 4 + 1 ≤ dp := by decide) (hrs : (st.map fun v => v.category).sum ≤ 8 := by first | decide | (simp [Value.category, iv, jv]; done)) : V G X cc nL y ret dp P mc ms pc lv (.ref M.1 :: st) (mh G M B S) kc ks := by
  refine x_callV (ci := 1) (T := TX1) (N := 33) (As := []) 0 (fun l => c_X1_leastCost l G M B S  hM hp0 hp1 hp2) (by rw [hy]; exact q3213) q3215 qs123 q173 q3216 (by decide +kernel) hdp (by decide) (mh_o hM) rfl rfl rfl hrs hd (Nat.zero_le _) (Nat.zero_le _) (fun v h hv => ?_)
  obtain ⟨T, rfl, rfl, hv⟩ := hv
  exact kk T hv
abbrev q_X1_build (G : Gw) (M : Mg) (B : Hp) (S : Ms) (b : Int) : Option Value → Hp → Prop := fun v_ h_ => ∃ T : Ms, v_ = some (iv (f_build S b)) ∧ h_ = mh G M B T ∧ (r_build S b T)
set_option maxHeartbeats 4000000 in
theorem c_X1_build (l : Launch) (G : Gw) (M : Mg) (B : Hp) (S : Ms) (b : Int) (hM : MOk M) (hp0 : Wf S) (hp1 : Wm S) (hp2 : B29 S) (hp3 : -2147483648 ≤ b ∧ b ≤ 2147483647) : Mt l G yX1_build cX1_build 2 (some .int) 5 [.ref (M.1), iv (b)] (mh G M B S) (q_X1_build G M B S b) (0) (0) := by
  refine Mt.of (lv := [(0, .ref (M.1)), (1, iv (b))]) (by decide) (Nat.le_of_ble_eq_true rfl) rfl (fun X => ?_)
  have h2 := hp0.nm
  refine x_iload_n dX1_build_0 rfl ?_
  refine x_iconst dX1_build_1 ?_
  refine x_iconst dX1_build_2 ?_
  refine k_X1_within (v := b) (lo := 2) (hi := 4) hM dX1_build_3 (hp3) (by decide) (by decide) ?_
  refine x_ifb_ne 12 dX1_build_6 rfl (fun c_6 => ?_) (fun c_6 => ?_)
  · have h9 : 2 ≤ b ∧ b ≤ 4 := by simp at c_6; omega
    refine x_aload_n dX1_build_12 rfl ?_
    refine m_get_names hM dX1_build_13 ?_
    refine x_if_ne 22 dX1_build_16 rfl (by omega) (fun c_16 => ?_) (fun c_16 => ?_)
    · refine x_aload_n dX1_build_22 rfl ?_
      refine x_iload_n dX1_build_23 rfl ?_
      refine k_X1_layMenu (b := b) hM dX1_build_24 (hp0) (h9) (fun T24_1 rT24_1 => ?_)
      have hL := rT24_1
      refine x_aload_n dX1_build_27 rfl ?_
      refine x_iload_n dX1_build_28 rfl ?_
      refine k_X1_takeMenu (b := b) hM dX1_build_29 (hp0.cs hL.cs) (hp1.cs hL.cs) (hL.2.2.2.1 hp2) (fun i i0 i1 => by rw [hL.1] at i1; rw [(hL.2.2.2.2 i i0 i1).1]; have := g_len hp0 h9 (a := i) ⟨i0, i1⟩; omega) ?_
      refine x_pop dX1_build_32 ?_
      refine x_aload_n dX1_build_33 rfl ?_
      refine k_X1_costNow  hM dX1_build_34 (by have hb := hL.take hp0 h9; unfold Wf; rw [hb.1 2 (by decide) (by decide), hb.2.2.2.1 3 rfl (by decide) (by decide), hb.2.2.2.1 4 rfl (by decide) (by decide), hb.2.2.2.1 5 rfl (by decide) (by decide), hb.2.2.2.1 9 rfl (by decide) (by decide)]; exact hp0) ?_
      exact x_iret rfl ⟨_, ri (by rw [f_build, if_pos c_6, if_neg c_16]; exact (hL.take hp0 h9).cost hp0), rfl, by rw [r_build, if_pos c_6, if_neg c_16]; exact hL.take hp0 h9⟩ dX1_build_37
    · refine x_bipush dX1_build_19 ?_
      exact x_iret rfl ⟨_, ri (by rw [f_build, if_pos c_6, if_pos c_16]), rfl, by rw [r_build, if_pos c_6, if_pos c_16]⟩ dX1_build_21
  · refine x_bipush dX1_build_9 ?_
    exact x_iret rfl ⟨_, ri (by rw [f_build, if_neg (bf c_6)]), rfl, by rw [r_build, if_neg (bf c_6)]⟩ dX1_build_11
abbrev q_X1_tend (G : Gw) (M : Mg) (B : Hp) (S : Ms) (s : Int) : Option Value → Hp → Prop := fun v_ h_ => ∃ T : Ms, v_ = some (iv (f_tend S s)) ∧ h_ = mh G M B T ∧ (r_tend S s T)
set_option maxHeartbeats 4000000 in
theorem c_X1_tend (l : Launch) (G : Gw) (M : Mg) (B : Hp) (S : Ms) (s : Int) (hM : MOk M) (hp0 : Wf S) (hp1 : Wm S) (hp2 : B29 S) (hp3 : -2147483648 ≤ s ∧ s ≤ 2147483647) : Mt l G yX1_tend cX1_tend 3 (some .int) 5 [.ref (M.1), iv (s)] (mh G M B S) (q_X1_tend G M B S s) (0) (0) := by
  refine Mt.of (lv := [(0, .ref (M.1)), (1, iv (s))]) (by decide) (Nat.le_of_ble_eq_true rfl) rfl (fun X => ?_)
  have h2 := hp0.nm
  refine x_aload_n dX1_tend_0 rfl ?_
  refine m_get_width hM dX1_tend_1 ?_
  refine x_if_ne 10 dX1_tend_4 rfl (by have := hp1.1; omega) (fun c_4 => ?_) (fun c_4 => ?_)
  · have h8 := hp1.1.resolve_left c_4
    have hl := least_R hp0 hp1 c_4
    refine x_iload_n dX1_tend_10 rfl ?_
    refine x_iconst dX1_tend_11 ?_
    refine x_bipush dX1_tend_12 ?_
    refine k_X1_within (v := s) (lo := 0) (hi := 100) hM dX1_tend_14 (hp3) (by decide) (by decide) ?_
    refine x_ifb_ne 23 dX1_tend_17 rfl (fun c_17 => ?_) (fun c_17 => ?_)
    · have h9 : 0 ≤ s ∧ s ≤ 100 := by simp at c_17; omega
      have hm := mulR h9 hl
      refine x_aload_n dX1_tend_23 rfl ?_
      refine k_X1_leastCost  hM dX1_tend_24 (hp0) (by omega) (by omega) (fun T24_1 rT24_1 => ?_)
      have hL := rT24_1
      refine x_istore_n (lv' := [(0, _), (1, _), (2, _)]) dX1_tend_27 rfl (by decide) ?_
      refine x_bipush dX1_tend_28 ?_
      refine x_aload_n dX1_tend_30 rfl ?_
      refine k_X1_costNow  hM dX1_tend_31 (hp0.cs hL.cs) ?_
      refine x_ji (show f_costNow T24_1 = f_costNow S from f_costNow_cs hL.cs) ?_
      refine x_iload_n dX1_tend_34 rfl ?_
      refine x_isub dX1_tend_35 ?_
      refine x_imul dX1_tend_36 ?_
      refine x_iload_n dX1_tend_37 rfl ?_
      refine x_iload_n dX1_tend_38 rfl ?_
      refine x_imul dX1_tend_39 ?_
      refine x_icmp_gt 45 dX1_tend_40 rfl (by have := costNow_R hp0 hp1; omega) (by omega) (fun c_40 => ?_) (fun c_40 => ?_)
      · refine x_aload_n dX1_tend_45 rfl ?_
        refine x_aload_n dX1_tend_46 rfl ?_
        refine m_get_width hM dX1_tend_47 ?_
        refine k_X1_layMenu (b := T24_1.1 12) hM dX1_tend_50 (hp0.cs hL.cs) (by rw [hL.1]; omega) (fun T50_2 rT50_2 => ?_)
        have hK : LM S (S.1 12) (S.1 2) (T50_2) := by have h7 := rT50_2; rw [hL.1] at h7; exact h7.of_cs hL
        refine x_aload_n dX1_tend_53 rfl ?_
        refine x_aload_n dX1_tend_54 rfl ?_
        refine m_get_width hM dX1_tend_55 ?_
        refine k_X1_takeMenu (b := T50_2.1 12) hM dX1_tend_58 (hp0.cs hK.cs) (hp1.cs hK.cs) (hK.2.2.2.1 hp2) (fun i i0 i1 => by have e2 : (T50_2).1 2 = S.1 2 := congrFun hK.1 2; rw [e2] at i1; rw [(hK.2.2.2.2 i i0 i1).1]; have := g_len hp0 (show 2 ≤ S.1 12 ∧ S.1 12 ≤ 4 by omega) (a := i) ⟨i0, i1⟩; omega) ?_
        exact x_iret rfl ⟨_, ri (by rw [f_tend, if_neg c_4, if_pos c_17, if_neg (Int.not_le.mpr c_40)]; exact hK.chgs hp0), rfl, by rw [r_tend, if_neg c_4, if_pos c_17, if_neg (Int.not_le.mpr c_40)]; exact LM.take2 hp0 (by omega) (congrFun hK.1 12) hK⟩ dX1_tend_61
      · refine x_iconst dX1_tend_43 ?_
        exact x_iret rfl ⟨_, ri (by rw [f_tend, if_neg c_4, if_pos c_17, if_pos (Int.not_lt.mp c_40)]), rfl, by rw [r_tend, if_neg c_4, if_pos c_17, if_pos (Int.not_lt.mp c_40)]; exact hL.cb⟩ dX1_tend_44
    · refine x_bipush dX1_tend_20 ?_
      exact x_iret rfl ⟨_, ri (by rw [f_tend, if_neg c_4, if_neg (bf c_17)]), rfl, by rw [r_tend, if_neg c_4, if_neg (bf c_17)]⟩ dX1_tend_22
  · refine x_bipush dX1_tend_7 ?_
    exact x_iret rfl ⟨_, ri (by rw [f_tend, if_pos c_4]), rfl, by rw [r_tend, if_pos c_4]⟩ dX1_tend_9
abbrev q_X1_path (G : Gw) (M : Mg) (B : Hp) (S : Ms) (a : Int) (i : Int) : Option Value → Hp → Prop := fun v_ h_ => v_ = some (iv (f_path2 S a i)) ∧ h_ = mh G M B (S)
set_option maxHeartbeats 4000000 in
theorem c_X1_path (l : Launch) (G : Gw) (M : Mg) (B : Hp) (S : Ms) (a : Int) (i : Int) (hM : MOk M) (hp0 : Wf S) (hp1 : Wm S) (hp2 : -2147483648 ≤ a ∧ a ≤ 2147483647) (hp3 : -2147483648 ≤ i ∧ i ≤ 2147483647) : Mt l G yX1_path cX1_path 3 (some .int) 2 [.ref (M.1), iv (a), iv (i)] (mh G M B S) (q_X1_path G M B S a i) (0) (0) := by
  refine Mt.of (lv := [(0, .ref (M.1)), (1, iv (a)), (2, iv (i))]) (by decide) (Nat.le_of_ble_eq_true rfl) rfl (fun X => ?_)
  have h2 := hp0.nm
  refine x_aload_n dX1_path_0 rfl ?_
  refine m_get_width hM dX1_path_1 ?_
  refine x_if_ne 10 dX1_path_4 rfl (by have := hp1.1; omega) (fun c_4 => ?_) (fun c_4 => ?_)
  · refine x_aload_n dX1_path_10 rfl ?_
    refine x_iload_n dX1_path_11 rfl ?_
    refine k_X1_isName (a := a) hM dX1_path_12 (hp0) (hp2) ?_
    refine x_ifb_eq 48 dX1_path_15 rfl (fun c_15 => ?_) (fun c_15 => ?_)
    · refine x_bipush dX1_path_48 ?_
      exact x_iret rfl ⟨ri (by rw [f_path2, if_neg c_4, if_neg (by rw [show inB a 0 (S.1 2 - 1) = false from c_15]; simp)]), rfl⟩ dX1_path_50
    · have h9 : 0 ≤ a ∧ a < S.1 2 := by simp at c_15; omega
      have h7 := hp1.2.1 a (by omega) (by omega)
      refine x_iload_n dX1_path_18 rfl ?_
      refine x_iconst dX1_path_19 ?_
      refine x_aload_n dX1_path_20 rfl ?_
      refine m_get_pathLength hM dX1_path_21 ?_
      refine x_iload_n dX1_path_24 rfl ?_
      refine m_ald hM (N := 14) rfl (by omega) (by decide) dX1_path_25 ?_
      refine x_iconst dX1_path_26 ?_
      refine x_isub dX1_path_27 ?_
      refine k_X1_within (v := i) (lo := 0) (hi := (S.2 13 a) - 1) hM dX1_path_28 (hp3) (by decide) (by omega) ?_
      refine x_ifb_eq 48 dX1_path_31 rfl (fun c_31 => ?_) (fun c_31 => ?_)
      · refine x_bipush dX1_path_48 ?_
        exact x_iret rfl ⟨ri (by rw [f_path2, if_neg c_4, if_neg (by rw [show inB i 0 (S.2 13 a - 1) = false from c_31]; simp)]), rfl⟩ dX1_path_50
      · have h8 : 0 ≤ i ∧ i < S.2 13 a := by simp at c_31; omega
        refine x_aload_n dX1_path_34 rfl ?_
        refine m_get_steps hM dX1_path_35 ?_
        refine x_bipush dX1_path_38 ?_
        refine x_iload_n dX1_path_40 rfl ?_
        refine x_imul dX1_path_41 ?_
        refine x_iload_n dX1_path_42 rfl ?_
        refine x_iadd dX1_path_43 ?_
        refine m_ald hM (N := 196) rfl (by omega) (by decide) dX1_path_44 ?_
        refine x_goto 50 dX1_path_45 rfl ?_
        exact x_iret rfl ⟨ri (by rw [f_path2, if_neg c_4, if_pos (by rw [show inB a 0 (S.1 2 - 1) = true from c_15, show inB i 0 (S.2 13 a - 1) = true from c_31]; rfl)]), rfl⟩ dX1_path_50
  · refine x_bipush dX1_path_7 ?_
    exact x_iret rfl ⟨ri (by rw [f_path2, if_pos c_4]), rfl⟩ dX1_path_9
