/-! MODEL 12: a list is read -/
set_option maxRecDepth 100000
abbrev q_X1_goes (G : Gw) (M : Mg) (B : Hp) (S : Ms) (b : Bool) (n : Int) : Option Value → Hp → Prop := fun v_ h_ => v_ = some (iv (bI (b))) ∧ h_ = mh G M B (s_goes S b n)
set_option maxHeartbeats 4000000 in
theorem c_X1_goes (l : Launch) (G : Gw) (M : Mg) (B : Hp) (S : Ms) (b : Bool) (n : Int) (hM : MOk M)  : Mt l G yX1_goes cX1_goes 3 (some .boolean) 0 [.ref (M.1), iv (bI (b)), iv (n)] (mh G M B S) (q_X1_goes G M B S b n) (0) (0) := by
  refine Mt.of (lv := [(0, .ref (M.1)), (1, iv (bI (b))), (2, iv (n))]) (by decide) (Nat.le_of_ble_eq_true rfl) rfl (fun X => ?_)
  refine x_aload_n dX1_goes_0 rfl ?_
  have J13 : V G X cX1_goes 3 yX1_goes (some .boolean) 0 (q_X1_goes G M B S b n) (0) (0) 13 [(0, .ref (M.1)), (1, iv (bI (b))), (2, iv (n))] [iv (if b then n else S.1 16), .ref (M.1)] (mh G M B S) (0) (0) := by
    refine m_put_stage hM dX1_goes_13 ?_
    refine x_iload_n dX1_goes_16 rfl ?_
    exact x_zret rfl (nar_b _) ⟨congrArg (fun b => some (iv (bI b))) (by first | rfl | (simp_all; done) | (simp; omega) | (simp_all; omega)), rfl⟩ dX1_goes_17
  refine x_iload_n dX1_goes_1 rfl ?_
  refine x_ifb_eq 9 dX1_goes_2 rfl (fun c_2 => ?_) (fun c_2 => ?_)
  · refine x_aload_n dX1_goes_9 rfl ?_
    refine m_get_stage hM dX1_goes_10 ?_
    exact x_ji (by rw [if_neg (bf c_2)]) J13
  · refine x_iload_n dX1_goes_5 rfl ?_
    refine x_goto 13 dX1_goes_6 rfl ?_
    exact x_ji (by rw [if_pos c_2]) J13
theorem k_X1_goes {G : Gw} {X : Cx} {cc : ByteArray} {nL : Nat} {y : MethodName} {ret : Option FieldType} {dp : Nat} {P : Option Value → Hp → Prop} {mc ms pc : Nat} {lv : List (Nat × Value)} {st : List Value} {kc ks : Nat} {M : Mg} {B : Hp} {S : Ms} {b : Bool} {n : Int} (hM : MOk M) (hd : decode cc pc = .ok (.invokevirtual 91, 3))  (kk : V G X cc nL y ret dp P mc ms (pc + 3) lv (iv (bI (b)) :: st) (mh G M B (s_goes S b n)) kc ks) (hy : y.cls = RX1 := by rfl) (hdp : 0 + 1 ≤ dp := by decide) (hrs : (st.map fun v => v.category).sum ≤ 8 := by first | decide | (simp [Value.category, iv, jv]; done)) : V G X cc nL y ret dp P mc ms pc lv (iv (n) :: iv (bI (b)) :: .ref M.1 :: st) (mh G M B S) kc ks := by
  refine x_callV (ci := 1) (T := TX1) (N := 33) (As := [iv (bI (b)), iv (n)]) 2 (fun l => c_X1_goes l G M B S b n hM ) (by rw [hy]; exact q2959) q2961 qs78 q173 q2962 (by decide +kernel) hdp (by decide) (mh_o hM) rfl rfl rfl hrs hd (Nat.zero_le _) (Nat.zero_le _) (fun v h hv => ?_)
  obtain ⟨rfl, rfl⟩ := hv
  exact kk
abbrev q_X1_isNewTwice (G : Gw) (M : Mg) (B : Hp) (S : Ms)  : Option Value → Hp → Prop := fun v_ h_ => v_ = some (iv (bI (f_twice S))) ∧ h_ = mh G M B (S)
set_option maxHeartbeats 4000000 in
theorem c_X1_isNewTwice (l : Launch) (G : Gw) (M : Mg) (B : Hp) (S : Ms)  (hM : MOk M) (hp0 : RI S) (hp1 : S.1 16 = 1) : Mt l G yX1_isNewTwice cX1_isNewTwice 5 (some .boolean) 0 [.ref (M.1)] (mh G M B S) (q_X1_isNewTwice G M B S ) (0) (0) := by
  refine Mt.of (lv := [(0, .ref (M.1))]) (by decide) (Nat.le_of_ble_eq_true rfl) rfl (fun X => ?_)
  obtain ⟨r1, r2, r3, r4, r5, r6, r7⟩ := hp0
  have r6 := r6 (Or.inl hp1)
  have r3 := r3 (by omega)
  refine x_iconst dX1_isNewTwice_0 ?_
  refine x_istore_n (lv' := [(0, _), (1, _)]) dX1_isNewTwice_1 rfl (by decide) ?_
  refine x_iconst dX1_isNewTwice_2 ?_
  refine x_istore_n (lv' := [(0, _), (1, _), (2, _)]) dX1_isNewTwice_3 rfl (by decide) ?_
  have L4 : ∀ (n4 : Nat) (k : Nat) (is : Bool), (S.1 17 - k) < (n4 : Int) → ((k : Int) ≤ S.1 17) → (is = anyB (fun k => f_sameN S k) k) → V G X cX1_isNewTwice 5 yX1_isNewTwice (some .boolean) 0 (q_X1_isNewTwice G M B S ) (0) (0) 4 [(0, .ref (M.1)), (1, iv (bI (is))), (2, iv (k))] [] (mh G M B S) (0) (0) := by
    intro n4
    induction n4 with
    | zero =>
      intro k is hm hk hi
      exact absurd hm (by omega)
    | succ n4 ih4 =>
      intro k is hm4 hk hi
      refine x_iload_n dX1_isNewTwice_4 rfl ?_
      refine x_aload_n dX1_isNewTwice_5 rfl ?_
      refine m_get_newNames hM dX1_isNewTwice_6 ?_
      refine x_icmp_ge 119 dX1_isNewTwice_9 rfl (by omega) (by omega) (fun c_9 => ?_) (fun c_9 => ?_)
      · refine x_iload_n dX1_isNewTwice_119 rfl ?_
        exact x_zret rfl (nar_b _) ⟨congrArg (fun b => some (iv (bI b))) (by rw [hi, f_twice, show (S.1 17).toNat = k by omega]), rfl⟩ dX1_isNewTwice_120
      · have r8 := r5 k (by omega) (by omega)
        have J35 : V G X cX1_isNewTwice 5 yX1_isNewTwice (some .boolean) 0 (q_X1_isNewTwice G M B S ) (0) (0) 35 [(0, .ref (M.1)), (1, iv (bI (is))), (2, iv (k))] [iv (bI (decide (S.2 18 k = S.2 18 (S.1 17))))] (mh G M B S) (0) (0) := by
          refine x_istore_n (lv' := [(0, _), (1, _), (2, _), (3, _)]) dX1_isNewTwice_35 rfl (by decide) ?_
          refine x_iconst dX1_isNewTwice_36 ?_
          refine x_istore (lv' := [(0, _), (1, _), (2, _), (3, _), (4, _)]) dX1_isNewTwice_37 rfl (by decide) ?_
          have L39 : ∀ (n39 : Nat) (i : Nat) (sm : Bool), (S.2 18 (S.1 17) - i) < (n39 : Int) → ((i : Int) ≤ S.2 18 (S.1 17)) → (sm = (decide (S.2 18 k = S.2 18 (S.1 17)) && allB (fun i => decide (S.2 19 (8 * k + i) = S.2 19 (8 * S.1 17 + i))) i)) → V G X cX1_isNewTwice 5 yX1_isNewTwice (some .boolean) 0 (q_X1_isNewTwice G M B S ) (0) (0) 39 [(0, .ref (M.1)), (1, iv (bI (is))), (2, iv (k)), (3, iv (bI (sm))), (4, iv (i))] [] (mh G M B S) (0) (0) := by
            intro n39
            induction n39 with
            | zero =>
              intro i sm hm hii hs
              exact absurd hm (by omega)
            | succ n39 ih39 =>
              intro i sm hm39 hii hs
              refine x_iload dX1_isNewTwice_39 rfl ?_
              refine x_aload_n dX1_isNewTwice_41 rfl ?_
              refine m_get_newLength hM dX1_isNewTwice_42 ?_
              refine x_aload_n dX1_isNewTwice_45 rfl ?_
              refine m_get_newNames hM dX1_isNewTwice_46 ?_
              refine m_ald hM (N := 14) rfl (by omega) (by decide) dX1_isNewTwice_49 ?_
              refine x_icmp_ge 99 dX1_isNewTwice_50 rfl (by omega) (by omega) (fun c_50 => ?_) (fun c_50 => ?_)
              · have hsm : sm = f_sameN S k := by rw [hs, f_sameN, show (S.2 18 (S.1 17)).toNat = i by omega]
                have J112 : V G X cX1_isNewTwice 5 yX1_isNewTwice (some .boolean) 0 (q_X1_isNewTwice G M B S ) (0) (0) 112 [(0, .ref (M.1)), (1, iv (bI (is))), (2, iv (k)), (3, iv (bI (sm))), (4, iv (i))] [iv (bI (is || f_sameN S k))] (mh G M B S) (0) (0) := by
                  refine x_istore_n (lv' := [(0, _), (1, _), (2, _), (3, _), (4, _)]) dX1_isNewTwice_112 rfl (by decide) ?_
                  refine x_iinc (lv' := [(0, _), (1, _), (2, _), (3, _), (4, _)]) dX1_isNewTwice_113 rfl rfl (by decide) ?_
                  refine x_goto 4 dX1_isNewTwice_116 rfl ?_
                  refine x_lvp [0, 1, 2] (lv' := [(0, _), (1, _), (2, _)]) rfl ?_
                  exact ih4 (k + 1) (_) (by omega) (by omega) (by rw [hi, anyB])
                refine x_iload_n dX1_isNewTwice_99 rfl ?_
                refine x_ifb_ne 107 dX1_isNewTwice_100 rfl (fun c_100 => ?_) (fun c_100 => ?_)
                · refine x_iconst dX1_isNewTwice_107 ?_
                  refine x_goto 112 dX1_isNewTwice_108 rfl ?_
                  exact x_jt (by rw [← hsm]; simp_all) J112
                · refine x_iload_n dX1_isNewTwice_103 rfl ?_
                  refine x_ifb_eq 111 dX1_isNewTwice_104 rfl (fun c_104 => ?_) (fun c_104 => ?_)
                  · refine x_iconst dX1_isNewTwice_111 ?_
                    exact x_jf (by rw [← hsm]; simp_all) J112
                  · refine x_iconst dX1_isNewTwice_107 ?_
                    refine x_goto 112 dX1_isNewTwice_108 rfl ?_
                    exact x_jt (by rw [← hsm]; simp_all) J112
              · have J92 : V G X cX1_isNewTwice 5 yX1_isNewTwice (some .boolean) 0 (q_X1_isNewTwice G M B S ) (0) (0) 92 [(0, .ref (M.1)), (1, iv (bI (is))), (2, iv (k)), (3, iv (bI (sm))), (4, iv (i))] [iv (bI (sm && decide (S.2 19 (8 * k + i) = S.2 19 (8 * S.1 17 + i))))] (mh G M B S) (0) (0) := by
                  refine x_istore_n (lv' := [(0, _), (1, _), (2, _), (3, _), (4, _)]) dX1_isNewTwice_92 rfl (by decide) ?_
                  refine x_iinc (lv' := [(0, _), (1, _), (2, _), (3, _), (4, _)]) dX1_isNewTwice_93 rfl rfl (by decide) ?_
                  refine x_goto 39 dX1_isNewTwice_96 rfl ?_
                  exact ih39 (i + 1) (_) (by omega) (by omega) (by rw [hs, allB, Bool.and_assoc])
                refine x_iload_n dX1_isNewTwice_53 rfl ?_
                refine x_ifb_eq 91 dX1_isNewTwice_54 rfl (fun c_54 => ?_) (fun c_54 => ?_)
                · refine x_iconst dX1_isNewTwice_91 ?_
                  exact x_jf (by first | (simp_all; done) | (simp [c_54, c_84]; done)) J92
                · refine x_aload_n dX1_isNewTwice_57 rfl ?_
                  refine m_get_newLetters hM dX1_isNewTwice_58 ?_
                  refine x_bipush dX1_isNewTwice_61 ?_
                  refine x_iload_n dX1_isNewTwice_63 rfl ?_
                  refine x_imul dX1_isNewTwice_64 ?_
                  refine x_iload dX1_isNewTwice_65 rfl ?_
                  refine x_iadd dX1_isNewTwice_67 ?_
                  refine m_ald hM (N := 112) rfl (by omega) (by decide) dX1_isNewTwice_68 ?_
                  refine x_aload_n dX1_isNewTwice_69 rfl ?_
                  refine m_get_newLetters hM dX1_isNewTwice_70 ?_
                  refine x_bipush dX1_isNewTwice_73 ?_
                  refine x_aload_n dX1_isNewTwice_75 rfl ?_
                  refine m_get_newNames hM dX1_isNewTwice_76 ?_
                  refine x_imul dX1_isNewTwice_79 ?_
                  refine x_iload dX1_isNewTwice_80 rfl ?_
                  refine x_iadd dX1_isNewTwice_82 ?_
                  refine m_ald hM (N := 112) rfl (by omega) (by decide) dX1_isNewTwice_83 ?_
                  refine x_icmp_ne 91 dX1_isNewTwice_84 rfl (by have hs2 := hs; rw [c_54] at hs2; have hs2 := hs2.symm; rw [Bool.and_eq_true, decide_eq_true_eq] at hs2; have := r8.2.2 i (by omega) (by omega); omega) (by have := r6.2 i (by omega) (by omega); omega) (fun c_84 => ?_) (fun c_84 => ?_)
                  · refine x_iconst dX1_isNewTwice_91 ?_
                    exact x_jf (by first | (simp_all; done) | (simp [c_54, c_84]; done)) J92
                  · refine x_iconst dX1_isNewTwice_87 ?_
                    refine x_goto 92 dX1_isNewTwice_88 rfl ?_
                    exact x_jt (by first | (simp_all; done) | (simp [c_54, c_84]; done)) J92
          exact L39 ((S.2 18 (S.1 17)).toNat + 1) (0) (_) (by omega) (by omega) (by simp [allB])
        refine x_aload_n dX1_isNewTwice_12 rfl ?_
        refine m_get_newLength hM dX1_isNewTwice_13 ?_
        refine x_iload_n dX1_isNewTwice_16 rfl ?_
        refine m_ald hM (N := 14) rfl (by omega) (by decide) dX1_isNewTwice_17 ?_
        refine x_aload_n dX1_isNewTwice_18 rfl ?_
        refine m_get_newLength hM dX1_isNewTwice_19 ?_
        refine x_aload_n dX1_isNewTwice_22 rfl ?_
        refine m_get_newNames hM dX1_isNewTwice_23 ?_
        refine m_ald hM (N := 14) rfl (by omega) (by decide) dX1_isNewTwice_26 ?_
        refine x_icmp_ne 34 dX1_isNewTwice_27 rfl (by omega) (by omega) (fun c_27 => ?_) (fun c_27 => ?_)
        · refine x_iconst dX1_isNewTwice_34 ?_
          exact x_jf (by first | (simp_all; done) | (simp; omega) | (simp_all; omega)) J35
        · refine x_iconst dX1_isNewTwice_30 ?_
          refine x_goto 35 dX1_isNewTwice_31 rfl ?_
          exact x_jt (by first | (simp_all; done) | (simp; omega) | (simp_all; omega)) J35
  exact L4 ((S.1 17).toNat + 1) (0) (false) (by omega) (by omega) (rfl)
theorem k_X1_isNewTwice {G : Gw} {X : Cx} {cc : ByteArray} {nL : Nat} {y : MethodName} {ret : Option FieldType} {dp : Nat} {P : Option Value → Hp → Prop} {mc ms pc : Nat} {lv : List (Nat × Value)} {st : List Value} {kc ks : Nat} {M : Mg} {B : Hp} {S : Ms}  (hM : MOk M) (hd : decode cc pc = .ok (.invokevirtual 87, 3)) (hp0 : RI S) (hp1 : S.1 16 = 1) (kk : V G X cc nL y ret dp P mc ms (pc + 3) lv (iv (bI (f_twice S)) :: st) (mh G M B (S)) kc ks) (hy : y.cls = RX1 := by rfl) (hdp : 0 + 1 ≤ dp := by decide) (hrs : (st.map fun v => v.category).sum ≤ 8 := by first | decide | (simp [Value.category, iv, jv]; done)) : V G X cc nL y ret dp P mc ms pc lv (.ref M.1 :: st) (mh G M B S) kc ks := by
  refine x_callV (ci := 1) (T := TX1) (N := 33) (As := []) 0 (fun l => c_X1_isNewTwice l G M B S  hM hp0 hp1) (by rw [hy]; exact q2955) q2957 qs77 q173 q2958 (by decide +kernel) hdp (by decide) (mh_o hM) rfl rfl rfl hrs hd (Nat.zero_le _) (Nat.zero_le _) (fun v h hv => ?_)
  obtain ⟨rfl, rfl⟩ := hv
  exact kk
abbrev q_X1_takesName (G : Gw) (M : Mg) (B : Hp) (S : Ms) (c : Int) : Option Value → Hp → Prop := fun v_ h_ => v_ = some (iv (bI (f_tName S c))) ∧ h_ = mh G M B (s_tName S c)
set_option maxHeartbeats 4000000 in
theorem c_X1_takesName (l : Launch) (G : Gw) (M : Mg) (B : Hp) (S : Ms) (c : Int) (hM : MOk M) (hp0 : RI S) (hp1 : S.1 16 < 2) (hp2 : -2147483648 ≤ c ∧ c ≤ 2147483647) : Mt l G yX1_takesName cX1_takesName 3 (some .boolean) 1 [.ref (M.1), iv (c)] (mh G M B S) (q_X1_takesName G M B S c) (0) (0) := by
  refine Mt.of (lv := [(0, .ref (M.1)), (1, iv (c))]) (by decide) (Nat.le_of_ble_eq_true rfl) rfl (fun X => ?_)
  have hR := hp0
  obtain ⟨r1, r2, r3, r4, r5, r6, r7⟩ := hp0
  have r3 := r3 (by omega)
  have e16 : (s_nm0 S).1 16 = S.1 16 := by unfold s_nm0; split <;> rfl
  have e17 : (s_nm0 S).1 17 = S.1 17 := by unfold s_nm0; split <;> rfl
  have eL : 0 ≤ (s_nm0 S).2 18 (S.1 17) ∧ (s_nm0 S).2 18 (S.1 17) ≤ 8 := by unfold s_nm0; split; (rw [sa_s]; omega); (have := r6 (Or.inl (by omega)); omega)
  have e1 : S.1 16 = 1 → s_nm0 S = S := fun h => by unfold s_nm0; rw [if_neg (by omega)]
  have J17 : V G X cX1_takesName 3 yX1_takesName (some .boolean) 1 (q_X1_takesName G M B S c) (0) (0) 17 [(0, .ref (M.1)), (1, iv (c))] [] (mh G M B (s_nm0 S)) (0) (0) := by
    refine x_iload_n dX1_takesName_17 rfl ?_
    refine x_bipush dX1_takesName_18 ?_
    refine x_icmp_ne 49 dX1_takesName_20 rfl (by omega) (by omega) (fun c_20 => ?_) (fun c_20 => ?_)
    · have J79 : V G X cX1_takesName 3 yX1_takesName (some .boolean) 1 (q_X1_takesName G M B S c) (0) (0) 79 [(0, .ref (M.1)), (1, iv (c))] [iv (bI (b_let (s_nm0 S) c))] (mh G M B (s_nm0 S)) (0) (0) := by
        refine x_istore_n (lv' := [(0, _), (1, _), (2, _)]) dX1_takesName_79 rfl (by decide) ?_
        have J120 : V G X cX1_takesName 3 yX1_takesName (some .boolean) 1 (q_X1_takesName G M B S c) (0) (0) 120 [(0, .ref (M.1)), (1, iv (c)), (2, iv (bI (b_let (s_nm0 S) c)))] [] (mh G M B (s_let (s_nm0 S) c)) (0) (0) := by
          refine x_aload_n dX1_takesName_120 rfl ?_
          refine x_iload_n dX1_takesName_121 rfl ?_
          refine x_iconst dX1_takesName_122 ?_
          refine k_X1_goes (b := b_let (s_nm0 S) c) (n := 1) hM dX1_takesName_123  ?_
          exact x_zret rfl (nar_b _) ⟨congrArg (fun b => some (iv (bI b))) (by rw [f_tName, if_neg (by first | (intro z; exact c_20 z.1) | (intro z; rw [e16] at c_28; exact c_28 z.2))]), congrArg (mh G M B) (by rw [s_tName, if_neg (by first | (intro z; exact c_20 z.1) | (intro z; rw [e16] at c_28; exact c_28 z.2))])⟩ dX1_takesName_126
        refine x_iload_n dX1_takesName_80 rfl ?_
        refine x_ifb_eq 120 dX1_takesName_81 rfl (fun c_81 => ?_) (fun c_81 => ?_)
        · refine x_h (congrArg (mh G M B) (show s_nm0 S = s_let (s_nm0 S) c from by unfold s_let; rw [if_neg (bf c_81)])) ?_
          exact J120
        · have h7 : (s_nm0 S).2 18 (S.1 17) < 8 := by have h7 := c_81; unfold b_let at h7; rw [Bool.and_eq_true, decide_eq_true_eq, e17] at h7; exact h7.2
          refine x_aload_n dX1_takesName_84 rfl ?_
          refine m_get_newLetters hM dX1_takesName_85 ?_
          refine x_bipush dX1_takesName_88 ?_
          refine x_aload_n dX1_takesName_90 rfl ?_
          refine m_get_newNames hM dX1_takesName_91 ?_
          refine x_imul dX1_takesName_94 ?_
          refine x_aload_n dX1_takesName_95 rfl ?_
          refine m_get_newLength hM dX1_takesName_96 ?_
          refine x_aload_n dX1_takesName_99 rfl ?_
          refine m_get_newNames hM dX1_takesName_100 ?_
          refine m_ald hM (N := 14) rfl (by rw [e17]; omega) (by decide) dX1_takesName_103 ?_
          refine x_iadd dX1_takesName_104 ?_
          refine x_iload_n dX1_takesName_105 rfl ?_
          refine m_ast hM (N := 112) rfl (by rw [e17]; omega) (by decide) dX1_takesName_106 ?_
          refine x_aload_n dX1_takesName_107 rfl ?_
          refine m_get_newLength hM dX1_takesName_108 ?_
          refine x_aload_n dX1_takesName_111 rfl ?_
          refine m_get_newNames hM dX1_takesName_112 ?_
          refine x_dup2_11 dX1_takesName_115 ?_
          refine m_ald hM (N := 14) rfl (by show 0 ≤ (s_nm0 S).1 17 ∧ (s_nm0 S).1 17 < _; rw [e17]; omega) (by decide) dX1_takesName_116 ?_
          refine x_iconst dX1_takesName_117 ?_
          refine x_iadd dX1_takesName_118 ?_
          refine m_ast hM (N := 14) rfl (by show 0 ≤ (s_nm0 S).1 17 ∧ (s_nm0 S).1 17 < _; rw [e17]; omega) (by decide) dX1_takesName_119 ?_
          refine x_h (congrArg (mh G M B) (show sa (sa (s_nm0 S) 19 ((8 * ((s_nm0 S).1 17)) + ((s_nm0 S).2 18 ((s_nm0 S).1 17))) c) 18 ((sa (s_nm0 S) 19 ((8 * ((s_nm0 S).1 17)) + ((s_nm0 S).2 18 ((s_nm0 S).1 17))) c).1 17) (((sa (s_nm0 S) 19 ((8 * ((s_nm0 S).1 17)) + ((s_nm0 S).2 18 ((s_nm0 S).1 17))) c).2 18 ((sa (s_nm0 S) 19 ((8 * ((s_nm0 S).1 17)) + ((s_nm0 S).2 18 ((s_nm0 S).1 17))) c).1 17)) + 1) = s_let (s_nm0 S) c from by unfold s_let; rw [if_pos c_81]; rfl)) ?_
          exact J120
      refine x_iload_n dX1_takesName_49 rfl ?_
      refine x_bipush dX1_takesName_50 ?_
      refine x_bipush dX1_takesName_52 ?_
      refine k_X1_within (v := c) (lo := 97) (hi := 122) hM dX1_takesName_54 (hp2) (by decide) (by decide) ?_
      refine x_ifb_eq 78 dX1_takesName_57 rfl (fun c_57 => ?_) (fun c_57 => ?_)
      · refine x_iconst dX1_takesName_78 ?_
        exact x_jf (by unfold b_let; rw [show inB c 97 122 = false from c_57]; rfl) J79
      · refine x_aload_n dX1_takesName_60 rfl ?_
        refine m_get_newLength hM dX1_takesName_61 ?_
        refine x_aload_n dX1_takesName_64 rfl ?_
        refine m_get_newNames hM dX1_takesName_65 ?_
        refine m_ald hM (N := 14) rfl (by rw [e17]; omega) (by decide) dX1_takesName_68 ?_
        refine x_bipush dX1_takesName_69 ?_
        refine x_icmp_ge 78 dX1_takesName_71 rfl (by rw [e17]; omega) (by decide) (fun c_71 => ?_) (fun c_71 => ?_)
        · refine x_iconst dX1_takesName_78 ?_
          exact x_jf (by unfold b_let; rw [e17, decide_eq_false (by rw [e17] at c_71; omega)]; simp) J79
        · refine x_iconst dX1_takesName_74 ?_
          refine x_goto 79 dX1_takesName_75 rfl ?_
          exact x_jt (by unfold b_let; rw [e17, show inB c 97 122 = true from c_57, decide_eq_true (by rw [e17] at c_71; omega)]; rfl) J79
    · refine x_aload_n dX1_takesName_23 rfl ?_
      refine m_get_stage hM dX1_takesName_24 ?_
      refine x_iconst dX1_takesName_27 ?_
      refine x_icmp_ne 49 dX1_takesName_28 rfl (by rw [e16]; omega) (by decide) (fun c_28 => ?_) (fun c_28 => ?_)
      · have J79 : V G X cX1_takesName 3 yX1_takesName (some .boolean) 1 (q_X1_takesName G M B S c) (0) (0) 79 [(0, .ref (M.1)), (1, iv (c))] [iv (bI (b_let (s_nm0 S) c))] (mh G M B (s_nm0 S)) (0) (0) := by
          refine x_istore_n (lv' := [(0, _), (1, _), (2, _)]) dX1_takesName_79 rfl (by decide) ?_
          have J120 : V G X cX1_takesName 3 yX1_takesName (some .boolean) 1 (q_X1_takesName G M B S c) (0) (0) 120 [(0, .ref (M.1)), (1, iv (c)), (2, iv (bI (b_let (s_nm0 S) c)))] [] (mh G M B (s_let (s_nm0 S) c)) (0) (0) := by
            refine x_aload_n dX1_takesName_120 rfl ?_
            refine x_iload_n dX1_takesName_121 rfl ?_
            refine x_iconst dX1_takesName_122 ?_
            refine k_X1_goes (b := b_let (s_nm0 S) c) (n := 1) hM dX1_takesName_123  ?_
            exact x_zret rfl (nar_b _) ⟨congrArg (fun b => some (iv (bI b))) (by rw [f_tName, if_neg (by first | (intro z; exact c_20 z.1) | (intro z; rw [e16] at c_28; exact c_28 z.2))]), congrArg (mh G M B) (by rw [s_tName, if_neg (by first | (intro z; exact c_20 z.1) | (intro z; rw [e16] at c_28; exact c_28 z.2))])⟩ dX1_takesName_126
          refine x_iload_n dX1_takesName_80 rfl ?_
          refine x_ifb_eq 120 dX1_takesName_81 rfl (fun c_81 => ?_) (fun c_81 => ?_)
          · refine x_h (congrArg (mh G M B) (show s_nm0 S = s_let (s_nm0 S) c from by unfold s_let; rw [if_neg (bf c_81)])) ?_
            exact J120
          · have h7 : (s_nm0 S).2 18 (S.1 17) < 8 := by have h7 := c_81; unfold b_let at h7; rw [Bool.and_eq_true, decide_eq_true_eq, e17] at h7; exact h7.2
            refine x_aload_n dX1_takesName_84 rfl ?_
            refine m_get_newLetters hM dX1_takesName_85 ?_
            refine x_bipush dX1_takesName_88 ?_
            refine x_aload_n dX1_takesName_90 rfl ?_
            refine m_get_newNames hM dX1_takesName_91 ?_
            refine x_imul dX1_takesName_94 ?_
            refine x_aload_n dX1_takesName_95 rfl ?_
            refine m_get_newLength hM dX1_takesName_96 ?_
            refine x_aload_n dX1_takesName_99 rfl ?_
            refine m_get_newNames hM dX1_takesName_100 ?_
            refine m_ald hM (N := 14) rfl (by rw [e17]; omega) (by decide) dX1_takesName_103 ?_
            refine x_iadd dX1_takesName_104 ?_
            refine x_iload_n dX1_takesName_105 rfl ?_
            refine m_ast hM (N := 112) rfl (by rw [e17]; omega) (by decide) dX1_takesName_106 ?_
            refine x_aload_n dX1_takesName_107 rfl ?_
            refine m_get_newLength hM dX1_takesName_108 ?_
            refine x_aload_n dX1_takesName_111 rfl ?_
            refine m_get_newNames hM dX1_takesName_112 ?_
            refine x_dup2_11 dX1_takesName_115 ?_
            refine m_ald hM (N := 14) rfl (by show 0 ≤ (s_nm0 S).1 17 ∧ (s_nm0 S).1 17 < _; rw [e17]; omega) (by decide) dX1_takesName_116 ?_
            refine x_iconst dX1_takesName_117 ?_
            refine x_iadd dX1_takesName_118 ?_
            refine m_ast hM (N := 14) rfl (by show 0 ≤ (s_nm0 S).1 17 ∧ (s_nm0 S).1 17 < _; rw [e17]; omega) (by decide) dX1_takesName_119 ?_
            refine x_h (congrArg (mh G M B) (show sa (sa (s_nm0 S) 19 ((8 * ((s_nm0 S).1 17)) + ((s_nm0 S).2 18 ((s_nm0 S).1 17))) c) 18 ((sa (s_nm0 S) 19 ((8 * ((s_nm0 S).1 17)) + ((s_nm0 S).2 18 ((s_nm0 S).1 17))) c).1 17) (((sa (s_nm0 S) 19 ((8 * ((s_nm0 S).1 17)) + ((s_nm0 S).2 18 ((s_nm0 S).1 17))) c).2 18 ((sa (s_nm0 S) 19 ((8 * ((s_nm0 S).1 17)) + ((s_nm0 S).2 18 ((s_nm0 S).1 17))) c).1 17)) + 1) = s_let (s_nm0 S) c from by unfold s_let; rw [if_pos c_81]; rfl)) ?_
            exact J120
        refine x_iload_n dX1_takesName_49 rfl ?_
        refine x_bipush dX1_takesName_50 ?_
        refine x_bipush dX1_takesName_52 ?_
        refine k_X1_within (v := c) (lo := 97) (hi := 122) hM dX1_takesName_54 (hp2) (by decide) (by decide) ?_
        refine x_ifb_eq 78 dX1_takesName_57 rfl (fun c_57 => ?_) (fun c_57 => ?_)
        · refine x_iconst dX1_takesName_78 ?_
          exact x_jf (by unfold b_let; rw [show inB c 97 122 = false from c_57]; rfl) J79
        · refine x_aload_n dX1_takesName_60 rfl ?_
          refine m_get_newLength hM dX1_takesName_61 ?_
          refine x_aload_n dX1_takesName_64 rfl ?_
          refine m_get_newNames hM dX1_takesName_65 ?_
          refine m_ald hM (N := 14) rfl (by rw [e17]; omega) (by decide) dX1_takesName_68 ?_
          refine x_bipush dX1_takesName_69 ?_
          refine x_icmp_ge 78 dX1_takesName_71 rfl (by rw [e17]; omega) (by decide) (fun c_71 => ?_) (fun c_71 => ?_)
          · refine x_iconst dX1_takesName_78 ?_
            exact x_jf (by unfold b_let; rw [e17, decide_eq_false (by rw [e17] at c_71; omega)]; simp) J79
          · refine x_iconst dX1_takesName_74 ?_
            refine x_goto 79 dX1_takesName_75 rfl ?_
            exact x_jt (by unfold b_let; rw [e17, show inB c 97 122 = true from c_57, decide_eq_true (by rw [e17] at c_71; omega)]; rfl) J79
      · rw [e16] at c_28
        have e2 := e1 c_28
        refine x_aload_n dX1_takesName_31 rfl ?_
        have J44 : V G X cX1_takesName 3 yX1_takesName (some .boolean) 1 (q_X1_takesName G M B S c) (0) (0) 44 [(0, .ref (M.1)), (1, iv (c))] [iv (bI (!f_twice (s_nm0 S))), .ref (M.1)] (mh G M B (s_nm0 S)) (0) (0) := by
          refine x_iconst dX1_takesName_44 ?_
          refine k_X1_goes (b := !f_twice (s_nm0 S)) (n := 2) hM dX1_takesName_45  ?_
          exact x_zret rfl (nar_b _) ⟨congrArg (fun b => some (iv (bI b))) (by rw [f_tName, if_pos ⟨c_20, c_28⟩, e2]), congrArg (mh G M B) (by rw [s_tName, if_pos ⟨c_20, c_28⟩, e2])⟩ dX1_takesName_48
        refine x_aload_n dX1_takesName_32 rfl ?_
        refine k_X1_isNewTwice  hM dX1_takesName_33 (by rw [e2]; exact hR) (by rw [e2]; exact c_28) ?_
        refine x_ifb_ne 43 dX1_takesName_36 rfl (fun c_36 => ?_) (fun c_36 => ?_)
        · refine x_iconst dX1_takesName_43 ?_
          exact x_jf (by first | (simp_all; done) | (simp; omega) | (simp_all; omega)) J44
        · refine x_iconst dX1_takesName_39 ?_
          refine x_goto 44 dX1_takesName_40 rfl ?_
          exact x_jt (by first | (simp_all; done) | (simp; omega) | (simp_all; omega)) J44
  refine x_aload_n dX1_takesName_0 rfl ?_
  refine m_get_stage hM dX1_takesName_1 ?_
  refine x_if_ne 17 dX1_takesName_4 rfl (by omega) (fun c_4 => ?_) (fun c_4 => ?_)
  · refine x_h (congrArg (mh G M B) (show S = s_nm0 S from by unfold s_nm0; rw [if_neg c_4])) ?_
    exact J17
  · refine x_aload_n dX1_takesName_7 rfl ?_
    refine m_get_newLength hM dX1_takesName_8 ?_
    refine x_aload_n dX1_takesName_11 rfl ?_
    refine m_get_newNames hM dX1_takesName_12 ?_
    refine x_iconst dX1_takesName_15 ?_
    refine m_ast hM (N := 14) rfl (by omega) (by decide) dX1_takesName_16 ?_
    refine x_h (congrArg (mh G M B) (show sa S 18 (S.1 17) 0 = s_nm0 S from by unfold s_nm0; rw [if_pos c_4])) ?_
    exact J17
theorem k_X1_takesName {G : Gw} {X : Cx} {cc : ByteArray} {nL : Nat} {y : MethodName} {ret : Option FieldType} {dp : Nat} {P : Option Value → Hp → Prop} {mc ms pc : Nat} {lv : List (Nat × Value)} {st : List Value} {kc ks : Nat} {M : Mg} {B : Hp} {S : Ms} {c : Int} (hM : MOk M) (hd : decode cc pc = .ok (.invokevirtual 95, 3)) (hp0 : RI S) (hp1 : S.1 16 < 2) (hp2 : -2147483648 ≤ c ∧ c ≤ 2147483647) (kk : V G X cc nL y ret dp P mc ms (pc + 3) lv (iv (bI (f_tName S c)) :: st) (mh G M B (s_tName S c)) kc ks) (hy : y.cls = RX1 := by rfl) (hdp : 1 + 1 ≤ dp := by decide) (hrs : (st.map fun v => v.category).sum ≤ 8 := by first | decide | (simp [Value.category, iv, jv]; done)) : V G X cc nL y ret dp P mc ms pc lv (iv (c) :: .ref M.1 :: st) (mh G M B S) kc ks := by
  refine x_callV (ci := 1) (T := TX1) (N := 33) (As := [iv (c)]) 1 (fun l => c_X1_takesName l G M B S c hM hp0 hp1 hp2) (by rw [hy]; exact q2951) q2953 qs76 q173 q2954 (by decide +kernel) hdp (by decide) (mh_o hM) rfl rfl rfl hrs hd (Nat.zero_le _) (Nat.zero_le _) (fun v h hv => ?_)
  obtain ⟨rfl, rfl⟩ := hv
  exact kk
