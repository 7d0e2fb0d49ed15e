/-! MODEL 13: a list is read, whole -/
set_option maxRecDepth 100000
abbrev q_X1_takesUse (G : Gw) (M : Mg) (B : Hp) (S : Ms) (c : Int) : Option Value → Hp → Prop := fun v_ h_ => v_ = some (iv (bI (f_tUse S c))) ∧ h_ = mh G M B (s_tUse S c)
set_option maxHeartbeats 4000000 in
theorem c_X1_takesUse (l : Launch) (G : Gw) (M : Mg) (B : Hp) (S : Ms) (c : Int) (hM : MOk M) (hp0 : RI S) (hp1 : ¬ S.1 16 < 2) (hp2 : 32 ≤ c ∧ c ≤ 126) : Mt l G yX1_takesUse cX1_takesUse 4 (some .boolean) 1 [.ref (M.1), iv (c)] (mh G M B S) (q_X1_takesUse G M B S c) (0) (0) := by
  refine Mt.of (lv := [(0, .ref (M.1)), (1, iv (c))]) (by decide) (Nat.le_of_ble_eq_true rfl) rfl (fun X => ?_)
  have hR := hp0
  obtain ⟨r1, r2, r3, r4, r5, r6, r7⟩ := hp0
  refine x_iload_n dX1_takesUse_0 rfl ?_
  refine x_bipush dX1_takesUse_1 ?_
  refine x_isub dX1_takesUse_3 ?_
  refine x_istore_n (lv' := [(0, _), (1, _), (2, _)]) dX1_takesUse_4 rfl (by decide) ?_
  refine x_aload_n dX1_takesUse_5 rfl ?_
  refine m_get_stage hM dX1_takesUse_6 ?_
  refine x_iconst dX1_takesUse_9 ?_
  refine x_icmp_ne 60 dX1_takesUse_10 rfl (by omega) (by omega) (fun c_10 => ?_) (fun c_10 => ?_)
  · refine x_iload_n dX1_takesUse_60 rfl ?_
    refine x_bipush dX1_takesUse_61 ?_
    refine x_icmp_ne 86 dX1_takesUse_63 rfl (by omega) (by omega) (fun c_63 => ?_) (fun c_63 => ?_)
    · have J109 : V G X cX1_takesUse 4 yX1_takesUse (some .boolean) 1 (q_X1_takesUse G M B S c) (0) (0) 109 [(0, .ref (M.1)), (1, iv (c)), (2, iv (c - 48))] [iv (bI (decide (S.1 16 = 3) && inB (c - 48) 0 9))] (mh G M B S) (0) (0) := by
        refine x_istore_n (lv' := [(0, _), (1, _), (2, _), (3, _)]) dX1_takesUse_109 rfl (by decide) ?_
        have J141 : V G X cX1_takesUse 4 yX1_takesUse (some .boolean) 1 (q_X1_takesUse G M B S c) (0) (0) 141 [(0, .ref (M.1)), (1, iv (c)), (2, iv (c - 48)), (3, iv (bI (decide (S.1 16 = 3) && inB (c - 48) 0 9)))] [] (mh G M B (if decide (S.1 16 = 3) && inB (c - 48) 0 9 then sa S 20 (S.1 17 - 1) (10 * S.2 20 (S.1 17 - 1) + (c - 48)) else S)) (0) (0) := by
          refine x_aload_n dX1_takesUse_141 rfl ?_
          refine x_iload_n dX1_takesUse_142 rfl ?_
          refine x_iconst dX1_takesUse_143 ?_
          refine k_X1_goes (b := decide (S.1 16 = 3) && inB (c - 48) 0 9) (n := 4) hM dX1_takesUse_144  ?_
          exact x_zret rfl (nar_b _) ⟨congrArg (fun b => some (iv (bI b))) (by rw [f_tUse, if_neg c_10, if_neg c_63]), congrArg (mh G M B) (by rw [s_tUse, if_neg c_10, if_neg c_63])⟩ dX1_takesUse_147
        refine x_iload_n dX1_takesUse_110 rfl ?_
        refine x_ifb_eq 141 dX1_takesUse_111 rfl (fun c_111 => ?_) (fun c_111 => ?_)
        · refine x_h (congrArg (mh G M B) (show S = if decide (S.1 16 = 3) && inB (c - 48) 0 9 then sa S 20 (S.1 17 - 1) (10 * S.2 20 (S.1 17 - 1) + (c - 48)) else S from by rw [if_neg (bf c_111)])) ?_
          exact J141
        · have r4 := r4 (by have h7 := c_111; rw [Bool.and_eq_true, decide_eq_true_eq] at h7; omega)
          refine x_aload_n dX1_takesUse_114 rfl ?_
          refine m_get_newUses hM dX1_takesUse_115 ?_
          refine x_aload_n dX1_takesUse_118 rfl ?_
          refine m_get_newNames hM dX1_takesUse_119 ?_
          refine x_iconst dX1_takesUse_122 ?_
          refine x_isub dX1_takesUse_123 ?_
          refine x_bipush dX1_takesUse_124 ?_
          refine x_aload_n dX1_takesUse_126 rfl ?_
          refine m_get_newUses hM dX1_takesUse_127 ?_
          refine x_aload_n dX1_takesUse_130 rfl ?_
          refine m_get_newNames hM dX1_takesUse_131 ?_
          refine x_iconst dX1_takesUse_134 ?_
          refine x_isub dX1_takesUse_135 ?_
          refine m_ald hM (N := 14) rfl (by omega) (by decide) dX1_takesUse_136 ?_
          refine x_imul dX1_takesUse_137 ?_
          refine x_iload_n dX1_takesUse_138 rfl ?_
          refine x_iadd dX1_takesUse_139 ?_
          refine m_ast hM (N := 14) rfl (by omega) (by decide) dX1_takesUse_140 ?_
          refine x_h (congrArg (mh G M B) (show sa S 20 ((S.1 17) - 1) ((10 * (S.2 20 ((S.1 17) - 1))) + (c - 48)) = if decide (S.1 16 = 3) && inB (c - 48) 0 9 then sa S 20 (S.1 17 - 1) (10 * S.2 20 (S.1 17 - 1) + (c - 48)) else S from by rw [if_pos c_111])) ?_
          exact J141
      refine x_aload_n dX1_takesUse_86 rfl ?_
      refine m_get_stage hM dX1_takesUse_87 ?_
      refine x_iconst dX1_takesUse_90 ?_
      refine x_icmp_ne 108 dX1_takesUse_91 rfl (by omega) (by omega) (fun c_91 => ?_) (fun c_91 => ?_)
      · refine x_iconst dX1_takesUse_108 ?_
        exact x_jf (by rw [decide_eq_false c_91]; rfl) J109
      · refine x_iload_n dX1_takesUse_94 rfl ?_
        refine x_iconst dX1_takesUse_95 ?_
        refine x_bipush dX1_takesUse_96 ?_
        refine k_X1_within (v := c - 48) (lo := 0) (hi := 9) hM dX1_takesUse_98 (by omega) (by decide) (by decide) ?_
        refine x_ifb_eq 108 dX1_takesUse_101 rfl (fun c_101 => ?_) (fun c_101 => ?_)
        · refine x_iconst dX1_takesUse_108 ?_
          exact x_jf (by rw [show inB (c - 48) 0 9 = false from c_101]; simp) J109
        · refine x_iconst dX1_takesUse_104 ?_
          refine x_goto 109 dX1_takesUse_105 rfl ?_
          exact x_jt (by rw [show inB (c - 48) 0 9 = true from c_101, decide_eq_true c_91]; rfl) J109
    · refine x_aload_n dX1_takesUse_66 rfl ?_
      have J81 : V G X cX1_takesUse 4 yX1_takesUse (some .boolean) 1 (q_X1_takesUse G M B S c) (0) (0) 81 [(0, .ref (M.1)), (1, iv (c)), (2, iv (c - 48))] [iv (bI (decide (S.1 17 < 14))), .ref (M.1)] (mh G M B S) (0) (0) := by
        refine x_iconst dX1_takesUse_81 ?_
        refine k_X1_goes (b := decide (S.1 17 < 14)) (n := 0) hM dX1_takesUse_82  ?_
        exact x_zret rfl (nar_b _) ⟨congrArg (fun b => some (iv (bI b))) (by rw [f_tUse, if_neg c_10, if_pos c_63]), congrArg (mh G M B) (by rw [s_tUse, if_neg c_10, if_pos c_63])⟩ dX1_takesUse_85
      refine x_aload_n dX1_takesUse_67 rfl ?_
      refine m_get_newNames hM dX1_takesUse_68 ?_
      refine x_bipush dX1_takesUse_71 ?_
      refine x_icmp_ge 80 dX1_takesUse_73 rfl (by omega) (by omega) (fun c_73 => ?_) (fun c_73 => ?_)
      · refine x_iconst dX1_takesUse_80 ?_
        exact x_jf (by first | (simp_all; done) | (simp; omega) | (simp_all; omega)) J81
      · refine x_iconst dX1_takesUse_76 ?_
        refine x_goto 81 dX1_takesUse_77 rfl ?_
        exact x_jt (by first | (simp_all; done) | (simp; omega) | (simp_all; omega)) J81
  · have r3 := r3 (by omega)
    refine x_aload_n dX1_takesUse_13 rfl ?_
    refine m_get_newUses hM dX1_takesUse_14 ?_
    refine x_aload_n dX1_takesUse_17 rfl ?_
    refine m_get_newNames hM dX1_takesUse_18 ?_
    refine x_iload_n dX1_takesUse_21 rfl ?_
    refine m_ast hM (N := 14) rfl (by omega) (by decide) dX1_takesUse_22 ?_
    refine x_aload_n dX1_takesUse_23 rfl ?_
    refine x_dup dX1_takesUse_24 ?_
    refine m_get_newNames hM dX1_takesUse_25 ?_
    have J43 : V G X cX1_takesUse 4 yX1_takesUse (some .boolean) 1 (q_X1_takesUse G M B S c) (0) (0) 43 [(0, .ref (M.1)), (1, iv (c)), (2, iv (c - 48))] [iv (bI (inB (c - 48) 1 9)), iv ((sa S 20 (S.1 17) (c - 48)).1 17), .ref (M.1)] (mh G M B (sa S 20 (S.1 17) (c - 48))) (0) (0) := by
      refine x_iadd dX1_takesUse_43 ?_
      refine m_put_newNames hM dX1_takesUse_44 ?_
      refine x_aload_n dX1_takesUse_47 rfl ?_
      refine x_iload_n dX1_takesUse_48 rfl ?_
      refine x_iconst dX1_takesUse_49 ?_
      refine x_bipush dX1_takesUse_50 ?_
      refine k_X1_within (v := c - 48) (lo := 1) (hi := 9) hM dX1_takesUse_52 (by omega) (by decide) (by decide) ?_
      refine x_iconst dX1_takesUse_55 ?_
      refine k_X1_goes (b := decide (1 ≤ (c - 48)) && decide ((c - 48) ≤ 9)) (n := 3) hM dX1_takesUse_56  ?_
      exact x_zret rfl (nar_b _) ⟨congrArg (fun b => some (iv (bI b))) (by rw [f_tUse, if_pos c_10]), congrArg (mh G M B) (by rw [s_tUse, if_pos c_10]; rfl)⟩ dX1_takesUse_59
    refine x_iload_n dX1_takesUse_28 rfl ?_
    refine x_iconst dX1_takesUse_29 ?_
    refine x_bipush dX1_takesUse_30 ?_
    refine k_X1_within (v := c - 48) (lo := 1) (hi := 9) hM dX1_takesUse_32 (by omega) (by decide) (by decide) ?_
    refine x_ifb_eq 42 dX1_takesUse_35 rfl (fun c_35 => ?_) (fun c_35 => ?_)
    · refine x_iconst dX1_takesUse_42 ?_
      exact x_ji (by rw [show inB (c - 48) 1 9 = _ from c_35]; rfl) J43
    · refine x_iconst dX1_takesUse_38 ?_
      refine x_goto 43 dX1_takesUse_39 rfl ?_
      exact x_ji (by rw [show inB (c - 48) 1 9 = _ from c_35]; rfl) J43
theorem k_X1_takesUse {G : Gw} {X : Cx} {cc : ByteArray} {nL : Nat} {y : MethodName} {ret : Option FieldType} {dp : Nat} {P : Option Value → Hp → Prop} {mc ms pc : Nat} {lv : List (Nat × Value)} {st : List Value} {kc ks : Nat} {M : Mg} {B : Hp} {S : Ms} {c : Int} (hM : MOk M) (hd : decode cc pc = .ok (.invokevirtual 99, 3)) (hp0 : RI S) (hp1 : ¬ S.1 16 < 2) (hp2 : 32 ≤ c ∧ c ≤ 126) (kk : V G X cc nL y ret dp P mc ms (pc + 3) lv (iv (bI (f_tUse S c)) :: st) (mh G M B (s_tUse S c)) kc ks) (hy : y.cls = RX1 := by rfl) (hdp : 1 + 1 ≤ dp := by decide) (hrs : (st.map fun v => v.category).sum ≤ 8 := by first | decide | (simp [Value.category, iv, jv]; done)) : V G X cc nL y ret dp P mc ms pc lv (iv (c) :: .ref M.1 :: st) (mh G M B S) kc ks := by
  refine x_callV (ci := 1) (T := TX1) (N := 33) (As := [iv (c)]) 1 (fun l => c_X1_takesUse l G M B S c hM hp0 hp1 hp2) (by rw [hy]; exact q2963) q2965 qs79 q173 q2966 (by decide +kernel) hdp (by decide) (mh_o hM) rfl rfl rfl hrs hd (Nat.zero_le _) (Nat.zero_le _) (fun v h hv => ?_)
  obtain ⟨rfl, rfl⟩ := hv
  exact kk
abbrev q_X1_takes (G : Gw) (M : Mg) (B : Hp) (S : Ms) (c : Int) : Option Value → Hp → Prop := fun v_ h_ => v_ = some (iv (bI (f_takes S c))) ∧ h_ = mh G M B (s_takes S c)
set_option maxHeartbeats 4000000 in
theorem c_X1_takes (l : Launch) (G : Gw) (M : Mg) (B : Hp) (S : Ms) (c : Int) (hM : MOk M) (hp0 : RI S) (hp1 : 32 ≤ c ∧ c ≤ 126) : Mt l G yX1_takes cX1_takes 2 (some .boolean) 2 [.ref (M.1), iv (c)] (mh G M B S) (q_X1_takes G M B S c) (0) (0) := by
  refine Mt.of (lv := [(0, .ref (M.1)), (1, iv (c))]) (by decide) (Nat.le_of_ble_eq_true rfl) rfl (fun X => ?_)
  have r1 := hp0.1
  refine x_aload_n dX1_takes_0 rfl ?_
  refine m_get_stage hM dX1_takes_1 ?_
  refine x_iconst dX1_takes_4 ?_
  refine x_icmp_ge 16 dX1_takes_5 rfl (by omega) (by omega) (fun c_5 => ?_) (fun c_5 => ?_)
  · refine x_aload_n dX1_takes_16 rfl ?_
    refine x_iload_n dX1_takes_17 rfl ?_
    refine k_X1_takesUse (c := c) hM dX1_takes_18 (hp0) (by omega) (hp1) ?_
    exact x_zret rfl (nar_b _) ⟨congrArg (fun b => some (iv (bI b))) (by rw [f_takes, if_neg (by omega)]), congrArg (mh G M B) (by rw [s_takes, if_neg (by omega)])⟩ dX1_takes_21
  · refine x_aload_n dX1_takes_8 rfl ?_
    refine x_iload_n dX1_takes_9 rfl ?_
    refine k_X1_takesName (c := c) hM dX1_takes_10 (hp0) (by omega) (by omega) ?_
    refine x_goto 21 dX1_takes_13 rfl ?_
    exact x_zret rfl (nar_b _) ⟨congrArg (fun b => some (iv (bI b))) (by rw [f_takes, if_pos (by omega)]), congrArg (mh G M B) (by rw [s_takes, if_pos (by omega)])⟩ dX1_takes_21
theorem k_X1_takes {G : Gw} {X : Cx} {cc : ByteArray} {nL : Nat} {y : MethodName} {ret : Option FieldType} {dp : Nat} {P : Option Value → Hp → Prop} {mc ms pc : Nat} {lv : List (Nat × Value)} {st : List Value} {kc ks : Nat} {M : Mg} {B : Hp} {S : Ms} {c : Int} (hM : MOk M) (hd : decode cc pc = .ok (.invokevirtual 102, 3)) (hp0 : RI S) (hp1 : 32 ≤ c ∧ c ≤ 126) (kk : V G X cc nL y ret dp P mc ms (pc + 3) lv (iv (bI (f_takes S c)) :: st) (mh G M B (s_takes S c)) kc ks) (hy : y.cls = RX1 := by rfl) (hdp : 2 + 1 ≤ dp := by decide) (hrs : (st.map fun v => v.category).sum ≤ 8 := by first | decide | (simp [Value.category, iv, jv]; done)) : V G X cc nL y ret dp P mc ms pc lv (iv (c) :: .ref M.1 :: st) (mh G M B S) kc ks := by
  refine x_callV (ci := 1) (T := TX1) (N := 33) (As := [iv (c)]) 1 (fun l => c_X1_takes l G M B S c hM hp0 hp1) (by rw [hy]; exact q2947) q2949 qs75 q173 q2950 (by decide +kernel) hdp (by decide) (mh_o hM) rfl rfl rfl hrs hd (Nat.zero_le _) (Nat.zero_le _) (fun v h hv => ?_)
  obtain ⟨rfl, rfl⟩ := hv
  exact kk
abbrev q_X1_read (G : Gw) (M : Mg) (B : Hp) (S : Ms)  : Option Value → Hp → Prop := fun v_ h_ => v_ = some (iv (f_read S)) ∧ h_ = mh G M B (s_read S)
set_option maxHeartbeats 4000000 in
theorem c_X1_read (l : Launch) (G : Gw) (M : Mg) (B : Hp) (S : Ms)  (hM : MOk M) (hp0 : Wp S) : Mt l G yX1_read cX1_read 2 (some .int) 3 [.ref (M.1)] (mh G M B S) (q_X1_read G M B S ) (0) (0) := by
  refine Mt.of (lv := [(0, .ref (M.1))]) (by decide) (Nat.le_of_ble_eq_true rfl) rfl (fun X => ?_)
  have h0 := hp0.1
  refine x_aload_n dX1_read_0 rfl ?_
  refine x_iconst dX1_read_1 ?_
  refine m_put_stage hM dX1_read_2 ?_
  refine x_aload_n dX1_read_5 rfl ?_
  refine x_iconst dX1_read_6 ?_
  refine m_put_newNames hM dX1_read_7 ?_
  refine x_iconst dX1_read_10 ?_
  refine x_istore_n (lv' := [(0, _), (1, _)]) dX1_read_11 rfl (by decide) ?_
  have L12 : ∀ (n12 : Nat) (k : Nat), (S.1 0 - k) < (n12 : Int) → ((k : Int) ≤ S.1 0) → ((rd S k).2.1 = true) → V G X cX1_read 2 yX1_read (some .int) 3 (q_X1_read G M B S ) (0) (0) 12 [(0, .ref (M.1)), (1, iv (k))] [] (mh G M B ((rd S k).2.2)) (0) (0) := by
    intro n12
    induction n12 with
    | zero =>
      intro k hm hk hg
      exact absurd hm (by omega)
    | succ n12 ih12 =>
      intro k hm12 hk hg
      have hcs := rd_cs S k
      have hri := rd_RI S k hg
      have e0 : (rd S k).2.2.1 0 = S.1 0 := hcs.1 0 rfl
      have ep : (rd S k).2.2.2 1 = S.2 1 := hcs.2 1 rfl
      refine x_iload_n dX1_read_12 rfl ?_
      refine x_aload_n dX1_read_13 rfl ?_
      refine m_get_pageLength hM dX1_read_14 ?_
      refine x_icmp_ge 39 dX1_read_17 rfl (by omega) (by rw [e0]; omega) (fun c_17 => ?_) (fun c_17 => ?_)
      · rw [e0] at c_17
        have hN : (k : Int) ≤ S.1 0 := hk
        refine x_iload_n dX1_read_39 rfl ?_
        exact x_iret rfl ⟨ri (by rw [f_read, show (S.1 0).toNat = k by omega]; exact hri.2.symm), congrArg (mh G M B) (by rw [s_read, show (S.1 0).toNat = k by omega])⟩ dX1_read_40
      · rw [e0] at c_17
        refine x_aload_n dX1_read_20 rfl ?_
        refine x_aload_n dX1_read_21 rfl ?_
        refine m_get_page hM dX1_read_22 ?_
        refine x_iload_n dX1_read_25 rfl ?_
        refine m_ald hM (N := 50) rfl (by omega) (by decide) dX1_read_26 ?_
        refine x_ji (show ((rd S k).2.2).2 1 k = S.2 1 k from by rw [ep]) ?_
        refine k_X1_takes (c := S.2 1 k) hM dX1_read_27 (hri.1) (hp0.2 k (by omega) (by omega)) ?_
        refine x_ifb_eq 39 dX1_read_30 rfl (fun c_30 => ?_) (fun c_30 => ?_)
        · have hE : rd S (k + 1) = ((k : Int), false, s_takes (rd S k).2.2 (S.2 1 k)) := by rw [rd, if_pos hg, if_neg (bf c_30)]
          have hF : rd S (S.1 0).toNat = rd S (k + 1) := rd_f (by omega) (by rw [hE])
          have hN : (k : Int) ≤ S.1 0 := hk
          refine x_iload_n dX1_read_39 rfl ?_
          exact x_iret rfl ⟨ri (by rw [f_read, hF, hE]), congrArg (mh G M B) (by rw [s_read, hF, hE])⟩ dX1_read_40
        · refine x_iinc (lv' := [(0, _), (1, _)]) dX1_read_33 rfl rfl (by decide) ?_
          refine x_goto 12 dX1_read_36 rfl ?_
          refine x_h (congrArg (mh G M B) (show _ = (rd S (k + 1)).2.2 from by rw [rd, if_pos hg, if_pos c_30])) ?_
          exact ih12 (k + 1) (by omega) (by omega) (by rw [rd, if_pos hg, if_pos c_30])
  exact L12 ((S.1 0).toNat + 1) (0) (by omega) (by omega) (rfl)
theorem k_X1_read {G : Gw} {X : Cx} {cc : ByteArray} {nL : Nat} {y : MethodName} {ret : Option FieldType} {dp : Nat} {P : Option Value → Hp → Prop} {mc ms pc : Nat} {lv : List (Nat × Value)} {st : List Value} {kc ks : Nat} {M : Mg} {B : Hp} {S : Ms}  (hM : MOk M) (hd : decode cc pc = .ok (.invokevirtual 105, 3)) (hp0 : Wp S) (kk : V G X cc nL y ret dp P mc ms (pc + 3) lv (iv (f_read S) :: st) (mh G M B (s_read S)) kc ks) (hy : y.cls = RX1 := by rfl) (hdp : 3 + 1 ≤ dp := by decide) (hrs : (st.map fun v => v.category).sum ≤ 8 := by first | decide | (simp [Value.category, iv, jv]; done)) : V G X cc nL y ret dp P mc ms pc lv (.ref M.1 :: st) (mh G M B S) kc ks := by
  refine x_callV (ci := 1) (T := TX1) (N := 33) (As := []) 0 (fun l => c_X1_read l G M B S  hM hp0) (by rw [hy]; exact q2943) q2945 qs74 q173 q2946 (by decide +kernel) hdp (by decide) (mh_o hM) rfl rfl rfl hrs hd (Nat.zero_le _) (Nat.zero_le _) (fun v h hv => ?_)
  obtain ⟨rfl, rfl⟩ := hv
  exact kk
abbrev q_X1_fault (G : Gw) (M : Mg) (B : Hp) (S : Ms)  : Option Value → Hp → Prop := fun v_ h_ => v_ = some (iv (f_read S)) ∧ h_ = mh G M B (s_read S)
set_option maxHeartbeats 4000000 in
theorem c_X1_fault (l : Launch) (G : Gw) (M : Mg) (B : Hp) (S : Ms)  (hM : MOk M) (hp0 : Wp S) : Mt l G yX1_fault cX1_fault 1 (some .int) 4 [.ref (M.1)] (mh G M B S) (q_X1_fault G M B S ) (0) (0) := by
  refine Mt.of (lv := [(0, .ref (M.1))]) (by decide) (Nat.le_of_ble_eq_true rfl) rfl (fun X => ?_)
  refine x_aload_n dX1_fault_0 rfl ?_
  refine k_X1_read  hM dX1_fault_1 (hp0) ?_
  exact x_iret rfl ⟨ri (by first | rfl | (simp_all; done) | (simp; omega) | (simp_all; omega)), rfl⟩ dX1_fault_4
