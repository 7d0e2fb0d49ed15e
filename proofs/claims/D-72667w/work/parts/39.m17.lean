/-! MODEL 17: the digest -/
set_option maxRecDepth 100000
abbrev q_X1_mixMenu (G : Gw) (M : Mg) (B : Hp) (S : Ms)  : Option Value → Hp → Prop := fun v_ h_ => ∃ T : Ms, v_ = none ∧ h_ = mh G M B T ∧ (Cb S T ∧ T.1 32 = m_menu S (S.1 32))
set_option maxHeartbeats 4000000 in
theorem c_X1_mixMenu (l : Launch) (G : Gw) (M : Mg) (B : Hp) (S : Ms)  (hM : MOk M) (hp0 : Wf S) (hp1 : Wm S) (hp2 : Wc S) (hp3 : ¬ S.1 12 = 0) : Mt l G yX1_mixMenu cX1_mixMenu 3 none 6 [.ref (M.1)] (mh G M B S) (q_X1_mixMenu G M B S ) (0) (0) := by
  refine Mt.of (lv := [(0, .ref (M.1))]) (by decide) (Nat.le_of_ble_eq_true rfl) rfl (fun X => ?_)
  have h2 := hp0.nm
  refine x_iconst dX1_mixMenu_0 ?_
  refine x_istore_n (lv' := [(0, _), (1, _)]) dX1_mixMenu_1 rfl (by decide) ?_
  have L2 : ∀ (n2 : Nat) (w : Nat) (T : Ms), (7 - w) < (n2 : Int) → ((w : Int) ≤ 7) → (Cb S T) → (T.1 32 = mixZ (fun w => f_menu S w) (S.1 32) w) → V G X cX1_mixMenu 3 yX1_mixMenu none 6 (q_X1_mixMenu G M B S ) (0) (0) 2 [(0, .ref (M.1)), (1, iv (w))] [] (mh G M B T) (0) (0) := by
    intro n2
    induction n2 with
    | zero =>
      intro w T hm hw hT hh
      exact absurd hm (by omega)
    | succ n2 ih2 =>
      intro w T hm2 hw hT hh
      refine x_iload_n dX1_mixMenu_2 rfl ?_
      refine x_bipush dX1_mixMenu_3 ?_
      refine x_icmp_ge 24 dX1_mixMenu_5 rfl (by omega) (by omega) (fun c_5 => ?_) (fun c_5 => ?_)
      · refine x_iconst dX1_mixMenu_24 ?_
        refine x_istore_n (lv' := [(0, _), (1, _)]) dX1_mixMenu_25 rfl (by decide) ?_
        have L26 : ∀ (n26 : Nat) (k : Nat) (T : Ms), (S.1 2 - k) < (n26 : Int) → ((k : Int) ≤ S.1 2) → (Cb S T) → (T.1 32 = mixP S (mixZ (fun w => f_menu S w) (S.1 32) 7) k) → V G X cX1_mixMenu 3 yX1_mixMenu none 6 (q_X1_mixMenu G M B S ) (0) (0) 26 [(0, .ref (M.1)), (1, iv (k))] [] (mh G M B T) (0) (0) := by
          intro n26
          induction n26 with
          | zero =>
            intro k T hm hk hT hh
            exact absurd hm (by omega)
          | succ n26 ih26 =>
            intro k T hm26 hk hT hh
            have e2 : T.1 2 = S.1 2 := hT.1.1 2 rfl
            refine x_iload_n dX1_mixMenu_26 rfl ?_
            refine x_aload_n dX1_mixMenu_27 rfl ?_
            refine m_get_names hM dX1_mixMenu_28 ?_
            refine x_icmp_ge 74 dX1_mixMenu_31 rfl (by omega) (by rw [e2]; omega) (fun c_31 => ?_) (fun c_31 => ?_)
            · rw [e2] at c_31
              have eK : (S.1 2).toNat = k := by omega
              exact x_vret rfl ⟨_, rfl, rfl, ⟨hT, by rw [hh, m_menu, eK]⟩⟩ dX1_mixMenu_74
            · rw [e2] at c_31
              have h13 := hp1.2.1 k (by omega) (by omega)
              refine x_iconst dX1_mixMenu_34 ?_
              refine x_istore_n (lv' := [(0, _), (1, _), (2, _)]) dX1_mixMenu_35 rfl (by decide) ?_
              have L36 : ∀ (n36 : Nat) (i : Nat) (T : Ms), (S.2 13 k - i) < (n36 : Int) → ((i : Int) ≤ S.2 13 k) → (Cb S T) → (T.1 32 = mixZ (fun i => S.2 14 (14 * k + i)) (mixP S (mixZ (fun w => f_menu S w) (S.1 32) 7) k) i) → V G X cX1_mixMenu 3 yX1_mixMenu none 6 (q_X1_mixMenu G M B S ) (0) (0) 36 [(0, .ref (M.1)), (1, iv (k)), (2, iv (i))] [] (mh G M B T) (0) (0) := by
                intro n36
                induction n36 with
                | zero =>
                  intro i T hm hi hT hh
                  exact absurd hm (by omega)
                | succ n36 ih36 =>
                  intro i T hm36 hi hT hh
                  have e13 : T.2 13 = S.2 13 := hT.1.2 13 rfl
                  have e14 : T.2 14 = S.2 14 := hT.1.2 14 rfl
                  refine x_iload_n dX1_mixMenu_36 rfl ?_
                  refine x_aload_n dX1_mixMenu_37 rfl ?_
                  refine m_get_pathLength hM dX1_mixMenu_38 ?_
                  refine x_iload_n dX1_mixMenu_41 rfl ?_
                  refine m_ald hM (N := 14) rfl (by omega) (by decide) dX1_mixMenu_42 ?_
                  refine x_icmp_ge 68 dX1_mixMenu_43 rfl (by omega) (by rw [e13]; omega) (fun c_43 => ?_) (fun c_43 => ?_)
                  · rw [e13] at c_43
                    refine x_iinc (lv' := [(0, _), (1, _), (2, _)]) dX1_mixMenu_68 rfl rfl (by decide) ?_
                    refine x_goto 26 dX1_mixMenu_71 rfl ?_
                    refine x_lvp [0, 1] (lv' := [(0, _), (1, _)]) rfl ?_
                    exact ih26 (k + 1) (_) (by omega) (by omega) (hT) (by rw [hh, mixP, show (S.2 13 (k : Int)).toNat = i by omega])
                  · rw [e13] at c_43
                    refine x_aload_n dX1_mixMenu_46 rfl ?_
                    refine x_aload_n dX1_mixMenu_47 rfl ?_
                    refine m_get_steps hM dX1_mixMenu_48 ?_
                    refine x_bipush dX1_mixMenu_51 ?_
                    refine x_iload_n dX1_mixMenu_53 rfl ?_
                    refine x_imul dX1_mixMenu_54 ?_
                    refine x_iload_n dX1_mixMenu_55 rfl ?_
                    refine x_iadd dX1_mixMenu_56 ?_
                    refine m_ald hM (N := 196) rfl (by omega) (by decide) dX1_mixMenu_57 ?_
                    refine x_ji (show T.2 14 ((14 * k) + i) = S.2 14 (14 * k + i) from by rw [e14]) ?_
                    refine x_i2l dX1_mixMenu_58 (by have := hp1.2.2 (14 * k + i) (by omega) (by omega); omega) ?_
                    refine k_X1_mix (v := S.2 14 (14 * k + i)) hM dX1_mixMenu_59  ?_
                    refine x_iinc (lv' := [(0, _), (1, _), (2, _)]) dX1_mixMenu_62 rfl rfl (by decide) ?_
                    refine x_goto 36 dX1_mixMenu_65 rfl ?_
                    exact ih36 (i + 1) (_) (by omega) (by omega) (hT.h _) (by rw [sv_s, hh]; rfl)
              exact L36 ((S.2 13 k).toNat + 1) (0) (_) (by omega) (by omega) (hT) (by rw [hh]; rfl)
        exact L26 ((S.1 2).toNat + 1) (0) (_) (by omega) (by omega) (hT) (by rw [hh, show w = 7 by omega]; rfl)
      · refine x_aload_n dX1_mixMenu_8 rfl ?_
        refine x_aload_n dX1_mixMenu_9 rfl ?_
        refine x_iload_n dX1_mixMenu_10 rfl ?_
        refine k_X1_menuNow (w := w) hM dX1_mixMenu_11 (hp0.cs hT.1) (hp1.cs hT.1) (by omega) (by rw [hT.1.1 12 rfl]; exact hp3) (fun T11_1 rT11_1 => ?_)
        have hc11 := rT11_1
        refine x_ji (show f_menu T w = f_menu S w from by rw [f_menu_cs hT.1]) ?_
        refine x_i2l dX1_mixMenu_14 (f_menu_R hp0 hp1 hp2 hp3 _) ?_
        refine k_X1_mix (v := f_menu S w) hM dX1_mixMenu_15  ?_
        refine x_iinc (lv' := [(0, _), (1, _)]) dX1_mixMenu_18 rfl rfl (by decide) ?_
        refine x_goto 2 dX1_mixMenu_21 rfl ?_
        exact ih2 (w + 1) (_) (by omega) (by omega) ((hT.tr hc11.1).h _) (by rw [sv_s, hc11.2, hh]; rfl)
  exact L2 (8) (0) (_) (by decide) (by omega) (Cb.rf S) (rfl)
theorem k_X1_mixMenu {G : Gw} {X : Cx} {cc : ByteArray} {nL : Nat} {y : MethodName} {ret : Option FieldType} {dp : Nat} {P : Option Value → Hp → Prop} {mc ms pc : Nat} {lv : List (Nat × Value)} {st : List Value} {kc ks : Nat} {M : Mg} {B : Hp} {S : Ms}  (hM : MOk M) (hd : decode cc pc = .ok (.invokevirtual 319, 3)) (hp0 : Wf S) (hp1 : Wm S) (hp2 : Wc S) (hp3 : ¬ S.1 12 = 0) (kk : ∀ T : Ms, (Cb S T ∧ T.1 32 = m_menu S (S.1 32)) → V G X cc nL y ret dp P mc ms (pc + 3) lv (st) (mh G M B T) kc ks) (hy : y.cls = RX1 := by rfl) (hdp : 6 + 1 ≤ dp := by decide) (hrs : (st.map fun v => v.category).sum ≤ 8 := by first | decide | (simp [Value.category, iv, jv]; done)) : V G X cc nL y ret dp P mc ms pc lv (.ref M.1 :: st) (mh G M B S) kc ks := by
  refine x_callV (ci := 1) (T := TX1) (N := 33) (As := []) 0 (fun l => c_X1_mixMenu l G M B S  hM hp0 hp1 hp2 hp3) (by rw [hy]; exact q3284) q3286 qs135 q173 q3287 (by decide +kernel) hdp (by decide) (mh_o hM) rfl rfl rfl hrs hd (Nat.zero_le _) (Nat.zero_le _) (fun v h hv => ?_)
  obtain ⟨T, rfl, rfl, hv⟩ := hv
  exact kk T hv
abbrev q_X1_digest (G : Gw) (M : Mg) (B : Hp) (S : Ms)  : Option Value → Hp → Prop := fun v_ h_ => ∃ T : Ms, v_ = some (jv (m_digest S)) ∧ h_ = mh G M B T ∧ (Cb S T)
set_option maxHeartbeats 4000000 in
theorem c_X1_digest (l : Launch) (G : Gw) (M : Mg) (B : Hp) (S : Ms)  (hM : MOk M) (hp0 : Wf S) (hp1 : Wm S) (hp2 : Wt S) (hp3 : Wp S) (hp4 : Wc S) : Mt l G yX1_digest cX1_digest 2 (some .long) 7 [.ref (M.1)] (mh G M B S) (q_X1_digest G M B S ) (0) (0) := by
  refine Mt.of (lv := [(0, .ref (M.1))]) (by decide) (Nat.le_of_ble_eq_true rfl) rfl (fun X => ?_)
  have h2 := hp0.nm
  have h0 := hp3.1
  refine x_aload_n dX1_digest_0 rfl ?_
  refine x_ldc2 1571 q3269 dX1_digest_1 rfl ?_
  refine m_put_h hM dX1_digest_4 ?_
  refine x_iconst dX1_digest_7 ?_
  refine x_istore_n (lv' := [(0, _), (1, _)]) dX1_digest_8 rfl (by decide) ?_
  have L9 : ∀ (n9 : Nat) (i : Nat) (T : Ms), (26 - i) < (n9 : Int) → ((i : Int) ≤ 26) → (Cb S T) → (T.1 32 = mixZ (fun i => S.2 9 i) (1571) i) → V G X cX1_digest 2 yX1_digest (some .long) 7 (q_X1_digest G M B S ) (0) (0) 9 [(0, .ref (M.1)), (1, iv (i))] [] (mh G M B T) (0) (0) := by
    intro n9
    induction n9 with
    | zero =>
      intro i T hm hi hT hh
      exact absurd hm (by omega)
    | succ n9 ih9 =>
      intro i T hm9 hi hT hh
      have e9 : T.2 9 = S.2 9 := hT.1.2 9 rfl
      refine x_iload_n dX1_digest_9 rfl ?_
      refine x_bipush dX1_digest_10 ?_
      refine x_icmp_ge 32 dX1_digest_12 rfl (by omega) (by omega) (fun c_12 => ?_) (fun c_12 => ?_)
      · refine x_iconst dX1_digest_32 ?_
        refine x_istore_n (lv' := [(0, _), (1, _)]) dX1_digest_33 rfl (by decide) ?_
        have L34 : ∀ (n34 : Nat) (k : Nat) (T : Ms), (S.1 2 - k) < (n34 : Int) → ((k : Int) ≤ S.1 2) → (Cb S T) → (T.1 32 = mixN S (mixZ (fun i => S.2 9 i) 1571 26) k) → V G X cX1_digest 2 yX1_digest (some .long) 7 (q_X1_digest G M B S ) (0) (0) 34 [(0, .ref (M.1)), (1, iv (k))] [] (mh G M B T) (0) (0) := by
          intro n34
          induction n34 with
          | zero =>
            intro k T hm hk hT hh
            exact absurd hm (by omega)
          | succ n34 ih34 =>
            intro k T hm34 hk hT hh
            have e2 : T.1 2 = S.1 2 := hT.1.1 2 rfl
            refine x_iload_n dX1_digest_34 rfl ?_
            refine x_aload_n dX1_digest_35 rfl ?_
            refine m_get_names hM dX1_digest_36 ?_
            refine x_icmp_ge 53 dX1_digest_39 rfl (by omega) (by rw [e2]; omega) (fun c_39 => ?_) (fun c_39 => ?_)
            · rw [e2] at c_39
              have eK : (S.1 2).toNat = k := by omega
              refine x_iconst dX1_digest_53 ?_
              refine x_istore_n (lv' := [(0, _), (1, _)]) dX1_digest_54 rfl (by decide) ?_
              have L55 : ∀ (n55 : Nat) (w : Nat) (T : Ms), (7 - w) < (n55 : Int) → ((w : Int) ≤ 7) → (Cb S T) → (T.1 32 = mixZ (fun w => f_about S w) (mixN S (mixZ (fun i => S.2 9 i) 1571 26) (S.1 2).toNat) w) → V G X cX1_digest 2 yX1_digest (some .long) 7 (q_X1_digest G M B S ) (0) (0) 55 [(0, .ref (M.1)), (1, iv (w))] [] (mh G M B T) (0) (0) := by
                intro n55
                induction n55 with
                | zero =>
                  intro w T hm hw hT hh
                  exact absurd hm (by omega)
                | succ n55 ih55 =>
                  intro w T hm55 hw hT hh
                  refine x_iload_n dX1_digest_55 rfl ?_
                  refine x_bipush dX1_digest_56 ?_
                  refine x_icmp_ge 77 dX1_digest_58 rfl (by omega) (by omega) (fun c_58 => ?_) (fun c_58 => ?_)
                  · refine x_aload_n dX1_digest_77 rfl ?_
                    refine k_X1_mixTyped  hM dX1_digest_78 (hp0.cs hT.1) (hp2.cs hT.1) (fun T78_1 rT78_1 => ?_)
                    have hT2 := hT.tr rT78_1.1
                    have hh2 : (T78_1).1 32 = m_upto S := by rw [rT78_1.2, m_typed_cs hT.1 hp2 hp0, hh, show w = 7 by omega]; rfl
                    refine x_aload_n dX1_digest_81 rfl ?_
                    refine m_get_width hM dX1_digest_82 ?_
                    refine x_if_le 92 dX1_digest_85 rfl (by rw [hT2.1.1 12 rfl]; have := hp1.1; omega) (fun c_85 => ?_) (fun c_85 => ?_)
                    · rw [hT2.1.1 12 rfl] at c_85
                      have HT := hT2
                      have HH := hh2
                      refine x_iconst dX1_digest_92 ?_
                      refine x_istore_n (lv' := [(0, _), (1, _)]) dX1_digest_93 rfl (by decide) ?_
                      have L94 : ∀ (n94 : Nat) (p : Nat) (T : Ms), (S.1 0 - p) < (n94 : Int) → ((p : Int) ≤ S.1 0) → (Cb S T) → (T.1 32 = mixZ (fun i => S.2 1 i) ((if 0 < S.1 12 then m_menu S (m_upto S) else m_upto S)) p) → V G X cX1_digest 2 yX1_digest (some .long) 7 (q_X1_digest G M B S ) (0) (0) 94 [(0, .ref (M.1)), (1, iv (p))] [] (mh G M B T) (0) (0) := by
                        intro n94
                        induction n94 with
                        | zero =>
                          intro p T hm hp hT hh
                          exact absurd hm (by omega)
                        | succ n94 ih94 =>
                          intro p T hm94 hp hT hh
                          have e0 : T.1 0 = S.1 0 := hT.1.1 0 rfl
                          have e1 : T.2 1 = S.2 1 := hT.1.2 1 rfl
                          refine x_iload_n dX1_digest_94 rfl ?_
                          refine x_aload_n dX1_digest_95 rfl ?_
                          refine m_get_pageLength hM dX1_digest_96 ?_
                          refine x_icmp_ge 119 dX1_digest_99 rfl (by omega) (by rw [e0]; omega) (fun c_99 => ?_) (fun c_99 => ?_)
                          · rw [e0] at c_99
                            have eP : (S.1 0).toNat = p := by omega
                            refine x_iconst dX1_digest_119 ?_
                            refine x_istore_n (lv' := [(0, _), (1, _)]) dX1_digest_120 rfl (by decide) ?_
                            have L121 : ∀ (n121 : Nat) (z : Nat) (T : Ms), (6 - z) < (n121 : Int) → ((z : Int) ≤ 6) → (Cb S T) → (T.1 32 = mixZ (fun w => f_many S w) (mixZ (fun i => S.2 1 i) ((if 0 < S.1 12 then m_menu S (m_upto S) else m_upto S)) (S.1 0).toNat) z) → V G X cX1_digest 2 yX1_digest (some .long) 7 (q_X1_digest G M B S ) (0) (0) 121 [(0, .ref (M.1)), (1, iv (z))] [] (mh G M B T) (0) (0) := by
                              intro n121
                              induction n121 with
                              | zero =>
                                intro z T hm hz hT hh
                                exact absurd hm (by omega)
                              | succ n121 ih121 =>
                                intro z T hm121 hz hT hh
                                refine x_iload_n dX1_digest_121 rfl ?_
                                refine x_bipush dX1_digest_122 ?_
                                refine x_icmp_ge 143 dX1_digest_124 rfl (by omega) (by omega) (fun c_124 => ?_) (fun c_124 => ?_)
                                · refine x_aload_n dX1_digest_143 rfl ?_
                                  refine m_get_h hM dX1_digest_144 ?_
                                  exact x_lret rfl ⟨_, by rw [hh, show z = 6 by omega]; rfl, rfl, hT⟩ dX1_digest_147
                                · refine x_aload_n dX1_digest_127 rfl ?_
                                  refine x_aload_n dX1_digest_128 rfl ?_
                                  refine x_iload_n dX1_digest_129 rfl ?_
                                  refine k_X1_howMany (w := z) hM dX1_digest_130 (by omega) ?_
                                  refine x_ji (show f_many T z = f_many S z from by rw [f_many_cs hT.1]) ?_
                                  refine x_i2l dX1_digest_133 (f_many_R hp0 hp3 hp2 hp4 _) ?_
                                  refine k_X1_mix (v := f_many S z) hM dX1_digest_134  ?_
                                  refine x_iinc (lv' := [(0, _), (1, _)]) dX1_digest_137 rfl rfl (by decide) ?_
                                  refine x_goto 121 dX1_digest_140 rfl ?_
                                  exact ih121 (z + 1) (_) (by omega) (by omega) (hT.h _) (by rw [sv_s, hh]; rfl)
                            exact L121 (7) (0) (_) (by decide) (by omega) (hT) (by rw [hh, eP]; rfl)
                          · rw [e0] at c_99
                            refine x_aload_n dX1_digest_102 rfl ?_
                            refine x_aload_n dX1_digest_103 rfl ?_
                            refine m_get_page hM dX1_digest_104 ?_
                            refine x_iload_n dX1_digest_107 rfl ?_
                            refine m_ald hM (N := 50) rfl (by omega) (by decide) dX1_digest_108 ?_
                            refine x_ji (show T.2 1 p = S.2 1 p from by rw [e1]) ?_
                            refine x_i2l dX1_digest_109 (by have := hp3.2 p (by omega) (by omega); omega) ?_
                            refine k_X1_mix (v := S.2 1 p) hM dX1_digest_110  ?_
                            refine x_iinc (lv' := [(0, _), (1, _)]) dX1_digest_113 rfl rfl (by decide) ?_
                            refine x_goto 94 dX1_digest_116 rfl ?_
                            exact ih94 (p + 1) (_) (by omega) (by omega) (hT.h _) (by rw [sv_s, hh]; rfl)
                      exact L94 ((S.1 0).toNat + 1) (0) (_) (by omega) (by omega) (HT) (by rw [HH]; first | (rw [if_pos (by omega)]; rfl) | (rw [if_neg (by omega)]; rfl))
                    · rw [hT2.1.1 12 rfl] at c_85
                      refine x_aload_n dX1_digest_88 rfl ?_
                      refine k_X1_mixMenu  hM dX1_digest_89 (hp0.cs hT2.1) (hp1.cs hT2.1) (hp4.cs hT2.1) (by rw [hT2.1.1 12 rfl]; omega) (fun T89_2 rT89_2 => ?_)
                      have HT := hT2.tr rT89_2.1
                      have HH : (T89_2).1 32 = m_menu S (m_upto S) := by rw [rT89_2.2, m_menu_cs hT2.1, hh2]
                      refine x_iconst dX1_digest_92 ?_
                      refine x_istore_n (lv' := [(0, _), (1, _)]) dX1_digest_93 rfl (by decide) ?_
                      have L94 : ∀ (n94 : Nat) (p : Nat) (T : Ms), (S.1 0 - p) < (n94 : Int) → ((p : Int) ≤ S.1 0) → (Cb S T) → (T.1 32 = mixZ (fun i => S.2 1 i) ((if 0 < S.1 12 then m_menu S (m_upto S) else m_upto S)) p) → V G X cX1_digest 2 yX1_digest (some .long) 7 (q_X1_digest G M B S ) (0) (0) 94 [(0, .ref (M.1)), (1, iv (p))] [] (mh G M B T) (0) (0) := by
                        intro n94
                        induction n94 with
                        | zero =>
                          intro p T hm hp hT hh
                          exact absurd hm (by omega)
                        | succ n94 ih94 =>
                          intro p T hm94 hp hT hh
                          have e0 : T.1 0 = S.1 0 := hT.1.1 0 rfl
                          have e1 : T.2 1 = S.2 1 := hT.1.2 1 rfl
                          refine x_iload_n dX1_digest_94 rfl ?_
                          refine x_aload_n dX1_digest_95 rfl ?_
                          refine m_get_pageLength hM dX1_digest_96 ?_
                          refine x_icmp_ge 119 dX1_digest_99 rfl (by omega) (by rw [e0]; omega) (fun c_99 => ?_) (fun c_99 => ?_)
                          · rw [e0] at c_99
                            have eP : (S.1 0).toNat = p := by omega
                            refine x_iconst dX1_digest_119 ?_
                            refine x_istore_n (lv' := [(0, _), (1, _)]) dX1_digest_120 rfl (by decide) ?_
                            have L121 : ∀ (n121 : Nat) (z : Nat) (T : Ms), (6 - z) < (n121 : Int) → ((z : Int) ≤ 6) → (Cb S T) → (T.1 32 = mixZ (fun w => f_many S w) (mixZ (fun i => S.2 1 i) ((if 0 < S.1 12 then m_menu S (m_upto S) else m_upto S)) (S.1 0).toNat) z) → V G X cX1_digest 2 yX1_digest (some .long) 7 (q_X1_digest G M B S ) (0) (0) 121 [(0, .ref (M.1)), (1, iv (z))] [] (mh G M B T) (0) (0) := by
                              intro n121
                              induction n121 with
                              | zero =>
                                intro z T hm hz hT hh
                                exact absurd hm (by omega)
                              | succ n121 ih121 =>
                                intro z T hm121 hz hT hh
                                refine x_iload_n dX1_digest_121 rfl ?_
                                refine x_bipush dX1_digest_122 ?_
                                refine x_icmp_ge 143 dX1_digest_124 rfl (by omega) (by omega) (fun c_124 => ?_) (fun c_124 => ?_)
                                · refine x_aload_n dX1_digest_143 rfl ?_
                                  refine m_get_h hM dX1_digest_144 ?_
                                  exact x_lret rfl ⟨_, by rw [hh, show z = 6 by omega]; rfl, rfl, hT⟩ dX1_digest_147
                                · refine x_aload_n dX1_digest_127 rfl ?_
                                  refine x_aload_n dX1_digest_128 rfl ?_
                                  refine x_iload_n dX1_digest_129 rfl ?_
                                  refine k_X1_howMany (w := z) hM dX1_digest_130 (by omega) ?_
                                  refine x_ji (show f_many T z = f_many S z from by rw [f_many_cs hT.1]) ?_
                                  refine x_i2l dX1_digest_133 (f_many_R hp0 hp3 hp2 hp4 _) ?_
                                  refine k_X1_mix (v := f_many S z) hM dX1_digest_134  ?_
                                  refine x_iinc (lv' := [(0, _), (1, _)]) dX1_digest_137 rfl rfl (by decide) ?_
                                  refine x_goto 121 dX1_digest_140 rfl ?_
                                  exact ih121 (z + 1) (_) (by omega) (by omega) (hT.h _) (by rw [sv_s, hh]; rfl)
                            exact L121 (7) (0) (_) (by decide) (by omega) (hT) (by rw [hh, eP]; rfl)
                          · rw [e0] at c_99
                            refine x_aload_n dX1_digest_102 rfl ?_
                            refine x_aload_n dX1_digest_103 rfl ?_
                            refine m_get_page hM dX1_digest_104 ?_
                            refine x_iload_n dX1_digest_107 rfl ?_
                            refine m_ald hM (N := 50) rfl (by omega) (by decide) dX1_digest_108 ?_
                            refine x_ji (show T.2 1 p = S.2 1 p from by rw [e1]) ?_
                            refine x_i2l dX1_digest_109 (by have := hp3.2 p (by omega) (by omega); omega) ?_
                            refine k_X1_mix (v := S.2 1 p) hM dX1_digest_110  ?_
                            refine x_iinc (lv' := [(0, _), (1, _)]) dX1_digest_113 rfl rfl (by decide) ?_
                            refine x_goto 94 dX1_digest_116 rfl ?_
                            exact ih94 (p + 1) (_) (by omega) (by omega) (hT.h _) (by rw [sv_s, hh]; rfl)
                      exact L94 ((S.1 0).toNat + 1) (0) (_) (by omega) (by omega) (HT) (by rw [HH]; first | (rw [if_pos (by omega)]; rfl) | (rw [if_neg (by omega)]; rfl))
                  · refine x_aload_n dX1_digest_61 rfl ?_
                    refine x_aload_n dX1_digest_62 rfl ?_
                    refine x_iload_n dX1_digest_63 rfl ?_
                    refine k_X1_aboutNow (w := w) hM dX1_digest_64 (hp0.cs hT.1) (by omega) ?_
                    refine x_ji (show f_about T w = f_about S w from by rw [f_about_cs hT.1]) ?_
                    refine x_i2l dX1_digest_67 (f_about_R hp0 _) ?_
                    refine k_X1_mix (v := f_about S w) hM dX1_digest_68  ?_
                    refine x_iinc (lv' := [(0, _), (1, _)]) dX1_digest_71 rfl rfl (by decide) ?_
                    refine x_goto 55 dX1_digest_74 rfl ?_
                    exact ih55 (w + 1) (_) (by omega) (by omega) (hT.h _) (by rw [sv_s, hh]; rfl)
              exact L55 (8) (0) (_) (by decide) (by omega) (hT) (by rw [hh, eK]; rfl)
            · rw [e2] at c_39
              refine x_aload_n dX1_digest_42 rfl ?_
              refine x_iload_n dX1_digest_43 rfl ?_
              refine k_X1_mixName (a := k) hM dX1_digest_44 (hp0.cs hT.1) (hp1.cs hT.1) (by rw [e2]; omega) (fun T44_3 rT44_3 => ?_)
              have hc44 := rT44_3
              refine x_iinc (lv' := [(0, _), (1, _)]) dX1_digest_47 rfl rfl (by decide) ?_
              refine x_goto 34 dX1_digest_50 rfl ?_
              exact ih34 (k + 1) (_) (by omega) (by omega) (hT.tr hc44.1) (by rw [hc44.2, hh, m_name_cs hT.1]; rfl)
        exact L34 ((S.1 2).toNat + 1) (0) (_) (by omega) (by omega) (hT) (by rw [hh, show i = 26 by omega]; rfl)
      · refine x_aload_n dX1_digest_15 rfl ?_
        refine x_aload_n dX1_digest_16 rfl ?_
        refine m_get_digitOf hM dX1_digest_17 ?_
        refine x_iload_n dX1_digest_20 rfl ?_
        refine m_ald hM (N := 26) rfl (by omega) (by decide) dX1_digest_21 ?_
        refine x_ji (show T.2 9 i = S.2 9 i from by rw [e9]) ?_
        refine x_i2l dX1_digest_22 (by have := hp0.2.2 i (by omega) (by omega); omega) ?_
        refine k_X1_mix (v := S.2 9 i) hM dX1_digest_23  ?_
        refine x_iinc (lv' := [(0, _), (1, _)]) dX1_digest_26 rfl rfl (by decide) ?_
        refine x_goto 9 dX1_digest_29 rfl ?_
        exact ih9 (i + 1) (_) (by omega) (by omega) (hT.h _) (by rw [sv_s, hh]; rfl)
  exact L9 (27) (0) (_) (by decide) (by omega) ((Cb.rf S).h _) (sv_s _ _ _)
