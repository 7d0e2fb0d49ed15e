/-! MODEL 15: a dial is read -/
set_option maxRecDepth 100000
abbrev q_X1_isDial (G : Gw) (M : Mg) (B : Hp) (S : Ms)  : Option Value → Hp → Prop := fun v_ h_ => v_ = some (iv (bI (f_isDial S))) ∧ h_ = mh G M B (s_isDial S)
set_option maxHeartbeats 4000000 in
theorem c_X1_isDial (l : Launch) (G : Gw) (M : Mg) (B : Hp) (S : Ms)  (hM : MOk M) (hp0 : Wp S) : Mt l G yX1_isDial cX1_isDial 6 (some .boolean) 0 [.ref (M.1)] (mh G M B S) (q_X1_isDial G M B S ) (0) (0) := by
  refine Mt.of (lv := [(0, .ref (M.1))]) (by decide) (Nat.le_of_ble_eq_true rfl) rfl (fun X => ?_)
  have h0 := hp0.1
  refine x_iconst dX1_isDial_0 ?_
  refine x_istore_n (lv' := [(0, _), (1, _)]) dX1_isDial_1 rfl (by decide) ?_
  refine x_iconst dX1_isDial_2 ?_
  refine x_istore_n (lv' := [(0, _), (1, _), (2, _)]) dX1_isDial_3 rfl (by decide) ?_
  refine x_iconst dX1_isDial_4 ?_
  refine x_istore_n (lv' := [(0, _), (1, _), (2, _), (3, _)]) dX1_isDial_5 rfl (by decide) ?_
  refine x_iconst dX1_isDial_6 ?_
  refine x_istore (lv' := [(0, _), (1, _), (2, _), (3, _), (4, _)]) dX1_isDial_7 rfl (by decide) ?_
  refine x_iconst dX1_isDial_9 ?_
  refine x_istore (lv' := [(0, _), (1, _), (2, _), (3, _), (4, _), (5, _)]) dX1_isDial_10 rfl (by decide) ?_
  have L12 : ∀ (n12 : Nat) (k : Nat) (l : Int) (d : Int) (m : Bool) (is : Bool) (T : Ms), (S.1 0 - k) < (n12 : Int) → ((k : Int) ≤ S.1 0) → (dS S k = (l, d, m, is, T)) → V G X cX1_isDial 6 yX1_isDial (some .boolean) 0 (q_X1_isDial G M B S ) (0) (0) 12 [(0, .ref (M.1)), (1, iv (l)), (2, iv (d)), (3, iv (bI (m))), (4, iv (bI (is))), (5, iv (k))] [] (mh G M B T) (0) (0) := by
    intro n12
    induction n12 with
    | zero =>
      intro k l d m is T hm hk hd
      exact absurd hm (by omega)
    | succ n12 ih12 =>
      intro k l d m is T hm12 hk hd
      have hD := dS_DI S k
      rw [hd] at hD
      obtain ⟨h1, h2, h3, h4, h5, h6⟩ := hD
      dsimp only at h1 h2 h3 h4 h5 h6
      have e0 : T.1 0 = S.1 0 := congrFun h1 0
      have ep : T.2 1 = S.2 1 := h2 1 (by decide)
      refine x_iload dX1_isDial_12 rfl ?_
      refine x_aload_n dX1_isDial_14 rfl ?_
      refine m_get_pageLength hM dX1_isDial_15 ?_
      refine x_icmp_ge 113 dX1_isDial_18 rfl (by omega) (by rw [e0]; omega) (fun c_18 => ?_) (fun c_18 => ?_)
      · rw [e0] at c_18
        have hN : dDial S = (l, d, m, is, T) := by unfold dDial; rw [show (S.1 0).toNat = k by omega]; exact hd
        refine x_iload dX1_isDial_113 rfl ?_
        refine x_ifb_eq 138 dX1_isDial_115 rfl (fun c_115 => ?_) (fun c_115 => ?_)
        · refine x_iconst dX1_isDial_138 ?_
          exact x_zret rfl (by decide) ⟨rb0 (by rw [f_isDial, hN]; simp_all), congrArg (mh G M B) (by rw [s_isDial, hN])⟩ dX1_isDial_139
        · refine x_iload_n dX1_isDial_118 rfl ?_
          refine x_bipush dX1_isDial_119 ?_
          refine x_icmp_ne 138 dX1_isDial_121 rfl (by omega) (by omega) (fun c_121 => ?_) (fun c_121 => ?_)
          · refine x_iconst dX1_isDial_138 ?_
            exact x_zret rfl (by decide) ⟨rb0 (by rw [f_isDial, hN]; simp_all), congrArg (mh G M B) (by rw [s_isDial, hN])⟩ dX1_isDial_139
          · refine x_iload_n dX1_isDial_124 rfl ?_
            refine x_bipush dX1_isDial_125 ?_
            refine x_icmp_ne 138 dX1_isDial_127 rfl (by omega) (by omega) (fun c_127 => ?_) (fun c_127 => ?_)
            · refine x_iconst dX1_isDial_138 ?_
              exact x_zret rfl (by decide) ⟨rb0 (by rw [f_isDial, hN]; simp_all), congrArg (mh G M B) (by rw [s_isDial, hN])⟩ dX1_isDial_139
            · refine x_iload_n dX1_isDial_130 rfl ?_
              refine x_ifb_eq 138 dX1_isDial_131 rfl (fun c_131 => ?_) (fun c_131 => ?_)
              · refine x_iconst dX1_isDial_138 ?_
                exact x_zret rfl (by decide) ⟨rb0 (by rw [f_isDial, hN]; simp_all), congrArg (mh G M B) (by rw [s_isDial, hN])⟩ dX1_isDial_139
              · refine x_iconst dX1_isDial_134 ?_
                refine x_goto 139 dX1_isDial_135 rfl ?_
                exact x_zret rfl (by decide) ⟨rb1 (by rw [f_isDial, hN]; simp_all), congrArg (mh G M B) (by rw [s_isDial, hN])⟩ dX1_isDial_139
      · rw [e0] at c_18
        refine x_iload dX1_isDial_21 rfl ?_
        refine x_ifb_eq 113 dX1_isDial_23 rfl (fun c_23 => ?_) (fun c_23 => ?_)
        · have hN : dDial S = (l, d, m, is, T) := by unfold dDial; rw [dS_f (k := k) (by omega) (by rw [hd]; exact c_23)]; exact hd
          refine x_iload dX1_isDial_113 rfl ?_
          refine x_ifb_eq 138 dX1_isDial_115 rfl (fun c_115 => ?_) (fun c_115 => ?_)
          · refine x_iconst dX1_isDial_138 ?_
            exact x_zret rfl (by decide) ⟨rb0 (by rw [f_isDial, hN]; simp_all), congrArg (mh G M B) (by rw [s_isDial, hN])⟩ dX1_isDial_139
          · refine x_iload_n dX1_isDial_118 rfl ?_
            refine x_bipush dX1_isDial_119 ?_
            refine x_icmp_ne 138 dX1_isDial_121 rfl (by omega) (by omega) (fun c_121 => ?_) (fun c_121 => ?_)
            · refine x_iconst dX1_isDial_138 ?_
              exact x_zret rfl (by decide) ⟨rb0 (by rw [f_isDial, hN]; simp_all), congrArg (mh G M B) (by rw [s_isDial, hN])⟩ dX1_isDial_139
            · refine x_iload_n dX1_isDial_124 rfl ?_
              refine x_bipush dX1_isDial_125 ?_
              refine x_icmp_ne 138 dX1_isDial_127 rfl (by omega) (by omega) (fun c_127 => ?_) (fun c_127 => ?_)
              · refine x_iconst dX1_isDial_138 ?_
                exact x_zret rfl (by decide) ⟨rb0 (by rw [f_isDial, hN]; simp_all), congrArg (mh G M B) (by rw [s_isDial, hN])⟩ dX1_isDial_139
              · refine x_iload_n dX1_isDial_130 rfl ?_
                refine x_ifb_eq 138 dX1_isDial_131 rfl (fun c_131 => ?_) (fun c_131 => ?_)
                · refine x_iconst dX1_isDial_138 ?_
                  exact x_zret rfl (by decide) ⟨rb0 (by rw [f_isDial, hN]; simp_all), congrArg (mh G M B) (by rw [s_isDial, hN])⟩ dX1_isDial_139
                · refine x_iconst dX1_isDial_134 ?_
                  refine x_goto 139 dX1_isDial_135 rfl ?_
                  exact x_zret rfl (by decide) ⟨rb1 (by rw [f_isDial, hN]; simp_all), congrArg (mh G M B) (by rw [s_isDial, hN])⟩ dX1_isDial_139
        · refine x_aload_n dX1_isDial_26 rfl ?_
          refine m_get_page hM dX1_isDial_27 ?_
          refine x_iload dX1_isDial_30 rfl ?_
          refine m_ald hM (N := 50) rfl (by omega) (by decide) dX1_isDial_32 ?_
          refine x_ji (show T.2 1 k = S.2 1 k from by rw [ep]) ?_
          refine x_bipush dX1_isDial_33 ?_
          refine x_icmp_ne 63 dX1_isDial_35 rfl (by have := hp0.2 k (by omega) (by omega); omega) (by decide) (fun c_35 => ?_) (fun c_35 => ?_)
          · have J88 : V G X cX1_isDial 6 yX1_isDial (some .boolean) 0 (q_X1_isDial G M B S ) (0) (0) 88 [(0, .ref (M.1)), (1, iv (l)), (2, iv (d)), (3, iv (bI (m))), (4, iv (bI (is))), (5, iv (k))] [iv (bI (decide (l < 26) && decide (S.2 1 k = 97 + l)))] (mh G M B T) (0) (0) := by
              refine x_istore (lv' := [(0, _), (1, _), (2, _), (3, _), (4, _), (5, _)]) dX1_isDial_88 rfl (by decide) ?_
              refine x_iload dX1_isDial_90 rfl ?_
              refine x_ifb_eq 107 dX1_isDial_92 rfl (fun c_92 => ?_) (fun c_92 => ?_)
              · refine x_iinc (lv' := [(0, _), (1, _), (2, _), (3, _), (4, _), (5, _)]) dX1_isDial_107 rfl rfl (by decide) ?_
                refine x_goto 12 dX1_isDial_110 rfl ?_
                exact ih12 (k + 1) (_) (_) (m) (_) (_) (by omega) (by omega) (by rw [dS, hd]; show (if is then dstep (S.2 1 k) (l, d, m, is, T) else _) = _; rw [c_23, if_pos rfl]; unfold dstep; rw [if_neg c_35, c_92]; rfl)
              · refine x_aload_n dX1_isDial_95 rfl ?_
                refine m_get_newDigit hM dX1_isDial_96 ?_
                refine x_iload_n dX1_isDial_99 rfl ?_
                refine x_iload_n dX1_isDial_100 rfl ?_
                refine m_ast hM (N := 26) rfl (by have h7 := c_92; rw [Bool.and_eq_true, decide_eq_true_eq] at h7; omega) (by decide) dX1_isDial_101 ?_
                refine x_iinc (lv' := [(0, _), (1, _), (2, _), (3, _), (4, _), (5, _)]) dX1_isDial_102 rfl rfl (by decide) ?_
                refine x_iconst dX1_isDial_105 ?_
                refine x_istore_n (lv' := [(0, _), (1, _), (2, _), (3, _), (4, _), (5, _)]) dX1_isDial_106 rfl (by decide) ?_
                refine x_iinc (lv' := [(0, _), (1, _), (2, _), (3, _), (4, _), (5, _)]) dX1_isDial_107 rfl rfl (by decide) ?_
                refine x_goto 12 dX1_isDial_110 rfl ?_
                exact ih12 (k + 1) (_) (_) (true) (_) (_) (by omega) (by omega) (by rw [dS, hd]; show (if is then dstep (S.2 1 k) (l, d, m, is, T) else _) = _; rw [c_23, if_pos rfl]; unfold dstep; rw [if_neg c_35, c_92]; rfl)
            refine x_iload_n dX1_isDial_63 rfl ?_
            refine x_bipush dX1_isDial_64 ?_
            refine x_icmp_ge 87 dX1_isDial_66 rfl (by omega) (by omega) (fun c_66 => ?_) (fun c_66 => ?_)
            · refine x_iconst dX1_isDial_87 ?_
              exact x_jf (by first | (simp_all; done) | (simp [c_66, c_80]; done) | (simp; omega)) J88
            · refine x_aload_n dX1_isDial_69 rfl ?_
              refine m_get_page hM dX1_isDial_70 ?_
              refine x_iload dX1_isDial_73 rfl ?_
              refine m_ald hM (N := 50) rfl (by omega) (by decide) dX1_isDial_75 ?_
              refine x_ji (show T.2 1 k = S.2 1 k from by rw [ep]) ?_
              refine x_bipush dX1_isDial_76 ?_
              refine x_iload_n dX1_isDial_78 rfl ?_
              refine x_iadd dX1_isDial_79 ?_
              refine x_icmp_ne 87 dX1_isDial_80 rfl (by have := hp0.2 k (by omega) (by omega); omega) (by omega) (fun c_80 => ?_) (fun c_80 => ?_)
              · refine x_iconst dX1_isDial_87 ?_
                exact x_jf (by first | (simp_all; done) | (simp [c_66, c_80]; done) | (simp; omega)) J88
              · refine x_iconst dX1_isDial_83 ?_
                refine x_goto 88 dX1_isDial_84 rfl ?_
                exact x_jt (by first | (simp_all; done) | (simp [c_66, c_80]; done) | (simp; omega)) J88
          · have J53 : V G X cX1_isDial 6 yX1_isDial (some .boolean) 0 (q_X1_isDial G M B S ) (0) (0) 53 [(0, .ref (M.1)), (1, iv (l)), (2, iv (d)), (3, iv (bI (m))), (4, iv (bI (is))), (5, iv (k))] [iv (bI (m && decide (d < 9)))] (mh G M B T) (0) (0) := by
              refine x_istore (lv' := [(0, _), (1, _), (2, _), (3, _), (4, _), (5, _)]) dX1_isDial_53 rfl (by decide) ?_
              refine x_iinc (lv' := [(0, _), (1, _), (2, _), (3, _), (4, _), (5, _)]) dX1_isDial_55 rfl rfl (by decide) ?_
              refine x_iconst dX1_isDial_58 ?_
              refine x_istore_n (lv' := [(0, _), (1, _), (2, _), (3, _), (4, _), (5, _)]) dX1_isDial_59 rfl (by decide) ?_
              refine x_goto 107 dX1_isDial_60 rfl ?_
              refine x_iinc (lv' := [(0, _), (1, _), (2, _), (3, _), (4, _), (5, _)]) dX1_isDial_107 rfl rfl (by decide) ?_
              refine x_goto 12 dX1_isDial_110 rfl ?_
              exact ih12 (k + 1) (_) (_) (false) (_) (_) (by omega) (by omega) (by rw [dS, hd]; show (if is then dstep (S.2 1 k) (l, d, m, is, T) else _) = _; rw [c_23, if_pos rfl]; unfold dstep; rw [if_pos c_35])
            refine x_iload_n dX1_isDial_38 rfl ?_
            refine x_ifb_eq 52 dX1_isDial_39 rfl (fun c_39 => ?_) (fun c_39 => ?_)
            · refine x_iconst dX1_isDial_52 ?_
              exact x_jf (by first | (simp_all; done) | (simp; omega) | (simp_all; omega)) J53
            · refine x_iload_n dX1_isDial_42 rfl ?_
              refine x_bipush dX1_isDial_43 ?_
              refine x_icmp_ge 52 dX1_isDial_45 rfl (by omega) (by omega) (fun c_45 => ?_) (fun c_45 => ?_)
              · refine x_iconst dX1_isDial_52 ?_
                exact x_jf (by first | (simp_all; done) | (simp; omega) | (simp_all; omega)) J53
              · refine x_iconst dX1_isDial_48 ?_
                refine x_goto 53 dX1_isDial_49 rfl ?_
                exact x_jt (by first | (simp_all; done) | (simp; omega) | (simp_all; omega)) J53
  exact L12 ((S.1 0).toNat + 1) (0) (0) (2) (false) (true) (S) (by omega) (by omega) (rfl)
theorem k_X1_isDial {G : Gw} {X : Cx} {cc : ByteArray} {nL : Nat} {y : MethodName} {ret : Option FieldType} {dp : Nat} {P : Option Value → Hp → Prop} {mc ms pc : Nat} {lv : List (Nat × Value)} {st : List Value} {kc ks : Nat} {M : Mg} {B : Hp} {S : Ms}  (hM : MOk M) (hd : decode cc pc = .ok (.invokevirtual 133, 3)) (hp0 : Wp S) (kk : V G X cc nL y ret dp P mc ms (pc + 3) lv (iv (bI (f_isDial S)) :: st) (mh G M B (s_isDial S)) kc ks) (hy : y.cls = RX1 := by rfl) (hdp : 0 + 1 ≤ dp := by decide) (hrs : (st.map fun v => v.category).sum ≤ 8 := by first | decide | (simp [Value.category, iv, jv]; done)) : V G X cc nL y ret dp P mc ms pc lv (.ref M.1 :: st) (mh G M B S) kc ks := by
  refine x_callV (ci := 1) (T := TX1) (N := 33) (As := []) 0 (fun l => c_X1_isDial l G M B S  hM hp0) (by rw [hy]; exact q2991) q2993 qs84 q173 q2994 (by decide +kernel) hdp (by decide) (mh_o hM) rfl rfl rfl hrs hd (Nat.zero_le _) (Nat.zero_le _) (fun v h hv => ?_)
  obtain ⟨rfl, rfl⟩ := hv
  exact kk
abbrev q_X1_dial (G : Gw) (M : Mg) (B : Hp) (S : Ms)  : Option Value → Hp → Prop := fun v_ h_ => v_ = some (iv (f_dial S)) ∧ h_ = mh G M B (s_dial S)
set_option maxHeartbeats 4000000 in
theorem c_X1_dial (l : Launch) (G : Gw) (M : Mg) (B : Hp) (S : Ms)  (hM : MOk M) (hp0 : Wp S) : Mt l G yX1_dial cX1_dial 5 (some .int) 1 [.ref (M.1)] (mh G M B S) (q_X1_dial G M B S ) (0) (0) := by
  refine Mt.of (lv := [(0, .ref (M.1))]) (by decide) (Nat.le_of_ble_eq_true rfl) rfl (fun X => ?_)
  refine x_aload_n dX1_dial_0 rfl ?_
  refine k_X1_isDial  hM dX1_dial_1 (hp0) ?_
  refine x_ifb_ne 10 dX1_dial_4 rfl (fun c_4 => ?_) (fun c_4 => ?_)
  · have hR := isDial_R c_4
    refine x_iconst dX1_dial_10 ?_
    refine x_istore_n (lv' := [(0, _), (1, _)]) dX1_dial_11 rfl (by decide) ?_
    refine x_iconst dX1_dial_12 ?_
    refine x_istore_n (lv' := [(0, _), (1, _), (2, _)]) dX1_dial_13 rfl (by decide) ?_
    have L14 : ∀ (n14 : Nat) (x : Int) (j : Nat), (10 - x) < (n14 : Int) → (x = 2 + j) → (x ≤ 10) → V G X cX1_dial 5 yX1_dial (some .int) 1 (q_X1_dial G M B S ) (0) (0) 14 [(0, .ref (M.1)), (1, iv (maxZ 0 (fun j => f_cntD S (2 + j)) j)), (2, iv (x))] [] (mh G M B (s_isDial S)) (0) (0) := by
      intro n14
      induction n14 with
      | zero =>
        intro x j hm hx hx1
        exact absurd hm (by omega)
      | succ n14 ih14 =>
        intro x j hm14 hx hx1
        have m1 := maxZ_D S j
        refine x_iload_n dX1_dial_14 rfl ?_
        refine x_bipush dX1_dial_15 ?_
        refine x_icmp_ge 74 dX1_dial_17 rfl (by omega) (by omega) (fun c_17 => ?_) (fun c_17 => ?_)
        · refine x_iconst dX1_dial_74 ?_
          refine x_istore_n (lv' := [(0, _), (1, _), (2, _)]) dX1_dial_75 rfl (by decide) ?_
          have L76 : ∀ (n76 : Nat) (g : Nat), ((26 : Int) - g) < (n76 : Int) → ((g : Int) ≤ 26) → V G X cX1_dial 5 yX1_dial (some .int) 1 (q_X1_dial G M B S ) (0) (0) 76 [(0, .ref (M.1)), (1, iv (maxZ 0 (fun j => f_cntD S (2 + j)) j)), (2, iv (g))] [] (mh G M B (s_c3 (s_isDial S) g)) (0) (0) := by
            intro n76
            induction n76 with
            | zero =>
              intro g hm hg
              exact absurd hm (by omega)
            | succ n76 ih76 =>
              intro g hm76 hg
              refine x_iload_n dX1_dial_76 rfl ?_
              refine x_bipush dX1_dial_77 ?_
              refine x_icmp_ge 100 dX1_dial_79 rfl (by omega) (by omega) (fun c_79 => ?_) (fun c_79 => ?_)
              · refine x_aload_n dX1_dial_100 rfl ?_
                refine x_dup dX1_dial_101 ?_
                refine m_get_dialsRead hM dX1_dial_102 ?_
                refine x_iconst dX1_dial_105 ?_
                refine x_iadd dX1_dial_106 ?_
                refine m_put_dialsRead hM dX1_dial_107 ?_
                refine x_aload_n dX1_dial_110 rfl ?_
                refine x_iconst dX1_dial_111 ?_
                refine m_put_pageLength hM dX1_dial_112 ?_
                refine x_iload_n dX1_dial_115 rfl ?_
                exact x_iret rfl ⟨ri (by rw [f_dial, if_pos c_4, show j = 8 by omega]), congrArg (mh G M B) (by rw [s_dial, if_pos c_4, show (g : Int) = 26 by omega, ← (isDial_cs S).1 7 rfl]; rfl)⟩ dX1_dial_116
              · refine x_aload_n dX1_dial_82 rfl ?_
                refine m_get_digitOf hM dX1_dial_83 ?_
                refine x_iload_n dX1_dial_86 rfl ?_
                refine x_aload_n dX1_dial_87 rfl ?_
                refine m_get_newDigit hM dX1_dial_88 ?_
                refine x_iload_n dX1_dial_91 rfl ?_
                refine m_ald hM (N := 26) rfl (by omega) (by decide) dX1_dial_92 ?_
                refine m_ast hM (N := 26) rfl (by omega) (by decide) dX1_dial_93 ?_
                refine x_iinc (lv' := [(0, _), (1, _), (2, _)]) dX1_dial_94 rfl rfl (by decide) ?_
                refine x_goto 76 dX1_dial_97 rfl ?_
                refine x_h (congrArg (mh G M B) (c3_s (s_isDial S) g)) ?_
                exact ih76 (g + 1) (by omega) (by omega)
          refine x_h (congrArg (mh G M B) (c3_0 _)) ?_
          exact L76 (27) (0) (by decide) (by omega)
        · refine x_iconst dX1_dial_20 ?_
          refine x_istore_n (lv' := [(0, _), (1, _), (2, _), (3, _)]) dX1_dial_21 rfl (by decide) ?_
          refine x_iconst dX1_dial_22 ?_
          refine x_istore (lv' := [(0, _), (1, _), (2, _), (3, _), (4, _)]) dX1_dial_23 rfl (by decide) ?_
          have L25 : ∀ (n25 : Nat) (k : Nat), (26 - k) < (n25 : Int) → ((k : Int) ≤ 26) → V G X cX1_dial 5 yX1_dial (some .int) 1 (q_X1_dial G M B S ) (0) (0) 25 [(0, .ref (M.1)), (1, iv (maxZ 0 (fun j => f_cntD S (2 + j)) j)), (2, iv (x)), (3, iv (cntB (fun k => decide ((s_isDial S).2 21 k = x)) k)), (4, iv (k))] [] (mh G M B (s_isDial S)) (0) (0) := by
            intro n25
            induction n25 with
            | zero =>
              intro k hm hk
              exact absurd hm (by omega)
            | succ n25 ih25 =>
              intro k hm25 hk
              have m2 := cntB_R (p := fun k => decide ((s_isDial S).2 21 k = x)) (n := k)
              refine x_iload dX1_dial_25 rfl ?_
              refine x_bipush dX1_dial_27 ?_
              refine x_icmp_ge 57 dX1_dial_29 rfl (by omega) (by omega) (fun c_29 => ?_) (fun c_29 => ?_)
              · have J67 : V G X cX1_dial 5 yX1_dial (some .int) 1 (q_X1_dial G M B S ) (0) (0) 67 [(0, .ref (M.1)), (1, iv (maxZ 0 (fun j => f_cntD S (2 + j)) j)), (2, iv (x)), (3, iv (cntB (fun k => decide ((s_isDial S).2 21 k = x)) k)), (4, iv (k))] [iv (maxZ 0 (fun j => f_cntD S (2 + j)) (j + 1))] (mh G M B (s_isDial S)) (0) (0) := by
                  refine x_istore_n (lv' := [(0, _), (1, _), (2, _), (3, _), (4, _)]) dX1_dial_67 rfl (by decide) ?_
                  refine x_iinc (lv' := [(0, _), (1, _), (2, _), (3, _), (4, _)]) dX1_dial_68 rfl rfl (by decide) ?_
                  refine x_goto 14 dX1_dial_71 rfl ?_
                  refine x_lvp [0, 1, 2] (lv' := [(0, _), (1, _), (2, _)]) rfl ?_
                  exact ih14 (x + 1) (j + 1) (by omega) (by omega) (by omega)
                refine x_iload_n dX1_dial_57 rfl ?_
                refine x_iload_n dX1_dial_58 rfl ?_
                refine x_icmp_le 66 dX1_dial_59 rfl (by omega) (by omega) (fun c_59 => ?_) (fun c_59 => ?_)
                · refine x_iload_n dX1_dial_66 rfl ?_
                  exact x_ji (by rw [maxZ, ← hx, show f_cntD S x = cntB (fun k => decide ((s_isDial S).2 21 k = x)) k by rw [f_cntD, show k = 26 by omega]]; first | (rw [if_pos (by omega)]; done) | (rw [if_neg (by omega)]; done)) J67
                · refine x_iload_n dX1_dial_62 rfl ?_
                  refine x_goto 67 dX1_dial_63 rfl ?_
                  exact x_ji (by rw [maxZ, ← hx, show f_cntD S x = cntB (fun k => decide ((s_isDial S).2 21 k = x)) k by rw [f_cntD, show k = 26 by omega]]; first | (rw [if_pos (by omega)]; done) | (rw [if_neg (by omega)]; done)) J67
              · refine x_iload_n dX1_dial_32 rfl ?_
                have J49 : V G X cX1_dial 5 yX1_dial (some .int) 1 (q_X1_dial G M B S ) (0) (0) 49 [(0, .ref (M.1)), (1, iv (maxZ 0 (fun j => f_cntD S (2 + j)) j)), (2, iv (x)), (3, iv (cntB (fun k => decide ((s_isDial S).2 21 k = x)) k)), (4, iv (k))] [iv (bI (decide ((s_isDial S).2 21 k = x))), iv (cntB (fun k => decide ((s_isDial S).2 21 k = x)) k)] (mh G M B (s_isDial S)) (0) (0) := by
                  refine x_iadd dX1_dial_49 ?_
                  refine x_istore_n (lv' := [(0, _), (1, _), (2, _), (3, _), (4, _)]) dX1_dial_50 rfl (by decide) ?_
                  refine x_iinc (lv' := [(0, _), (1, _), (2, _), (3, _), (4, _)]) dX1_dial_51 rfl rfl (by decide) ?_
                  refine x_goto 25 dX1_dial_54 rfl ?_
                  exact ih25 (k + 1) (by omega) (by omega)
                refine x_aload_n dX1_dial_33 rfl ?_
                refine m_get_newDigit hM dX1_dial_34 ?_
                refine x_iload dX1_dial_37 rfl ?_
                refine m_ald hM (N := 26) rfl (by omega) (by decide) dX1_dial_39 ?_
                refine x_iload_n dX1_dial_40 rfl ?_
                refine x_icmp_ne 48 dX1_dial_41 rfl (by have := hR k (by omega) (by omega); omega) (by omega) (fun c_41 => ?_) (fun c_41 => ?_)
                · refine x_iconst dX1_dial_48 ?_
                  exact x_ji (by simp_all [bI]) J49
                · refine x_iconst dX1_dial_44 ?_
                  refine x_goto 49 dX1_dial_45 rfl ?_
                  exact x_ji (by simp_all [bI]) J49
          exact L25 (27) (0) (by decide) (by omega)
    exact L14 (9) (2) (0) (by decide) (by omega) (by omega)
  · refine x_bipush dX1_dial_7 ?_
    exact x_iret rfl ⟨ri (by rw [f_dial, if_neg (bf c_4)]), congrArg (mh G M B) (by rw [s_dial, if_neg (bf c_4)])⟩ dX1_dial_9
