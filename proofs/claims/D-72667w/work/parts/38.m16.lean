/-! MODEL 16: names and what is typed are mixed -/
set_option maxRecDepth 100000
abbrev q_X1_mix (G : Gw) (M : Mg) (B : Hp) (S : Ms) (v : Int) : Option Value → Hp → Prop := fun v_ h_ => v_ = none ∧ h_ = mh G M B (sv S 32 (31 * S.1 32 + v))
set_option maxHeartbeats 4000000 in
theorem c_X1_mix (l : Launch) (G : Gw) (M : Mg) (B : Hp) (S : Ms) (v : Int) (hM : MOk M)  : Mt l G yX1_mix cX1_mix 3 none 0 [.ref (M.1), jv (v)] (mh G M B S) (q_X1_mix G M B S v) (0) (0) := by
  refine Mt.of (lv := [(0, .ref (M.1)), (1, jv (v))]) (by decide) (Nat.le_of_ble_eq_true rfl) rfl (fun X => ?_)
  refine x_aload_n dX1_mix_0 rfl ?_
  refine x_ldc2 31 q3274 dX1_mix_1 rfl ?_
  refine x_aload_n dX1_mix_4 rfl ?_
  refine m_get_h hM dX1_mix_5 ?_
  refine x_lmul dX1_mix_8 ?_
  refine x_lload_n dX1_mix_9 rfl ?_
  refine x_ladd dX1_mix_10 ?_
  refine m_put_h hM dX1_mix_11 ?_
  exact x_vret rfl ⟨rfl, rfl⟩ dX1_mix_14
theorem k_X1_mix {G : Gw} {X : Cx} {cc : ByteArray} {nL : Nat} {y : MethodName} {ret : Option FieldType} {dp : Nat} {P : Option Value → Hp → Prop} {mc ms pc : Nat} {lv : List (Nat × Value)} {st : List Value} {kc ks : Nat} {M : Mg} {B : Hp} {S : Ms} {v : Int} (hM : MOk M) (hd : decode cc pc = .ok (.invokevirtual 304, 3))  (kk : V G X cc nL y ret dp P mc ms (pc + 3) lv (st) (mh G M B (sv S 32 (31 * S.1 32 + v))) kc ks) (hy : y.cls = RX1 := by rfl) (hdp : 0 + 1 ≤ dp := by decide) (hrs : (st.map fun v => v.category).sum ≤ 8 := by first | decide | (simp [Value.category, iv, jv]; done)) : V G X cc nL y ret dp P mc ms pc lv (jv (v) :: .ref M.1 :: st) (mh G M B S) kc ks := by
  refine x_callV (ci := 1) (T := TX1) (N := 33) (As := [jv (v)]) 1 (fun l => c_X1_mix l G M B S v hM ) (by rw [hy]; exact q3270) q3272 qs132 q173 q3273 (by decide +kernel) hdp (by decide) (mh_o hM) rfl rfl rfl hrs hd (Nat.zero_le _) (Nat.zero_le _) (fun v h hv => ?_)
  obtain ⟨rfl, rfl⟩ := hv
  exact kk
abbrev q_X1_mixName (G : Gw) (M : Mg) (B : Hp) (S : Ms) (a : Int) : Option Value → Hp → Prop := fun v_ h_ => ∃ T : Ms, v_ = none ∧ h_ = mh G M B T ∧ (Cb S T ∧ T.1 32 = m_name S a (S.1 32))
set_option maxHeartbeats 4000000 in
theorem c_X1_mixName (l : Launch) (G : Gw) (M : Mg) (B : Hp) (S : Ms) (a : Int) (hM : MOk M) (hp0 : Wf S) (hp1 : Wm S) (hp2 : 0 ≤ a ∧ a < S.1 2) : Mt l G yX1_mixName cX1_mixName 3 none 6 [.ref (M.1), iv (a)] (mh G M B S) (q_X1_mixName G M B S a) (0) (0) := by
  refine Mt.of (lv := [(0, .ref (M.1)), (1, iv (a))]) (by decide) (Nat.le_of_ble_eq_true rfl) rfl (fun X => ?_)
  have h2 := hp0.nm
  have h3 := hp0.len hp2
  refine x_iconst dX1_mixName_0 ?_
  refine x_istore_n (lv' := [(0, _), (1, _), (2, _)]) dX1_mixName_1 rfl (by decide) ?_
  have L2 : ∀ (n2 : Nat) (i : Nat) (T : Ms), (S.2 3 a - i) < (n2 : Int) → ((i : Int) ≤ S.2 3 a) → (Cb S T) → (T.1 32 = mixZ (fun i => S.2 4 (8 * a + i)) (S.1 32) i) → V G X cX1_mixName 3 yX1_mixName none 6 (q_X1_mixName G M B S a) (0) (0) 2 [(0, .ref (M.1)), (1, iv (a)), (2, iv (i))] [] (mh G M B T) (0) (0) := by
    intro n2
    induction n2 with
    | zero =>
      intro i T hm hi hT hh
      exact absurd hm (by omega)
    | succ n2 ih2 =>
      intro i T hm2 hi hT hh
      have e3 : T.2 3 = S.2 3 := hT.1.2 3 rfl
      have e4 : T.2 4 = S.2 4 := hT.1.2 4 rfl
      refine x_iload_n dX1_mixName_2 rfl ?_
      refine x_aload_n dX1_mixName_3 rfl ?_
      refine m_get_length hM dX1_mixName_4 ?_
      refine x_iload_n dX1_mixName_7 rfl ?_
      refine m_ald hM (N := 14) rfl (by omega) (by decide) dX1_mixName_8 ?_
      refine x_icmp_ge 34 dX1_mixName_9 rfl (by omega) (by rw [e3]; omega) (fun c_9 => ?_) (fun c_9 => ?_)
      · rw [e3] at c_9
        have eI : (S.2 3 a).toNat = i := by omega
        refine x_iconst dX1_mixName_34 ?_
        refine x_istore_n (lv' := [(0, _), (1, _), (2, _)]) dX1_mixName_35 rfl (by decide) ?_
        have L36 : ∀ (n36 : Nat) (w : Nat) (T : Ms), (8 - w) < (n36 : Int) → ((w : Int) ≤ 8) → (Cb S T) → (T.1 32 = mixZ (fun w => f_name S a w) (mixZ (fun i => S.2 4 (8 * a + i)) (S.1 32) (S.2 3 a).toNat) w) → V G X cX1_mixName 3 yX1_mixName none 6 (q_X1_mixName G M B S a) (0) (0) 36 [(0, .ref (M.1)), (1, iv (a)), (2, iv (w))] [] (mh G M B T) (0) (0) := by
          intro n36
          induction n36 with
          | zero =>
            intro w T hm hw hT hh
            exact absurd hm (by omega)
          | succ n36 ih36 =>
            intro w T hm36 hw hT hh
            refine x_iload_n dX1_mixName_36 rfl ?_
            refine x_bipush dX1_mixName_37 ?_
            refine x_icmp_ge 59 dX1_mixName_39 rfl (by omega) (by omega) (fun c_39 => ?_) (fun c_39 => ?_)
            · have eW : (8 : Nat) = w := by omega
              refine x_iconst dX1_mixName_59 ?_
              refine x_istore_n (lv' := [(0, _), (1, _), (2, _)]) dX1_mixName_60 rfl (by decide) ?_
              have L61 : ∀ (n61 : Nat) (j : Nat) (T : Ms), (S.2 3 a - j) < (n61 : Int) → ((j : Int) ≤ S.2 3 a) → (Cb S T) → (T.1 32 = mixZ (fun i => f_code S a i) (mixZ (fun w => f_name S a w) (mixZ (fun i => S.2 4 (8 * a + i)) (S.1 32) (S.2 3 a).toNat) 8) j) → V G X cX1_mixName 3 yX1_mixName none 6 (q_X1_mixName G M B S a) (0) (0) 61 [(0, .ref (M.1)), (1, iv (a)), (2, iv (j))] [] (mh G M B T) (0) (0) := by
                intro n61
                induction n61 with
                | zero =>
                  intro j T hm hj hT hh
                  exact absurd hm (by omega)
                | succ n61 ih61 =>
                  intro j T hm61 hj hT hh
                  have e3 : T.2 3 = S.2 3 := hT.1.2 3 rfl
                  refine x_iload_n dX1_mixName_61 rfl ?_
                  refine x_aload_n dX1_mixName_62 rfl ?_
                  refine m_get_length hM dX1_mixName_63 ?_
                  refine x_iload_n dX1_mixName_66 rfl ?_
                  refine m_ald hM (N := 14) rfl (by omega) (by decide) dX1_mixName_67 ?_
                  refine x_icmp_ge 88 dX1_mixName_68 rfl (by omega) (by rw [e3]; omega) (fun c_68 => ?_) (fun c_68 => ?_)
                  · rw [e3] at c_68
                    have eJ : (S.2 3 a).toNat = j := by omega
                    exact x_vret rfl ⟨_, rfl, rfl, ⟨hT, by rw [hh, m_name, eJ]⟩⟩ dX1_mixName_88
                  · rw [e3] at c_68
                    refine x_aload_n dX1_mixName_71 rfl ?_
                    refine x_aload_n dX1_mixName_72 rfl ?_
                    refine x_iload_n dX1_mixName_73 rfl ?_
                    refine x_iload_n dX1_mixName_74 rfl ?_
                    refine k_X1_codeAt (a := a) (i := j) hM dX1_mixName_75 (hp0.cs hT.1) (by rw [hT.1.1 2 rfl]; exact hp2) (by rw [e3]; omega) ?_
                    refine x_ji (show f_code T a j = f_code S a j from by rw [f_code_cs hT.1]) ?_
                    refine x_i2l dX1_mixName_78 (by have := hp0.code hp2 (i := j) (by omega); omega) ?_
                    refine k_X1_mix (v := f_code S a j) hM dX1_mixName_79  ?_
                    refine x_iinc (lv' := [(0, _), (1, _), (2, _)]) dX1_mixName_82 rfl rfl (by decide) ?_
                    refine x_goto 61 dX1_mixName_85 rfl ?_
                    exact ih61 (j + 1) (_) (by omega) (by omega) (hT.h _) (by rw [sv_s, hh]; rfl)
              exact L61 ((S.2 3 a).toNat + 1) (0) (_) (by omega) (by omega) (hT) (by rw [hh, eW]; rfl)
            · refine x_aload_n dX1_mixName_42 rfl ?_
              refine x_aload_n dX1_mixName_43 rfl ?_
              refine x_iload_n dX1_mixName_44 rfl ?_
              refine x_iload_n dX1_mixName_45 rfl ?_
              refine k_X1_nameNow (a := a) (w := w) hM dX1_mixName_46 (hp0.cs hT.1) (by rw [hT.1.1 2 rfl]; exact hp2) (by omega) (by rw [hT.1.1 12 rfl]; have := hp1.1; omega) (fun T46_1 rT46_1 => ?_)
              have hc46 := rT46_1
              refine x_ji (show f_name T a w = f_name S a w from by rw [f_name_cs hT.1]) ?_
              refine x_i2l dX1_mixName_49 (f_name_R hp0 hp1 hp2) ?_
              refine k_X1_mix (v := f_name S a w) hM dX1_mixName_50  ?_
              refine x_iinc (lv' := [(0, _), (1, _), (2, _)]) dX1_mixName_53 rfl rfl (by decide) ?_
              refine x_goto 36 dX1_mixName_56 rfl ?_
              exact ih36 (w + 1) (_) (by omega) (by omega) ((hT.tr hc46.1).h _) (by rw [sv_s, hc46.2, hh]; rfl)
        exact L36 (9) (0) (_) (by decide) (by omega) (hT) (by rw [hh, eI]; rfl)
      · rw [e3] at c_9
        refine x_aload_n dX1_mixName_12 rfl ?_
        refine x_aload_n dX1_mixName_13 rfl ?_
        refine m_get_letters hM dX1_mixName_14 ?_
        refine x_bipush dX1_mixName_17 ?_
        refine x_iload_n dX1_mixName_19 rfl ?_
        refine x_imul dX1_mixName_20 ?_
        refine x_iload_n dX1_mixName_21 rfl ?_
        refine x_iadd dX1_mixName_22 ?_
        refine m_ald hM (N := 112) rfl (by omega) (by decide) dX1_mixName_23 ?_
        refine x_ji (show T.2 4 ((8 * a) + i) = S.2 4 (8 * a + i) from by rw [e4]) ?_
        refine x_i2l dX1_mixName_24 (by have := hp0.let hp2 (i := i) (by omega); omega) ?_
        refine k_X1_mix (v := S.2 4 (8 * a + i)) hM dX1_mixName_25  ?_
        refine x_iinc (lv' := [(0, _), (1, _), (2, _)]) dX1_mixName_28 rfl rfl (by decide) ?_
        refine x_goto 2 dX1_mixName_31 rfl ?_
        exact ih2 (i + 1) (_) (by omega) (by omega) (hT.h _) (by rw [sv_s, hh]; rfl)
  exact L2 ((S.2 3 a).toNat + 1) (0) (_) (by omega) (by omega) (Cb.rf S) (rfl)
theorem k_X1_mixName {G : Gw} {X : Cx} {cc : ByteArray} {nL : Nat} {y : MethodName} {ret : Option FieldType} {dp : Nat} {P : Option Value → Hp → Prop} {mc ms pc : Nat} {lv : List (Nat × Value)} {st : List Value} {kc ks : Nat} {M : Mg} {B : Hp} {S : Ms} {a : Int} (hM : MOk M) (hd : decode cc pc = .ok (.invokevirtual 313, 3)) (hp0 : Wf S) (hp1 : Wm S) (hp2 : 0 ≤ a ∧ a < S.1 2) (kk : ∀ T : Ms, (Cb S T ∧ T.1 32 = m_name S a (S.1 32)) → V G X cc nL y ret dp P mc ms (pc + 3) lv (st) (mh G M B T) kc ks) (hy : y.cls = RX1 := by rfl) (hdp : 6 + 1 ≤ dp := by decide) (hrs : (st.map fun v => v.category).sum ≤ 8 := by first | decide | (simp [Value.category, iv, jv]; done)) : V G X cc nL y ret dp P mc ms pc lv (iv (a) :: .ref M.1 :: st) (mh G M B S) kc ks := by
  refine x_callV (ci := 1) (T := TX1) (N := 33) (As := [iv (a)]) 1 (fun l => c_X1_mixName l G M B S a hM hp0 hp1 hp2) (by rw [hy]; exact q3275) q3277 qs133 q173 q3278 (by decide +kernel) hdp (by decide) (mh_o hM) rfl rfl rfl hrs hd (Nat.zero_le _) (Nat.zero_le _) (fun v h hv => ?_)
  obtain ⟨T, rfl, rfl, hv⟩ := hv
  exact kk T hv
abbrev q_X1_mixTyped (G : Gw) (M : Mg) (B : Hp) (S : Ms)  : Option Value → Hp → Prop := fun v_ h_ => ∃ T : Ms, v_ = none ∧ h_ = mh G M B T ∧ (Cb S T ∧ T.1 32 = m_typed S (S.1 32))
set_option maxHeartbeats 4000000 in
theorem c_X1_mixTyped (l : Launch) (G : Gw) (M : Mg) (B : Hp) (S : Ms)  (hM : MOk M) (hp0 : Wf S) (hp1 : Wt S) : Mt l G yX1_mixTyped cX1_mixTyped 2 none 4 [.ref (M.1)] (mh G M B S) (q_X1_mixTyped G M B S ) (0) (0) := by
  refine Mt.of (lv := [(0, .ref (M.1))]) (by decide) (Nat.le_of_ble_eq_true rfl) rfl (fun X => ?_)
  have h2 := hp0.nm
  have h3 := hp1.1
  refine x_iconst dX1_mixTyped_0 ?_
  refine x_istore_n (lv' := [(0, _), (1, _)]) dX1_mixTyped_1 rfl (by decide) ?_
  have L2 : ∀ (n2 : Nat) (i : Nat) (T : Ms), (S.1 10 - i) < (n2 : Int) → ((i : Int) ≤ S.1 10) → (Cb S T) → (T.1 32 = mixZ (fun i => S.2 11 i) (S.1 32) i) → V G X cX1_mixTyped 2 yX1_mixTyped none 4 (q_X1_mixTyped G M B S ) (0) (0) 2 [(0, .ref (M.1)), (1, iv (i))] [] (mh G M B T) (0) (0) := by
    intro n2
    induction n2 with
    | zero =>
      intro i T hm hi hT hh
      exact absurd hm (by omega)
    | succ n2 ih2 =>
      intro i T hm2 hi hT hh
      have e10 : T.1 10 = S.1 10 := hT.1.1 10 rfl
      have e11 : T.2 11 = S.2 11 := hT.1.2 11 rfl
      refine x_iload_n dX1_mixTyped_2 rfl ?_
      refine x_aload_n dX1_mixTyped_3 rfl ?_
      refine m_get_typedMany hM dX1_mixTyped_4 ?_
      refine x_icmp_ge 27 dX1_mixTyped_7 rfl (by omega) (by rw [e10]; omega) (fun c_7 => ?_) (fun c_7 => ?_)
      · rw [e10] at c_7
        have eI : (S.1 10).toNat = i := by omega
        refine x_iconst dX1_mixTyped_27 ?_
        refine x_istore_n (lv' := [(0, _), (1, _)]) dX1_mixTyped_28 rfl (by decide) ?_
        have L29 : ∀ (n29 : Nat) (p : Nat) (T : Ms), (16 - p) < (n29 : Int) → ((p : Int) ≤ 15) → (Cb S T) → (mixW (fun p => f_choice S p) (-101) 16 0 (mixZ (fun i => S.2 11 i) (S.1 32) (S.1 10).toNat) = mixW (fun p => f_choice S p) (-101) (16 - p) p (T.1 32)) → V G X cX1_mixTyped 2 yX1_mixTyped none 4 (q_X1_mixTyped G M B S ) (0) (0) 29 [(0, .ref (M.1)), (1, iv (p))] [] (mh G M B T) (0) (0) := by
          intro n29
          induction n29 with
          | zero =>
            intro p T hm hp hT hh
            exact absurd hm (by omega)
          | succ n29 ih29 =>
            intro p T hm29 hp hT hh
            refine x_aload_n dX1_mixTyped_29 rfl ?_
            refine x_iload_n dX1_mixTyped_30 rfl ?_
            refine k_X1_choice (p := p) hM dX1_mixTyped_31 (hp0.cs hT.1) (hp1.cs hT.1) (by omega) ?_
            refine x_ji (show f_choice T p = f_choice S p from by rw [f_choice_cs hT.1]) ?_
            refine x_bipush dX1_mixTyped_34 ?_
            refine x_icmp_eq 55 dX1_mixTyped_36 rfl (by have := choice_R hp0 (p : Int); omega) (by decide) (fun c_36 => ?_) (fun c_36 => ?_)
            · refine x_iconst dX1_mixTyped_55 ?_
              refine x_istore_n (lv' := [(0, _), (1, _)]) dX1_mixTyped_56 rfl (by decide) ?_
              have L57 : ∀ (n57 : Nat) (w : Nat) (T : Ms), (4 - w) < (n57 : Int) → ((w : Int) ≤ 4) → (Cb S T) → (T.1 32 = mixZ (fun w => f_spell S w) (mixW (fun p => f_choice S p) (-101) 16 0 (mixZ (fun i => S.2 11 i) (S.1 32) (S.1 10).toNat)) w) → V G X cX1_mixTyped 2 yX1_mixTyped none 4 (q_X1_mixTyped G M B S ) (0) (0) 57 [(0, .ref (M.1)), (1, iv (w))] [] (mh G M B T) (0) (0) := by
                intro n57
                induction n57 with
                | zero =>
                  intro w T hm hw hT hh
                  exact absurd hm (by omega)
                | succ n57 ih57 =>
                  intro w T hm57 hw hT hh
                  refine x_iload_n dX1_mixTyped_57 rfl ?_
                  refine x_iconst dX1_mixTyped_58 ?_
                  refine x_icmp_ge 78 dX1_mixTyped_59 rfl (by omega) (by omega) (fun c_59 => ?_) (fun c_59 => ?_)
                  · have eW : (4 : Nat) = w := by omega
                    refine x_iconst dX1_mixTyped_78 ?_
                    refine x_istore_n (lv' := [(0, _), (1, _)]) dX1_mixTyped_79 rfl (by decide) ?_
                    have L80 : ∀ (n80 : Nat) (q : Nat) (T : Ms), (13 - q) < (n80 : Int) → ((q : Int) ≤ 12) → (Cb S T) → (m_typed S (S.1 32) = mixW (fun p => f_piece S p) (-101) (13 - q) q (T.1 32)) → V G X cX1_mixTyped 2 yX1_mixTyped none 4 (q_X1_mixTyped G M B S ) (0) (0) 80 [(0, .ref (M.1)), (1, iv (q))] [] (mh G M B T) (0) (0) := by
                      intro n80
                      induction n80 with
                      | zero =>
                        intro q T hm hq hT hh
                        exact absurd hm (by omega)
                      | succ n80 ih80 =>
                        intro q T hm80 hq hT hh
                        refine x_aload_n dX1_mixTyped_80 rfl ?_
                        refine x_iload_n dX1_mixTyped_81 rfl ?_
                        refine k_X1_pieceNow (q := q) hM dX1_mixTyped_82 (hp0.cs hT.1) (hp1.cs hT.1) (by omega) ?_
                        refine x_ji (show f_piece T q = f_piece S q from f_piece_cs hT.1 hp1 hp0 _) ?_
                        refine x_bipush dX1_mixTyped_85 ?_
                        refine x_icmp_eq 106 dX1_mixTyped_87 rfl (by have := piece_R hp0 hp1 (q : Int); omega) (by decide) (fun c_87 => ?_) (fun c_87 => ?_)
                        · exact x_vret rfl ⟨_, rfl, rfl, ⟨hT.tr (lay_cb T), by rw [hh, mixW_e c_87]; rfl⟩⟩ dX1_mixTyped_106
                        · have hp12 : (q : Int) < 12 := Int.not_le.mp fun z => c_87 (piece_no z)
                          refine x_aload_n dX1_mixTyped_90 rfl ?_
                          refine x_aload_n dX1_mixTyped_91 rfl ?_
                          refine x_iload_n dX1_mixTyped_92 rfl ?_
                          refine k_X1_pieceNow (q := q) hM dX1_mixTyped_93 (hp0.cs (hT.1.tr (lay_cs T))) (hp1.cs (hT.1.tr (lay_cs T))) (by omega) ?_
                          refine x_ji (show f_piece (s_lay T) q = f_piece S q from f_piece_cs (hT.1.tr (lay_cs T)) hp1 hp0 _) ?_
                          refine x_i2l dX1_mixTyped_96 (by have := piece_R hp0 hp1 (q : Int); omega) ?_
                          refine k_X1_mix (v := f_piece S q) hM dX1_mixTyped_97  ?_
                          refine x_iinc (lv' := [(0, _), (1, _)]) dX1_mixTyped_100 rfl rfl (by decide) ?_
                          refine x_goto 80 dX1_mixTyped_103 rfl ?_
                          exact ih80 (q + 1) (_) (by omega) (by omega) (((hT.tr (lay_cb T)).tr (lay_cb _)).h _) (by rw [sv_s, hh, mixW_s c_87 (by omega)]; rfl)
                    exact L80 (14) (0) (_) (by decide) (by omega) (hT) (by unfold m_typed; rw [hh, eW]; rfl)
                  · refine x_aload_n dX1_mixTyped_62 rfl ?_
                    refine x_aload_n dX1_mixTyped_63 rfl ?_
                    refine x_iload_n dX1_mixTyped_64 rfl ?_
                    refine k_X1_spellingNow (w := w) hM dX1_mixTyped_65 (hp0.cs hT.1) (hp1.cs hT.1) (by omega) ?_
                    refine x_ji (show f_spell T w = f_spell S w from by rw [f_spell_cs hT.1]) ?_
                    refine x_i2l dX1_mixTyped_68 (by have := spell_R S (w : Int); omega) ?_
                    refine k_X1_mix (v := f_spell S w) hM dX1_mixTyped_69  ?_
                    refine x_iinc (lv' := [(0, _), (1, _)]) dX1_mixTyped_72 rfl rfl (by decide) ?_
                    refine x_goto 57 dX1_mixTyped_75 rfl ?_
                    exact ih57 (w + 1) (_) (by omega) (by omega) ((hT.tr (lay_cb T)).h _) (by rw [sv_s, mixZ, ← hh]; rfl)
              exact L57 (5) (0) (_) (by decide) (by omega) (hT) (by rw [hh, mixW_e c_36]; rfl)
            · have hp15 : (p : Int) < 15 := Int.not_le.mp fun z => c_36 (choice_no hp0 z)
              refine x_aload_n dX1_mixTyped_39 rfl ?_
              refine x_aload_n dX1_mixTyped_40 rfl ?_
              refine x_iload_n dX1_mixTyped_41 rfl ?_
              refine k_X1_choice (p := p) hM dX1_mixTyped_42 (hp0.cs hT.1) (hp1.cs hT.1) (by omega) ?_
              refine x_ji (show f_choice T p = f_choice S p from by rw [f_choice_cs hT.1]) ?_
              refine x_i2l dX1_mixTyped_45 (by have := choice_R hp0 (p : Int); omega) ?_
              refine k_X1_mix (v := f_choice S p) hM dX1_mixTyped_46  ?_
              refine x_iinc (lv' := [(0, _), (1, _)]) dX1_mixTyped_49 rfl rfl (by decide) ?_
              refine x_goto 29 dX1_mixTyped_52 rfl ?_
              exact ih29 (p + 1) (_) (by omega) (by omega) (hT.h _) (by rw [sv_s, hh, mixW_s c_36 (by omega)]; rfl)
        exact L29 (17) (0) (_) (by decide) (by omega) (hT) (by rw [hh, eI]; rfl)
      · rw [e10] at c_7
        refine x_aload_n dX1_mixTyped_10 rfl ?_
        refine x_aload_n dX1_mixTyped_11 rfl ?_
        refine m_get_typedAt hM dX1_mixTyped_12 ?_
        refine x_iload_n dX1_mixTyped_15 rfl ?_
        refine m_ald hM (N := 10) rfl (by omega) (by decide) dX1_mixTyped_16 ?_
        refine x_ji (show T.2 11 i = S.2 11 i from by rw [e11]) ?_
        refine x_i2l dX1_mixTyped_17 (by have := hp1.2 i (by omega) (by omega); omega) ?_
        refine k_X1_mix (v := S.2 11 i) hM dX1_mixTyped_18  ?_
        refine x_iinc (lv' := [(0, _), (1, _)]) dX1_mixTyped_21 rfl rfl (by decide) ?_
        refine x_goto 2 dX1_mixTyped_24 rfl ?_
        exact ih2 (i + 1) (_) (by omega) (by omega) (hT.h _) (by rw [sv_s, hh]; rfl)
  exact L2 ((S.1 10).toNat + 1) (0) (_) (by omega) (by omega) (Cb.rf S) (rfl)
theorem k_X1_mixTyped {G : Gw} {X : Cx} {cc : ByteArray} {nL : Nat} {y : MethodName} {ret : Option FieldType} {dp : Nat} {P : Option Value → Hp → Prop} {mc ms pc : Nat} {lv : List (Nat × Value)} {st : List Value} {kc ks : Nat} {M : Mg} {B : Hp} {S : Ms}  (hM : MOk M) (hd : decode cc pc = .ok (.invokevirtual 316, 3)) (hp0 : Wf S) (hp1 : Wt S) (kk : ∀ T : Ms, (Cb S T ∧ T.1 32 = m_typed S (S.1 32)) → V G X cc nL y ret dp P mc ms (pc + 3) lv (st) (mh G M B T) kc ks) (hy : y.cls = RX1 := by rfl) (hdp : 4 + 1 ≤ dp := by decide) (hrs : (st.map fun v => v.category).sum ≤ 8 := by first | decide | (simp [Value.category, iv, jv]; done)) : V G X cc nL y ret dp P mc ms pc lv (.ref M.1 :: st) (mh G M B S) kc ks := by
  refine x_callV (ci := 1) (T := TX1) (N := 33) (As := []) 0 (fun l => c_X1_mixTyped l G M B S  hM hp0 hp1) (by rw [hy]; exact q3279) q3281 qs134 q173 q3282 (by decide +kernel) hdp (by decide) (mh_o hM) rfl rfl rfl hrs hd (Nat.zero_le _) (Nat.zero_le _) (fun v h hv => ?_)
  obtain ⟨T, rfl, rfl, hv⟩ := hv
  exact kk T hv
