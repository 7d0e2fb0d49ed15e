/-! MODEL 5: spellings and pieces -/
set_option maxRecDepth 100000
abbrev q_X1_laySpellings (G : Gw) (M : Mg) (B : Hp) (S : Ms)  : Option Value → Hp → Prop := fun v_ h_ => v_ = none ∧ h_ = mh G M B (s_lay S)
set_option maxHeartbeats 4000000 in
theorem c_X1_laySpellings (l : Launch) (G : Gw) (M : Mg) (B : Hp) (S : Ms)  (hM : MOk M) (hp0 : Wf S) (hp1 : Wt S) : Mt l G yX1_laySpellings cX1_laySpellings 3 none 2 [.ref (M.1)] (mh G M B S) (q_X1_laySpellings G M B S ) (0) (0) := by
  refine Mt.of (lv := [(0, .ref (M.1))]) (by decide) (Nat.le_of_ble_eq_true rfl) rfl (fun X => ?_)
  have h2 := hp0.nm
  have h3 := hp1.1
  refine x_aload_n dX1_laySpellings_0 rfl ?_
  refine m_get_ways hM dX1_laySpellings_1 ?_
  refine x_aload_n dX1_laySpellings_4 rfl ?_
  refine m_get_typedMany hM dX1_laySpellings_5 ?_
  refine x_iconst dX1_laySpellings_8 ?_
  refine m_ast hM (N := 11) rfl (by omega) (by decide) dX1_laySpellings_9 ?_
  refine x_aload_n dX1_laySpellings_10 rfl ?_
  refine m_get_loose hM dX1_laySpellings_11 ?_
  refine x_aload_n dX1_laySpellings_14 rfl ?_
  refine m_get_typedMany hM dX1_laySpellings_15 ?_
  refine x_iconst dX1_laySpellings_18 ?_
  refine m_ast hM (N := 11) rfl (by show 0 ≤ S.1 10 ∧ S.1 10 < _; omega) (by decide) dX1_laySpellings_19 ?_
  refine x_aload_n dX1_laySpellings_20 rfl ?_
  refine m_get_sizes hM dX1_laySpellings_21 ?_
  refine x_aload_n dX1_laySpellings_24 rfl ?_
  refine m_get_typedMany hM dX1_laySpellings_25 ?_
  refine x_iconst dX1_laySpellings_28 ?_
  refine m_ast hM (N := 11) rfl (by show 0 ≤ S.1 10 ∧ S.1 10 < _; omega) (by decide) dX1_laySpellings_29 ?_
  refine x_aload_n dX1_laySpellings_30 rfl ?_
  refine m_get_looseWays hM dX1_laySpellings_31 ?_
  refine x_aload_n dX1_laySpellings_34 rfl ?_
  refine m_get_typedMany hM dX1_laySpellings_35 ?_
  refine x_iconst dX1_laySpellings_38 ?_
  refine m_ast hM (N := 11) rfl (by show 0 ≤ S.1 10 ∧ S.1 10 < _; omega) (by decide) dX1_laySpellings_39 ?_
  refine x_h (congrArg (mh G M B) (show sa (sa (sa (sa S 22 (S.1 10) 1) 23 ((sa S 22 (S.1 10) 1).1 10) 0) 24 ((sa (sa S 22 (S.1 10) 1) 23 ((sa S 22 (S.1 10) 1).1 10) 0).1 10) 0) 25 ((sa (sa (sa S 22 (S.1 10) 1) 23 ((sa S 22 (S.1 10) 1).1 10) 0) 24 ((sa (sa S 22 (S.1 10) 1) 23 ((sa S 22 (S.1 10) 1).1 10) 0).1 10) 0).1 10) 1 = setp S (S.1 10) (1, 0, 0, 1) from setp_4 S (S.1 10) 1 0 0 1)) ?_
  refine x_aload_n dX1_laySpellings_40 rfl ?_
  refine m_get_typedMany hM dX1_laySpellings_41 ?_
  refine x_iconst dX1_laySpellings_44 ?_
  refine x_isub dX1_laySpellings_45 ?_
  refine x_istore_n (lv' := [(0, _), (1, _)]) dX1_laySpellings_46 rfl (by decide) ?_
  have L47 : ∀ (n47 : Nat) (p : Int) (j : Nat), (p + 1) < (n47 : Int) → p = S.1 10 - 1 - j → -1 ≤ p → V G X cX1_laySpellings 3 yX1_laySpellings none 2 (q_X1_laySpellings G M B S ) (0) (0) 47 [(0, .ref (M.1)), (1, iv (p))] [] (mh G M B (s_sp S j)) (0) (0) := by
    intro n47
    induction n47 with
    | zero =>
      intro p j hm hj hq
      exact absurd hm (by omega)
    | succ n47 ih47 =>
      intro p j hm47 hj hq
      refine x_iload_n dX1_laySpellings_47 rfl ?_
      refine x_if_lt 135 dX1_laySpellings_48 rfl (by omega) (fun c_48 => ?_) (fun c_48 => ?_)
      · exact x_vret rfl ⟨rfl, congrArg (mh G M B) (by unfold s_lay; rw [show (S.1 10).toNat = j by omega])⟩ dX1_laySpellings_135
      · refine x_aload_n dX1_laySpellings_51 rfl ?_
        refine m_get_ways hM dX1_laySpellings_52 ?_
        refine x_iload_n dX1_laySpellings_55 rfl ?_
        refine x_iconst dX1_laySpellings_56 ?_
        refine m_ast hM (N := 11) rfl (by omega) (by decide) dX1_laySpellings_57 ?_
        refine x_aload_n dX1_laySpellings_58 rfl ?_
        refine m_get_loose hM dX1_laySpellings_59 ?_
        refine x_iload_n dX1_laySpellings_62 rfl ?_
        refine x_ldc 268435456 q3039 dX1_laySpellings_63 rfl ?_
        refine m_ast hM (N := 11) rfl (by omega) (by decide) dX1_laySpellings_65 ?_
        refine x_aload_n dX1_laySpellings_66 rfl ?_
        refine m_get_sizes hM dX1_laySpellings_67 ?_
        refine x_iload_n dX1_laySpellings_70 rfl ?_
        refine x_ldc 268435456 q3039 dX1_laySpellings_71 rfl ?_
        refine m_ast hM (N := 11) rfl (by omega) (by decide) dX1_laySpellings_73 ?_
        refine x_aload_n dX1_laySpellings_74 rfl ?_
        refine m_get_looseWays hM dX1_laySpellings_75 ?_
        refine x_iload_n dX1_laySpellings_78 rfl ?_
        refine x_iconst dX1_laySpellings_79 ?_
        refine m_ast hM (N := 11) rfl (by omega) (by decide) dX1_laySpellings_80 ?_
        refine x_h (congrArg (mh G M B) (show sa (sa (sa (sa (s_sp S j) 22 p 0) 23 p 268435456) 24 p 268435456) 25 p 0 = setp (s_sp S j) p (0, 268435456, 268435456, 0) from setp_4 (s_sp S j) p 0 268435456 268435456 0)) ?_
        refine x_aload_n dX1_laySpellings_81 rfl ?_
        refine x_iload_n dX1_laySpellings_82 rfl ?_
        refine x_iload_n dX1_laySpellings_83 rfl ?_
        refine x_iconst dX1_laySpellings_84 ?_
        refine x_iadd dX1_laySpellings_85 ?_
        refine x_iconst dX1_laySpellings_86 ?_
        refine k_X1_takesPiece (p := p) (n := p + 1) (m := 1) hM dX1_laySpellings_87 (by omega) (by omega) (by omega) (by rw [setp_get]; unfold tOk; decide) (by rw [setp_getn (by omega), sp_get (by omega)]; exact tab_ok _ _ _) (by decide) ?_
        refine x_h (congrArg (mh G M B) (show setp (setp (s_sp S j) p (0, 268435456, 268435456, 0)) p (tkp (getp (setp (s_sp S j) p (0, 268435456, 268435456, 0)) p) (getp (setp (s_sp S j) p (0, 268435456, 268435456, 0)) (p + 1)) 1) = setp (s_sp S j) p (pfold S (tab S j) p 0) from sp_a hj (by omega))) ?_
        refine x_iconst dX1_laySpellings_90 ?_
        refine x_istore_n (lv' := [(0, _), (1, _), (2, _)]) dX1_laySpellings_91 rfl (by decide) ?_
        have L92 : ∀ (n92 : Nat) (k : Nat), (S.1 2 - k) < (n92 : Int) → (k : Int) ≤ S.1 2 → V G X cX1_laySpellings 3 yX1_laySpellings none 2 (q_X1_laySpellings G M B S ) (0) (0) 92 [(0, .ref (M.1)), (1, iv (p)), (2, iv (k))] [] (mh G M B (setp (s_sp S j) p (pfold S (tab S j) p k))) (0) (0) := by
          intro n92
          induction n92 with
          | zero =>
            intro k hm hk
            exact absurd hm (by omega)
          | succ n92 ih92 =>
            intro k hm92 hk
            have hcs : Cs S (setp (s_sp S j) p (pfold S (tab S j) p k)) := (sp_cs S j).tr (setp_cs _ _ _)
            refine x_iload_n dX1_laySpellings_92 rfl ?_
            refine x_aload_n dX1_laySpellings_93 rfl ?_
            refine m_get_names hM dX1_laySpellings_94 ?_
            refine x_icmp_ge 129 dX1_laySpellings_97 rfl (by omega) (by show _ ∧ _; exact (show -2147483648 ≤ S.1 2 ∧ S.1 2 ≤ 2147483647 by omega)) (fun c_97 => ?_) (fun c_97 => ?_)
            · refine x_iinc (lv' := [(0, _), (1, _), (2, _)]) dX1_laySpellings_129 rfl rfl (by decide) ?_
              refine x_goto 47 dX1_laySpellings_132 rfl ?_
              refine x_lvp [0, 1] (lv' := [(0, _), (1, _)]) rfl ?_
              refine x_h (congrArg (mh G M B) (show _ = s_sp S (j + 1) from by rw [show (k : Nat) = (S.1 2).toNat by have c9 : S.1 2 ≤ (k : Int) := c_97; omega]; exact sp_s hj)) ?_
              exact ih47 (_) (j + 1) (by omega) (by omega) (by omega)
            · have c9 : (k : Int) < S.1 2 := Int.not_le.mp c_97
              have h5 := hp0.len (k := k) (by omega)
              have e3 : (setp (s_sp S j) p (pfold S (tab S j) p k)).2 3 = S.2 3 := hcs.2 3 rfl
              refine x_aload_n dX1_laySpellings_100 rfl ?_
              refine x_iload_n dX1_laySpellings_101 rfl ?_
              refine x_iload_n dX1_laySpellings_102 rfl ?_
              refine k_X1_fitsAt (a := k) (p := p) hM dX1_laySpellings_103 (hp0.cs hcs) (hp1.cs hcs) (by show 0 ≤ (k : Int) ∧ (k : Int) < S.1 2; omega) (by show 0 ≤ p ∧ p ≤ S.1 10; omega) ?_
              refine x_ifb_eq 123 dX1_laySpellings_106 rfl (fun c_106 => ?_) (fun c_106 => ?_)
              · rw [f_fits_cs hcs] at c_106
                refine x_iinc (lv' := [(0, _), (1, _), (2, _)]) dX1_laySpellings_123 rfl rfl (by decide) ?_
                refine x_goto 92 dX1_laySpellings_126 rfl ?_
                refine x_h (congrArg (mh G M B) (sp_c c_106)) ?_
                exact ih92 (k + 1) (by have c9 : (k : Int) < S.1 2 := Int.not_le.mp c_97; omega) (by have c9 : (k : Int) < S.1 2 := Int.not_le.mp c_97; omega)
              · rw [f_fits_cs hcs] at c_106
                have h6 := f_fits_le c_106
                refine x_aload_n dX1_laySpellings_109 rfl ?_
                refine x_iload_n dX1_laySpellings_110 rfl ?_
                refine x_iload_n dX1_laySpellings_111 rfl ?_
                refine x_aload_n dX1_laySpellings_112 rfl ?_
                refine m_get_length hM dX1_laySpellings_113 ?_
                refine x_iload_n dX1_laySpellings_116 rfl ?_
                refine m_ald hM (N := 14) rfl (by omega) (by decide) dX1_laySpellings_117 ?_
                refine x_iadd dX1_laySpellings_118 ?_
                refine x_iconst dX1_laySpellings_119 ?_
                refine k_X1_takesPiece (p := p) (n := p + ((setp (s_sp S j) p (pfold S (tab S j) p k)).2 3 k)) (m := 0) hM dX1_laySpellings_120 (by omega) (by rw [e3]; omega) (by rw [e3]; omega) (by rw [setp_get]; exact pfold_ok (tab_ok S j) _ _) (by rw [e3, setp_getn (by omega), sp_get (by omega)]; exact tab_ok _ _ _) (by decide) ?_
                refine x_iinc (lv' := [(0, _), (1, _), (2, _)]) dX1_laySpellings_123 rfl rfl (by decide) ?_
                refine x_goto 92 dX1_laySpellings_126 rfl ?_
                refine x_h (congrArg (mh G M B) (sp_b hj c_106 rfl (by omega))) ?_
                exact ih92 (k + 1) (by have c9 : (k : Int) < S.1 2 := Int.not_le.mp c_97; omega) (by have c9 : (k : Int) < S.1 2 := Int.not_le.mp c_97; omega)
        exact L92 ((S.1 2).toNat + 1) (0) (by omega) (by omega)
  refine x_h (congrArg (mh G M B) (sp_0 S)) ?_
  exact L47 ((S.1 10).toNat + 1) (_) (0) (by show S.1 10 - 1 + 1 < _; omega) (by show S.1 10 - 1 = S.1 10 - 1 - ((0 : Nat) : Int); omega) (by show -1 ≤ S.1 10 - 1; omega)
theorem k_X1_laySpellings {G : Gw} {X : Cx} {cc : ByteArray} {nL : Nat} {y : MethodName} {ret : Option FieldType} {dp : Nat} {P : Option Value → Hp → Prop} {mc ms pc : Nat} {lv : List (Nat × Value)} {st : List Value} {kc ks : Nat} {M : Mg} {B : Hp} {S : Ms}  (hM : MOk M) (hd : decode cc pc = .ok (.invokevirtual 216, 3)) (hp0 : Wf S) (hp1 : Wt S) (kk : V G X cc nL y ret dp P mc ms (pc + 3) lv (st) (mh G M B (s_lay S)) kc ks) (hy : y.cls = RX1 := by rfl) (hdp : 2 + 1 ≤ dp := by decide) (hrs : (st.map fun v => v.category).sum ≤ 8 := by first | decide | (simp [Value.category, iv, jv]; done)) : V G X cc nL y ret dp P mc ms pc lv (.ref M.1 :: st) (mh G M B S) kc ks := by
  refine x_callV (ci := 1) (T := TX1) (N := 33) (As := []) 0 (fun l => c_X1_laySpellings l G M B S  hM hp0 hp1) (by rw [hy]; exact q3168) q3170 qs115 q173 q3171 (by decide +kernel) hdp (by decide) (mh_o hM) rfl rfl rfl hrs hd (Nat.zero_le _) (Nat.zero_le _) (fun v h hv => ?_)
  obtain ⟨rfl, rfl⟩ := hv
  exact kk
abbrev q_X1_spellingNow (G : Gw) (M : Mg) (B : Hp) (S : Ms) (w : Int) : Option Value → Hp → Prop := fun v_ h_ => v_ = some (iv (f_spell S w)) ∧ h_ = mh G M B (s_lay S)
set_option maxHeartbeats 4000000 in
theorem c_X1_spellingNow (l : Launch) (G : Gw) (M : Mg) (B : Hp) (S : Ms) (w : Int) (hM : MOk M) (hp0 : Wf S) (hp1 : Wt S) (hp2 : -2147483648 ≤ w ∧ w ≤ 2147483647) : Mt l G yX1_spellingNow cX1_spellingNow 2 (some .int) 3 [.ref (M.1), iv (w)] (mh G M B S) (q_X1_spellingNow G M B S w) (0) (0) := by
  refine Mt.of (lv := [(0, .ref (M.1)), (1, iv (w))]) (by decide) (Nat.le_of_ble_eq_true rfl) rfl (fun X => ?_)
  have h3 := hp1.1
  have e := lay_get hp1 (i := 0) (by omega)
  refine x_aload_n dX1_spellingNow_0 rfl ?_
  refine k_X1_laySpellings  hM dX1_spellingNow_1 (hp0) (hp1) ?_
  refine x_iload_n dX1_spellingNow_4 rfl ?_
  by_cases t_5_0 : w = 0
  · refine x_ji t_5_0 ?_
    refine x_tin 32 dX1_spellingNow_5 (by decide) (by decide) (by decide) rfl rfl ?_
    refine x_aload_n dX1_spellingNow_32 rfl ?_
    refine m_get_ways hM dX1_spellingNow_33 ?_
    refine x_iconst dX1_spellingNow_36 ?_
    refine m_ald hM (N := 11) rfl (by decide) (by decide) dX1_spellingNow_37 ?_
    exact x_iret rfl ⟨ri (by unfold f_spell; rw [← e]; clear e; simp_all [getp]), rfl⟩ dX1_spellingNow_38
  by_cases t_5_1 : w = 1
  · refine x_ji t_5_1 ?_
    refine x_tin 39 dX1_spellingNow_5 (by decide) (by decide) (by decide) rfl rfl ?_
    refine x_aload_n dX1_spellingNow_39 rfl ?_
    refine m_get_loose hM dX1_spellingNow_40 ?_
    refine x_iconst dX1_spellingNow_43 ?_
    refine m_ald hM (N := 11) rfl (by decide) (by decide) dX1_spellingNow_44 ?_
    exact x_iret rfl ⟨ri (by unfold f_spell; rw [← e]; clear e; simp_all [getp]), rfl⟩ dX1_spellingNow_45
  by_cases t_5_2 : w = 2
  · refine x_ji t_5_2 ?_
    refine x_tin 46 dX1_spellingNow_5 (by decide) (by decide) (by decide) rfl rfl ?_
    refine x_aload_n dX1_spellingNow_46 rfl ?_
    refine m_get_sizes hM dX1_spellingNow_47 ?_
    refine x_iconst dX1_spellingNow_50 ?_
    refine m_ald hM (N := 11) rfl (by decide) (by decide) dX1_spellingNow_51 ?_
    exact x_iret rfl ⟨ri (by unfold f_spell; rw [← e]; clear e; simp_all [getp]), rfl⟩ dX1_spellingNow_52
  refine x_tout 53 dX1_spellingNow_5 (by omega) (by omega) rfl ?_
  refine x_aload_n dX1_spellingNow_53 rfl ?_
  refine m_get_looseWays hM dX1_spellingNow_54 ?_
  refine x_iconst dX1_spellingNow_57 ?_
  refine m_ald hM (N := 11) rfl (by decide) (by decide) dX1_spellingNow_58 ?_
  exact x_iret rfl ⟨ri (by unfold f_spell; rw [← e]; clear e; simp_all [getp]), rfl⟩ dX1_spellingNow_59
theorem k_X1_spellingNow {G : Gw} {X : Cx} {cc : ByteArray} {nL : Nat} {y : MethodName} {ret : Option FieldType} {dp : Nat} {P : Option Value → Hp → Prop} {mc ms pc : Nat} {lv : List (Nat × Value)} {st : List Value} {kc ks : Nat} {M : Mg} {B : Hp} {S : Ms} {w : Int} (hM : MOk M) (hd : decode cc pc = .ok (.invokevirtual 219, 3)) (hp0 : Wf S) (hp1 : Wt S) (hp2 : -2147483648 ≤ w ∧ w ≤ 2147483647) (kk : V G X cc nL y ret dp P mc ms (pc + 3) lv (iv (f_spell S w) :: st) (mh G M B (s_lay S)) kc ks) (hy : y.cls = RX1 := by rfl) (hdp : 3 + 1 ≤ dp := by decide) (hrs : (st.map fun v => v.category).sum ≤ 8 := by first | decide | (simp [Value.category, iv, jv]; done)) : V G X cc nL y ret dp P mc ms pc lv (iv (w) :: .ref M.1 :: st) (mh G M B S) kc ks := by
  refine x_callV (ci := 1) (T := TX1) (N := 33) (As := [iv (w)]) 1 (fun l => c_X1_spellingNow l G M B S w hM hp0 hp1 hp2) (by rw [hy]; exact q3164) q3166 qs114 q173 q3167 (by decide +kernel) hdp (by decide) (mh_o hM) rfl rfl rfl hrs hd (Nat.zero_le _) (Nat.zero_le _) (fun v h hv => ?_)
  obtain ⟨rfl, rfl⟩ := hv
  exact kk
abbrev q_X1_spelling (G : Gw) (M : Mg) (B : Hp) (S : Ms) (w : Int) : Option Value → Hp → Prop := fun v_ h_ => v_ = some (iv (if inB w 0 3 then f_spell S w else -102)) ∧ h_ = mh G M B (if inB w 0 3 then s_lay S else S)
set_option maxHeartbeats 4000000 in
theorem c_X1_spelling (l : Launch) (G : Gw) (M : Mg) (B : Hp) (S : Ms) (w : Int) (hM : MOk M) (hp0 : Wf S) (hp1 : Wt S) (hp2 : -2147483648 ≤ w ∧ w ≤ 2147483647) : Mt l G yX1_spelling cX1_spelling 2 (some .int) 4 [.ref (M.1), iv (w)] (mh G M B S) (q_X1_spelling G M B S w) (0) (0) := by
  refine Mt.of (lv := [(0, .ref (M.1)), (1, iv (w))]) (by decide) (Nat.le_of_ble_eq_true rfl) rfl (fun X => ?_)
  refine x_iload_n dX1_spelling_0 rfl ?_
  refine x_iconst dX1_spelling_1 ?_
  refine x_iconst dX1_spelling_2 ?_
  refine k_X1_within (v := w) (lo := 0) (hi := 3) hM dX1_spelling_3 (hp2) (by decide) (by decide) ?_
  refine x_ifb_eq 17 dX1_spelling_6 rfl (fun c_6 => ?_) (fun c_6 => ?_)
  · refine x_bipush dX1_spelling_17 ?_
    exact x_iret rfl ⟨ri (by rw [if_neg (bf c_6)]), by rw [if_neg (bf c_6)]⟩ dX1_spelling_19
  · refine x_aload_n dX1_spelling_9 rfl ?_
    refine x_iload_n dX1_spelling_10 rfl ?_
    refine k_X1_spellingNow (w := w) hM dX1_spelling_11 (hp0) (hp1) (hp2) ?_
    refine x_goto 19 dX1_spelling_14 rfl ?_
    exact x_iret rfl ⟨ri (by rw [if_pos c_6]), by rw [if_pos c_6]⟩ dX1_spelling_19
abbrev q_X1_bestName (G : Gw) (M : Mg) (B : Hp) (S : Ms) (p : Int) : Option Value → Hp → Prop := fun v_ h_ => v_ = some (iv (f_best S p)) ∧ h_ = mh G M B (S)
set_option maxHeartbeats 4000000 in
theorem c_X1_bestName (l : Launch) (G : Gw) (M : Mg) (B : Hp) (S : Ms) (p : Int) (hM : MOk M) (hp0 : Wf S) (hp1 : Wt S) (hp2 : 0 ≤ p ∧ p ≤ S.1 10) (hp3 : ∀ i : Int, 0 ≤ i → i ≤ S.1 10 → tOk (getp S i)) : Mt l G yX1_bestName cX1_bestName 3 (some .int) 2 [.ref (M.1), iv (p)] (mh G M B S) (q_X1_bestName G M B S p) (0) (0) := by
  refine Mt.of (lv := [(0, .ref (M.1)), (1, iv (p))]) (by decide) (Nat.le_of_ble_eq_true rfl) rfl (fun X => ?_)
  have h2 := hp0.nm
  have h3 := hp1.1
  obtain ⟨-, a2, a3, -⟩ := hp3 p (by omega) (by omega)
  dsimp only [getp] at a2 a3
  refine x_iconst dX1_bestName_0 ?_
  refine x_istore_n (lv' := [(0, _), (1, _), (2, _)]) dX1_bestName_1 rfl (by decide) ?_
  have L2 : ∀ (n2 : Nat) (k : Nat), (S.1 2 - k) < (n2 : Int) → (k : Int) ≤ S.1 2 → f_best S p = firstB (fun k => f_fits S k p && (decide (S.2 23 (p + S.2 3 k) = S.2 23 p) && decide (S.2 24 (p + S.2 3 k) + 1 = S.2 24 p))) (-1) (S.1 2 - k).toNat k → V G X cX1_bestName 3 yX1_bestName (some .int) 2 (q_X1_bestName G M B S p) (0) (0) 2 [(0, .ref (M.1)), (1, iv (p)), (2, iv (k))] [] (mh G M B S) (0) (0) := by
    intro n2
    induction n2 with
    | zero =>
      intro k hm hk hf
      exact absurd hm (by omega)
    | succ n2 ih2 =>
      intro k hm2 hk hf
      refine x_iload_n dX1_bestName_2 rfl ?_
      refine x_aload_n dX1_bestName_3 rfl ?_
      refine m_get_names hM dX1_bestName_4 ?_
      refine x_icmp_ge 73 dX1_bestName_7 rfl (by omega) (by omega) (fun c_7 => ?_) (fun c_7 => ?_)
      · refine x_iconst dX1_bestName_73 ?_
        exact x_iret rfl ⟨ri (by rw [hf, show (S.1 2 - (k : Int)).toNat = 0 by omega]; rfl), rfl⟩ dX1_bestName_74
      · refine x_aload_n dX1_bestName_10 rfl ?_
        refine x_iload_n dX1_bestName_11 rfl ?_
        refine x_iload_n dX1_bestName_12 rfl ?_
        refine k_X1_fitsAt (a := k) (p := p) hM dX1_bestName_13 (hp0) (hp1) (by omega) (by omega) ?_
        refine x_ifb_eq 67 dX1_bestName_16 rfl (fun c_16 => ?_) (fun c_16 => ?_)
        · refine x_iinc (lv' := [(0, _), (1, _), (2, _)]) dX1_bestName_67 rfl rfl (by decide) ?_
          refine x_goto 2 dX1_bestName_70 rfl ?_
          exact ih2 (k + 1) (by omega) (by omega) (by rw [hf, firstB_s (by simp_all) (by omega)]; congr 1; omega)
        · have h6 := f_fits_le c_16
          have h5 := hp0.len (k := k) (by omega)
          obtain ⟨-, b2, b3, -⟩ := hp3 (p + S.2 3 k) (by omega) (by omega)
          dsimp only [getp] at b2 b3
          refine x_aload_n dX1_bestName_19 rfl ?_
          refine m_get_loose hM dX1_bestName_20 ?_
          refine x_iload_n dX1_bestName_23 rfl ?_
          refine x_aload_n dX1_bestName_24 rfl ?_
          refine m_get_length hM dX1_bestName_25 ?_
          refine x_iload_n dX1_bestName_28 rfl ?_
          refine m_ald hM (N := 14) rfl (by omega) (by decide) dX1_bestName_29 ?_
          refine x_iadd dX1_bestName_30 ?_
          refine m_ald hM (N := 11) rfl (by omega) (by decide) dX1_bestName_31 ?_
          refine x_aload_n dX1_bestName_32 rfl ?_
          refine m_get_loose hM dX1_bestName_33 ?_
          refine x_iload_n dX1_bestName_36 rfl ?_
          refine m_ald hM (N := 11) rfl (by omega) (by decide) dX1_bestName_37 ?_
          refine x_icmp_ne 67 dX1_bestName_38 rfl (by omega) (by omega) (fun c_38 => ?_) (fun c_38 => ?_)
          · refine x_iinc (lv' := [(0, _), (1, _), (2, _)]) dX1_bestName_67 rfl rfl (by decide) ?_
            refine x_goto 2 dX1_bestName_70 rfl ?_
            exact ih2 (k + 1) (by omega) (by omega) (by rw [hf, firstB_s (by simp_all) (by omega)]; congr 1; omega)
          · refine x_aload_n dX1_bestName_41 rfl ?_
            refine m_get_sizes hM dX1_bestName_42 ?_
            refine x_iload_n dX1_bestName_45 rfl ?_
            refine x_aload_n dX1_bestName_46 rfl ?_
            refine m_get_length hM dX1_bestName_47 ?_
            refine x_iload_n dX1_bestName_50 rfl ?_
            refine m_ald hM (N := 14) rfl (by omega) (by decide) dX1_bestName_51 ?_
            refine x_iadd dX1_bestName_52 ?_
            refine m_ald hM (N := 11) rfl (by omega) (by decide) dX1_bestName_53 ?_
            refine x_iconst dX1_bestName_54 ?_
            refine x_iadd dX1_bestName_55 ?_
            refine x_aload_n dX1_bestName_56 rfl ?_
            refine m_get_sizes hM dX1_bestName_57 ?_
            refine x_iload_n dX1_bestName_60 rfl ?_
            refine m_ald hM (N := 11) rfl (by omega) (by decide) dX1_bestName_61 ?_
            refine x_icmp_ne 67 dX1_bestName_62 rfl (by omega) (by omega) (fun c_62 => ?_) (fun c_62 => ?_)
            · refine x_iinc (lv' := [(0, _), (1, _), (2, _)]) dX1_bestName_67 rfl rfl (by decide) ?_
              refine x_goto 2 dX1_bestName_70 rfl ?_
              exact ih2 (k + 1) (by omega) (by omega) (by rw [hf, firstB_s (by simp_all) (by omega)]; congr 1; omega)
            · refine x_iload_n dX1_bestName_65 rfl ?_
              exact x_iret rfl ⟨ri (by rw [hf, firstB_t (by simp_all) (by omega)]), rfl⟩ dX1_bestName_66
  exact L2 ((S.1 2).toNat + 1) (0) (by omega) (by omega) (by simp [f_best])
theorem k_X1_bestName {G : Gw} {X : Cx} {cc : ByteArray} {nL : Nat} {y : MethodName} {ret : Option FieldType} {dp : Nat} {P : Option Value → Hp → Prop} {mc ms pc : Nat} {lv : List (Nat × Value)} {st : List Value} {kc ks : Nat} {M : Mg} {B : Hp} {S : Ms} {p : Int} (hM : MOk M) (hd : decode cc pc = .ok (.invokevirtual 222, 3)) (hp0 : Wf S) (hp1 : Wt S) (hp2 : 0 ≤ p ∧ p ≤ S.1 10) (hp3 : ∀ i : Int, 0 ≤ i → i ≤ S.1 10 → tOk (getp S i)) (kk : V G X cc nL y ret dp P mc ms (pc + 3) lv (iv (f_best S p) :: st) (mh G M B (S)) kc ks) (hy : y.cls = RX1 := by rfl) (hdp : 2 + 1 ≤ dp := by decide) (hrs : (st.map fun v => v.category).sum ≤ 8 := by first | decide | (simp [Value.category, iv, jv]; done)) : V G X cc nL y ret dp P mc ms pc lv (iv (p) :: .ref M.1 :: st) (mh G M B S) kc ks := by
  refine x_callV (ci := 1) (T := TX1) (N := 33) (As := [iv (p)]) 1 (fun l => c_X1_bestName l G M B S p hM hp0 hp1 hp2 hp3) (by rw [hy]; exact q3189) q3191 qs119 q173 q3192 (by decide +kernel) hdp (by decide) (mh_o hM) rfl rfl rfl hrs hd (Nat.zero_le _) (Nat.zero_le _) (fun v h hv => ?_)
  obtain ⟨rfl, rfl⟩ := hv
  exact kk
abbrev q_X1_pieceNow (G : Gw) (M : Mg) (B : Hp) (S : Ms) (q : Int) : Option Value → Hp → Prop := fun v_ h_ => v_ = some (iv (f_piece S q)) ∧ h_ = mh G M B (s_lay S)
set_option maxHeartbeats 4000000 in
theorem c_X1_pieceNow (l : Launch) (G : Gw) (M : Mg) (B : Hp) (S : Ms) (q : Int) (hM : MOk M) (hp0 : Wf S) (hp1 : Wt S) (hp2 : -2147483648 ≤ q ∧ q ≤ 2147483647) : Mt l G yX1_pieceNow cX1_pieceNow 5 (some .int) 3 [.ref (M.1), iv (q)] (mh G M B S) (q_X1_pieceNow G M B S q) (0) (0) := by
  refine Mt.of (lv := [(0, .ref (M.1)), (1, iv (q))]) (by decide) (Nat.le_of_ble_eq_true rfl) rfl (fun X => ?_)
  have h2 := hp0.nm
  have h3 := hp1.1
  have hc := lay_cs S
  have hw0 := hp0.cs hc
  have hw1 := hp1.cs hc
  have e10 : (s_lay S).1 10 = S.1 10 := rfl
  have e2 : (s_lay S).1 2 = S.1 2 := rfl
  refine x_aload_n dX1_pieceNow_0 rfl ?_
  refine k_X1_laySpellings  hM dX1_pieceNow_1 (hp0) (hp1) ?_
  refine x_iconst dX1_pieceNow_4 ?_
  refine x_istore_n (lv' := [(0, _), (1, _), (2, _)]) dX1_pieceNow_5 rfl (by decide) ?_
  refine x_iconst dX1_pieceNow_6 ?_
  refine x_istore_n (lv' := [(0, _), (1, _), (2, _), (3, _)]) dX1_pieceNow_7 rfl (by decide) ?_
  have L8 : ∀ (n8 : Nat) (p : Int) (n : Nat) (f : Nat), (S.1 10 - p) < (n8 : Int) → 0 ≤ p ∧ p ≤ S.1 10 → (n : Int) ≤ p → S.1 10 - p < f → f_piece S q = pcs (s_lay S) q f p n → V G X cX1_pieceNow 5 yX1_pieceNow (some .int) 3 (q_X1_pieceNow G M B S q) (0) (0) 8 [(0, .ref (M.1)), (1, iv (q)), (2, iv (p)), (3, iv (n))] [] (mh G M B (s_lay S)) (0) (0) := by
    intro n8
    induction n8 with
    | zero =>
      intro p n f hm hq hn hf1 hf
      exact absurd hm (by omega)
    | succ n8 ih8 =>
      intro p n f hm8 hq hn hf1 hf
      refine x_iload_n dX1_pieceNow_8 rfl ?_
      refine x_aload_n dX1_pieceNow_9 rfl ?_
      refine m_get_typedMany hM dX1_pieceNow_10 ?_
      refine x_icmp_ge 75 dX1_pieceNow_13 rfl (by omega) (by omega) (fun c_13 => ?_) (fun c_13 => ?_)
      · refine x_bipush dX1_pieceNow_75 ?_
        exact x_iret rfl ⟨ri (by rw [hf]; cases f with | zero => rfl | succ f => (rw [pcs, if_pos c_13])), rfl⟩ dX1_pieceNow_77
      · refine x_aload_n dX1_pieceNow_16 rfl ?_
        refine x_iload_n dX1_pieceNow_17 rfl ?_
        refine k_X1_bestName (p := p) hM dX1_pieceNow_18 (hw0) (hw1) (by omega) (fun i h0 h1 => lay_ok hp1 ⟨h0, h1⟩) ?_
        refine x_istore (lv' := [(0, _), (1, _), (2, _), (3, _), (4, _)]) dX1_pieceNow_21 rfl (by decide) ?_
        have hb := f_best_is hw0 p
        obtain ⟨f0, rfl⟩ : ∃ f0, f = f0 + 1 := ⟨f - 1, by omega⟩
        rw [pcs, if_neg c_13] at hf
        refine x_iload_n dX1_pieceNow_23 rfl ?_
        refine x_iload_n dX1_pieceNow_24 rfl ?_
        refine x_icmp_ne 49 dX1_pieceNow_25 rfl (by omega) (by omega) (fun c_25 => ?_) (fun c_25 => ?_)
        · rw [if_neg c_25] at hf
          refine x_iload_n dX1_pieceNow_49 rfl ?_
          refine x_iload dX1_pieceNow_50 rfl ?_
          refine x_iconst dX1_pieceNow_52 ?_
          refine x_icmp_ne 60 dX1_pieceNow_53 rfl (by have := hb; omega) (by decide) (fun c_53 => ?_) (fun c_53 => ?_)
          · rw [if_neg c_53] at hf
            have hx := hf
            have hb2 := hb.resolve_left c_53
            have hb3 := f_fits_le hb2.1
            have hb4 := hw0.len hb2.2
            refine x_aload_n dX1_pieceNow_60 rfl ?_
            refine m_get_length hM dX1_pieceNow_61 ?_
            refine x_iload dX1_pieceNow_64 rfl ?_
            refine m_ald hM (N := 14) rfl (by omega) (by decide) dX1_pieceNow_66 ?_
            refine x_iadd dX1_pieceNow_67 ?_
            refine x_istore_n (lv' := [(0, _), (1, _), (2, _), (3, _), (4, _)]) dX1_pieceNow_68 rfl (by decide) ?_
            refine x_iinc (lv' := [(0, _), (1, _), (2, _), (3, _), (4, _)]) dX1_pieceNow_69 rfl rfl (by decide) ?_
            refine x_goto 8 dX1_pieceNow_72 rfl ?_
            refine x_lvp [0, 1, 2, 3] (lv' := [(0, _), (1, _), (2, _), (3, _)]) rfl ?_
            exact ih8 (_) (n + 1) (f0) (by omega) (by omega) (by omega) (by omega) (hx)
          · rw [if_pos c_53] at hf
            have hx := hf
            refine x_iconst dX1_pieceNow_56 ?_
            refine x_goto 67 dX1_pieceNow_57 rfl ?_
            refine x_iadd dX1_pieceNow_67 ?_
            refine x_istore_n (lv' := [(0, _), (1, _), (2, _), (3, _), (4, _)]) dX1_pieceNow_68 rfl (by decide) ?_
            refine x_iinc (lv' := [(0, _), (1, _), (2, _), (3, _), (4, _)]) dX1_pieceNow_69 rfl rfl (by decide) ?_
            refine x_goto 8 dX1_pieceNow_72 rfl ?_
            refine x_lvp [0, 1, 2, 3] (lv' := [(0, _), (1, _), (2, _), (3, _)]) rfl ?_
            exact ih8 (_) (n + 1) (f0) (by omega) (by omega) (by omega) (by omega) (hx)
        · rw [if_pos c_25] at hf
          refine x_iload dX1_pieceNow_28 rfl ?_
          refine x_iconst dX1_pieceNow_30 ?_
          refine x_icmp_ne 46 dX1_pieceNow_31 rfl (by have := hb; omega) (by decide) (fun c_31 => ?_) (fun c_31 => ?_)
          · rw [if_neg c_31] at hf
            refine x_iload dX1_pieceNow_46 rfl ?_
            exact x_iret rfl ⟨ri (by rw [hf]), rfl⟩ dX1_pieceNow_48
          · rw [if_pos c_31] at hf
            refine x_bipush dX1_pieceNow_34 ?_
            refine x_aload_n dX1_pieceNow_36 rfl ?_
            refine m_get_typedAt hM dX1_pieceNow_37 ?_
            refine x_iload_n dX1_pieceNow_40 rfl ?_
            refine m_ald hM (N := 10) rfl (by omega) (by decide) dX1_pieceNow_41 ?_
            refine x_isub dX1_pieceNow_42 ?_
            refine x_goto 48 dX1_pieceNow_43 rfl ?_
            exact x_iret rfl ⟨ri (by rw [hf]), rfl⟩ dX1_pieceNow_48
  exact L8 ((S.1 10).toNat + 1) (0) (0) (12) (by omega) (by omega) (by omega) (by omega) (rfl)
theorem k_X1_pieceNow {G : Gw} {X : Cx} {cc : ByteArray} {nL : Nat} {y : MethodName} {ret : Option FieldType} {dp : Nat} {P : Option Value → Hp → Prop} {mc ms pc : Nat} {lv : List (Nat × Value)} {st : List Value} {kc ks : Nat} {M : Mg} {B : Hp} {S : Ms} {q : Int} (hM : MOk M) (hd : decode cc pc = .ok (.invokevirtual 225, 3)) (hp0 : Wf S) (hp1 : Wt S) (hp2 : -2147483648 ≤ q ∧ q ≤ 2147483647) (kk : V G X cc nL y ret dp P mc ms (pc + 3) lv (iv (f_piece S q) :: st) (mh G M B (s_lay S)) kc ks) (hy : y.cls = RX1 := by rfl) (hdp : 3 + 1 ≤ dp := by decide) (hrs : (st.map fun v => v.category).sum ≤ 8 := by first | decide | (simp [Value.category, iv, jv]; done)) : V G X cc nL y ret dp P mc ms pc lv (iv (q) :: .ref M.1 :: st) (mh G M B S) kc ks := by
  refine x_callV (ci := 1) (T := TX1) (N := 33) (As := [iv (q)]) 1 (fun l => c_X1_pieceNow l G M B S q hM hp0 hp1 hp2) (by rw [hy]; exact q3185) q3187 qs118 q173 q3188 (by decide +kernel) hdp (by decide) (mh_o hM) rfl rfl rfl hrs hd (Nat.zero_le _) (Nat.zero_le _) (fun v h hv => ?_)
  obtain ⟨rfl, rfl⟩ := hv
  exact kk
abbrev q_X1_piece (G : Gw) (M : Mg) (B : Hp) (S : Ms) (q : Int) : Option Value → Hp → Prop := fun v_ h_ => v_ = some (iv (f_piece S q)) ∧ h_ = mh G M B (s_lay S)
set_option maxHeartbeats 4000000 in
theorem c_X1_piece (l : Launch) (G : Gw) (M : Mg) (B : Hp) (S : Ms) (q : Int) (hM : MOk M) (hp0 : Wf S) (hp1 : Wt S) (hp2 : -2147483648 ≤ q ∧ q ≤ 2147483647) : Mt l G yX1_piece cX1_piece 2 (some .int) 4 [.ref (M.1), iv (q)] (mh G M B S) (q_X1_piece G M B S q) (0) (0) := by
  refine Mt.of (lv := [(0, .ref (M.1)), (1, iv (q))]) (by decide) (Nat.le_of_ble_eq_true rfl) rfl (fun X => ?_)
  refine x_aload_n dX1_piece_0 rfl ?_
  refine x_iload_n dX1_piece_1 rfl ?_
  refine k_X1_pieceNow (q := q) hM dX1_piece_2 (hp0) (hp1) (hp2) ?_
  exact x_iret rfl ⟨ri (by first | rfl | (simp_all; done) | (simp; omega) | (simp_all; omega)), rfl⟩ dX1_piece_5
