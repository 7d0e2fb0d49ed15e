/-! MODEL 9: the menu is laid; names are told -/
set_option maxRecDepth 100000
abbrev q_X1_layPath (G : Gw) (M : Mg) (B : Hp) (S : Ms) (b : Int) (a : Int) : Option Value → Hp → Prop := fun v_ h_ => ∃ T : Ms, v_ = none ∧ h_ = mh G M B T ∧ (PW S a (f_path S b a) T)
set_option maxHeartbeats 4000000 in
theorem c_X1_layPath (l : Launch) (G : Gw) (M : Mg) (B : Hp) (S : Ms) (b : Int) (a : Int) (hM : MOk M) (hp0 : 2 ≤ b ∧ b ≤ 4) (hp1 : S.1 2 ≤ 14) (hp2 : 0 ≤ a ∧ a < S.1 2) (hp3 : Gt (sC S) (sP S) (S.1 2) b) : Mt l G yX1_layPath cX1_layPath 8 none 2 [.ref (M.1), iv (b), iv (a)] (mh G M B S) (q_X1_layPath G M B S b a) (0) (0) := by
  refine Mt.of (lv := [(0, .ref (M.1)), (1, iv (b)), (2, iv (a))]) (by decide) (Nat.le_of_ble_eq_true rfl) rfl (fun X => ?_)
  refine x_iconst dX1_layPath_0 ?_
  refine x_istore_n (lv' := [(0, _), (1, _), (2, _), (3, _)]) dX1_layPath_1 rfl (by decide) ?_
  refine x_aload_n dX1_layPath_2 rfl ?_
  refine m_get_names hM dX1_layPath_3 ?_
  refine x_istore (lv' := [(0, _), (1, _), (2, _), (3, _), (4, _)]) dX1_layPath_6 rfl (by decide) ?_
  refine x_aload_n dX1_layPath_8 rfl ?_
  refine m_get_newPathLength hM dX1_layPath_9 ?_
  refine x_iload_n dX1_layPath_12 rfl ?_
  refine x_iconst dX1_layPath_13 ?_
  refine m_ast hM (N := 14) rfl (by omega) (by decide) dX1_layPath_14 ?_
  have L15 : ∀ (n15 : Nat) (f : Int) (t : Int) (L : List Int) (n : Nat) (T : Ms), (t - f) < (n15 : Int) → (0 ≤ f ∧ f ≤ a ∧ a < t ∧ t ≤ S.1 2) → ((L.length : Int) + (t - f) ≤ S.1 2) → (t - f ≤ n) → (f_path S b a = L ++ t_pth (sC S) (sP S) b a n f t) → (PW S a L T) → V G X cX1_layPath 8 yX1_layPath none 2 (q_X1_layPath G M B S b a) (0) (0) 15 [(0, .ref (M.1)), (1, iv (b)), (2, iv (a)), (3, iv (f)), (4, iv (t))] [] (mh G M B T) (0) (0) := by
    intro n15
    induction n15 with
    | zero =>
      intro f t L n T hm hft hL hn hq hT
      exact absurd hm (by omega)
    | succ n15 ih15 =>
      intro f t L n T hm15 hft hL hn hq hT
      have e1 : T.1 2 = S.1 2 := congrFun hT.1 2
      have hl := hT.2.2.2.1
      refine x_iload dX1_layPath_15 rfl ?_
      refine x_iload_n dX1_layPath_17 rfl ?_
      refine x_isub dX1_layPath_18 ?_
      refine x_iconst dX1_layPath_19 ?_
      refine x_icmp_le 111 dX1_layPath_20 rfl (by omega) (by omega) (fun c_20 => ?_) (fun c_20 => ?_)
      · exact x_vret rfl ⟨_, rfl, rfl, by rw [hq, show t_pth (sC S) (sP S) b a n f t = [] from by cases n with | zero => rfl | succ n => (rw [t_pth, if_pos c_20]), List.append_nil]; exact hT⟩ dX1_layPath_111
      · obtain ⟨n0, rfl⟩ : ∃ n0, n = n0 + 1 := ⟨n - 1, by omega⟩
        have hg := hp3.of (f := f) (t := t) hp0.1 (by omega) (by omega) (by omega)
        have sk := hp3.seek (t := t) (a := a) (by omega) (by omega) 4 (t_of (sP S) b f t) f 1 (by omega) (by omega) (by omega) hg.1.2 (by omega) (fun _ => hg.2)
        rw [t_pth, if_neg c_20] at hq
        refine x_aload_n dX1_layPath_23 rfl ?_
        refine x_iload_n dX1_layPath_24 rfl ?_
        refine x_iload_n dX1_layPath_25 rfl ?_
        refine x_iload dX1_layPath_26 rfl ?_
        refine k_X1_partsOf (b := b) (f := f) (t := t) hM dX1_layPath_28 (hp0) (by omega) (by omega) (by rw [hT.tab.1, hT.tab.2.1, hT.1]; exact hp3) ?_
        refine x_ji (show t_of (sP T) b f t = t_of (sP S) b f t from by rw [hT.tab.2.1]) ?_
        refine x_istore (lv' := [(0, _), (1, _), (2, _), (3, _), (4, _), (5, _)]) dX1_layPath_31 rfl (by decide) ?_
        refine x_iconst dX1_layPath_33 ?_
        refine x_istore (lv' := [(0, _), (1, _), (2, _), (3, _), (4, _), (5, _), (6, _)]) dX1_layPath_34 rfl (by decide) ?_
        refine x_aload_n dX1_layPath_36 rfl ?_
        refine x_iload dX1_layPath_37 rfl ?_
        refine x_iload_n dX1_layPath_39 rfl ?_
        refine x_iload dX1_layPath_40 rfl ?_
        refine k_X1_firstCut (b := b) (m := t_of (sP S) b f t) (f := f) (t := t) hM dX1_layPath_42 (by omega) (by omega) (by omega) (by rw [hT.tab.1, hT.tab.2.1, hT.1]; exact hp3) (fun _ => by rw [hT.tab.2.1]; exact hg.2) (hp0) ?_
        refine x_ji (show t_cut (sC T) (sP T) (t_of (sP S) b f t) f t = t_cut (sC S) (sP S) (t_of (sP S) b f t) f t from by rw [hT.tab.1, hT.tab.2.1]) ?_
        refine x_istore (lv' := [(0, _), (1, _), (2, _), (3, _), (4, _), (5, _), (6, _), (7, _)]) dX1_layPath_45 rfl (by decide) ?_
        have L47 : ∀ (n47 : Nat) (m : Int) (f2 : Int) (p : Int) (n2 : Nat), (m) < (n47 : Int) → (t_seek (sC S) (sP S) a t 4 (t_of (sP S) b f t) f 1 = t_seek (sC S) (sP S) a t n2 m f2 p) → (f ≤ f2 ∧ f2 ≤ a) → (1 ≤ m ∧ m ≤ b) → (m ≤ n2) → (m ≠ 1 → sP S m f2 t ≠ 268435456) → V G X cX1_layPath 8 yX1_layPath none 2 (q_X1_layPath G M B S b a) (0) (0) 47 [(0, .ref (M.1)), (1, iv (b)), (2, iv (a)), (3, iv (f2)), (4, iv (t)), (5, iv (m)), (6, iv (p)), (7, iv (t_cut (sC S) (sP S) m f2 t))] [] (mh G M B T) (0) (0) := by
          intro n47
          induction n47 with
          | zero =>
            intro m f2 p n2 hm hs hf2 hm1 hm2 hm3
            exact absurd hm (by omega)
          | succ n47 ih47 =>
            intro m f2 p n2 hm47 hs hf2 hm1 hm2 hm3
            obtain ⟨n3, rfl⟩ : ∃ n3, n2 = n3 + 1 := ⟨n2 - 1, by omega⟩
            have hc := hp3.cut (f := f2) (t := t) (m := m) (by omega) (by omega) (by omega) hm1 hm3
            have hcR : -2147483648 ≤ t_cut (sC S) (sP S) m f2 t ∧ t_cut (sC S) (sP S) m f2 t ≤ 2147483647 := by rcases hc with ⟨-, e⟩ | ⟨-, e1, e2, -⟩ <;> omega
            refine x_iload dX1_layPath_47 rfl ?_
            refine x_iload_n dX1_layPath_49 rfl ?_
            refine x_icmp_gt 76 dX1_layPath_50 rfl (hcR) (by omega) (fun c_50 => ?_) (fun c_50 => ?_)
            · have hr : t_seek (sC S) (sP S) a t 4 (t_of (sP S) b f t) f 1 = (f2, p, t_cut (sC S) (sP S) m f2 t) := by rw [hs, t_seek, if_neg (Int.not_le.mpr c_50)]
              refine x_iload dX1_layPath_76 rfl ?_
              refine x_istore (lv' := [(0, _), (1, _), (2, _), (3, _), (4, _), (5, _), (6, _), (7, _)]) dX1_layPath_78 rfl (by decide) ?_
              refine x_aload_n dX1_layPath_80 rfl ?_
              refine m_get_newSteps hM dX1_layPath_81 ?_
              refine x_bipush dX1_layPath_84 ?_
              refine x_iload_n dX1_layPath_86 rfl ?_
              refine x_imul dX1_layPath_87 ?_
              refine x_aload_n dX1_layPath_88 rfl ?_
              refine m_get_newPathLength hM dX1_layPath_89 ?_
              refine x_iload_n dX1_layPath_92 rfl ?_
              refine m_ald hM (N := 14) rfl (by omega) (by decide) dX1_layPath_93 ?_
              refine x_iadd dX1_layPath_94 ?_
              refine x_iload dX1_layPath_95 rfl ?_
              refine m_ast hM (N := 196) rfl (by omega) (by decide) dX1_layPath_97 ?_
              refine x_aload_n dX1_layPath_98 rfl ?_
              refine m_get_newPathLength hM dX1_layPath_99 ?_
              refine x_iload_n dX1_layPath_102 rfl ?_
              refine x_dup2_11 dX1_layPath_103 ?_
              refine m_ald hM (N := 14) rfl (by omega) (by decide) dX1_layPath_104 ?_
              refine x_iconst dX1_layPath_105 ?_
              refine x_iadd dX1_layPath_106 ?_
              refine m_ast hM (N := 14) rfl (by omega) (by decide) dX1_layPath_107 ?_
              refine x_goto 15 dX1_layPath_108 rfl ?_
              refine x_lvp [0, 1, 2, 3, 4] (lv' := [(0, _), (1, _), (2, _), (3, _), (4, _)]) rfl ?_
              exact ih15 (f2) (_) (L ++ [p]) (n0) (sa (sa T 29 (14 * a + T.2 28 a) p) 28 a (T.2 28 a + 1)) (by have := sk; rw [hr] at this; dsimp only at this; omega) (by have := sk; rw [hr] at this; dsimp only at this; omega) (by have := sk; rw [hr] at this; dsimp only at this; rw [List.length_append]; show ((L.length + 1 : Nat) : Int) + _ ≤ _; omega) (by have := sk; rw [hr] at this; dsimp only at this; omega) (by rw [hq, hr]; simp) (hT.step (by omega))
            · have c_50 := Int.not_lt.mp c_50
              have hc9 := hc.resolve_left (fun z => by omega)
              have hc3 := hc9.2.2.2.1
              refine x_iload dX1_layPath_53 rfl ?_
              refine x_istore_n (lv' := [(0, _), (1, _), (2, _), (3, _), (4, _), (5, _), (6, _), (7, _)]) dX1_layPath_55 rfl (by decide) ?_
              refine x_iinc (lv' := [(0, _), (1, _), (2, _), (3, _), (4, _), (5, _), (6, _), (7, _)]) dX1_layPath_56 rfl rfl (by decide) ?_
              refine x_iinc (lv' := [(0, _), (1, _), (2, _), (3, _), (4, _), (5, _), (6, _), (7, _)]) dX1_layPath_59 rfl rfl (by decide) ?_
              refine x_aload_n dX1_layPath_62 rfl ?_
              refine x_iload dX1_layPath_63 rfl ?_
              refine x_iload_n dX1_layPath_65 rfl ?_
              refine x_iload dX1_layPath_66 rfl ?_
              refine k_X1_firstCut (b := b) (m := m + (-1)) (f := t_cut (sC S) (sP S) m f2 t) (t := t) hM dX1_layPath_68 (by omega) (by omega) (by omega) (by rw [hT.tab.1, hT.tab.2.1, hT.1]; exact hp3) (fun _ => by rw [hT.tab.2.1]; exact hc3) (hp0) ?_
              refine x_ji (show t_cut (sC T) (sP T) (m + (-1)) (t_cut (sC S) (sP S) m f2 t) t = t_cut (sC S) (sP S) (m - 1) (t_cut (sC S) (sP S) m f2 t) t from by rw [hT.tab.1, hT.tab.2.1]; rfl) ?_
              refine x_istore (lv' := [(0, _), (1, _), (2, _), (3, _), (4, _), (5, _), (6, _), (7, _)]) dX1_layPath_71 rfl (by decide) ?_
              refine x_goto 47 dX1_layPath_73 rfl ?_
              exact ih47 (m - 1) (_) (p + 1) (n3) (by omega) (by rw [hs, t_seek, if_pos c_50]) (by omega) (by omega) (by omega) (fun _ => hc3)
        exact L47 (5) (t_of (sP S) b f t) (f) (1) (4) (by omega) (rfl) (by omega) (by omega) (by omega) (fun _ => hg.2)
  exact L15 (15) (0) (S.1 2) ([]) (14) (_) (by omega) (by omega) (by show ((0 : Nat) : Int) + _ ≤ _; omega) (by omega) (rfl) (PW.nil S a)
theorem k_X1_layPath {G : Gw} {X : Cx} {cc : ByteArray} {nL : Nat} {y : MethodName} {ret : Option FieldType} {dp : Nat} {P : Option Value → Hp → Prop} {mc ms pc : Nat} {lv : List (Nat × Value)} {st : List Value} {kc ks : Nat} {M : Mg} {B : Hp} {S : Ms} {b : Int} {a : Int} (hM : MOk M) (hd : decode cc pc = .ok (.invokevirtual 253, 3)) (hp0 : 2 ≤ b ∧ b ≤ 4) (hp1 : S.1 2 ≤ 14) (hp2 : 0 ≤ a ∧ a < S.1 2) (hp3 : Gt (sC S) (sP S) (S.1 2) b) (kk : ∀ T : Ms, (PW S a (f_path S b a) T) → V G X cc nL y ret dp P mc ms (pc + 3) lv (st) (mh G M B T) kc ks) (hy : y.cls = RX1 := by rfl) (hdp : 2 + 1 ≤ dp := by decide) (hrs : (st.map fun v => v.category).sum ≤ 8 := by first | decide | (simp [Value.category, iv, jv]; done)) : V G X cc nL y ret dp P mc ms pc lv (iv (a) :: iv (b) :: .ref M.1 :: st) (mh G M B S) kc ks := by
  refine x_callV (ci := 1) (T := TX1) (N := 33) (As := [iv (b), iv (a)]) 2 (fun l => c_X1_layPath l G M B S b a hM hp0 hp1 hp2 hp3) (by rw [hy]; exact q3076) q3078 qs102 q173 q3079 (by decide +kernel) hdp (by decide) (mh_o hM) rfl rfl rfl hrs hd (Nat.zero_le _) (Nat.zero_le _) (fun v h hv => ?_)
  obtain ⟨T, rfl, rfl, hv⟩ := hv
  exact kk T hv
abbrev q_X1_layMenu (G : Gw) (M : Mg) (B : Hp) (S : Ms) (b : Int) : Option Value → Hp → Prop := fun v_ h_ => ∃ T : Ms, v_ = none ∧ h_ = mh G M B T ∧ (LM S b (S.1 2) T)
set_option maxHeartbeats 4000000 in
theorem c_X1_layMenu (l : Launch) (G : Gw) (M : Mg) (B : Hp) (S : Ms) (b : Int) (hM : MOk M) (hp0 : Wf S) (hp1 : 2 ≤ b ∧ b ≤ 4) : Mt l G yX1_layMenu cX1_layMenu 3 none 4 [.ref (M.1), iv (b)] (mh G M B S) (q_X1_layMenu G M B S b) (0) (0) := by
  refine Mt.of (lv := [(0, .ref (M.1)), (1, iv (b))]) (by decide) (Nat.le_of_ble_eq_true rfl) rfl (fun X => ?_)
  have h2 := hp0.nm
  refine x_aload_n dX1_layMenu_0 rfl ?_
  refine x_iload_n dX1_layMenu_1 rfl ?_
  refine k_X1_layCosts (b := b) hM dX1_layMenu_2 (hp0) (hp1) (fun T2_1 rT2_1 => ?_)
  refine x_iconst dX1_layMenu_5 ?_
  refine x_istore_n (lv' := [(0, _), (1, _), (2, _)]) dX1_layMenu_6 rfl (by decide) ?_
  have L7 : ∀ (n7 : Nat) (k : Nat) (T : Ms), (S.1 2 - k) < (n7 : Int) → ((k : Int) ≤ S.1 2) → (LM S b k T) → V G X cX1_layMenu 3 yX1_layMenu none 4 (q_X1_layMenu G M B S b) (0) (0) 7 [(0, .ref (M.1)), (1, iv (b)), (2, iv (k))] [] (mh G M B T) (0) (0) := by
    intro n7
    induction n7 with
    | zero =>
      intro k T hm hk hT
      exact absurd hm (by omega)
    | succ n7 ih7 =>
      intro k T hm7 hk hT
      have e2 : T.1 2 = S.1 2 := congrFun hT.1 2
      refine x_iload_n dX1_layMenu_7 rfl ?_
      refine x_aload_n dX1_layMenu_8 rfl ?_
      refine m_get_names hM dX1_layMenu_9 ?_
      refine x_icmp_ge 27 dX1_layMenu_12 rfl (by omega) (by omega) (fun c_12 => ?_) (fun c_12 => ?_)
      · exact x_vret rfl ⟨_, rfl, rfl, by rw [show S.1 2 = (k : Int) by omega]; exact hT⟩ dX1_layMenu_27
      · refine x_aload_n dX1_layMenu_15 rfl ?_
        refine x_iload_n dX1_layMenu_16 rfl ?_
        refine x_iload_n dX1_layMenu_17 rfl ?_
        refine k_X1_layPath (b := b) (a := k) hM dX1_layMenu_18 (hp1) (by omega) (by omega) (by rw [e2]; exact hT.Gt hp0 hp1) (fun T18_2 rT18_2 => ?_)
        refine x_iinc (lv' := [(0, _), (1, _), (2, _)]) dX1_layMenu_21 rfl rfl (by decide) ?_
        refine x_goto 7 dX1_layMenu_24 rfl ?_
        exact ih7 (k + 1) (_) (by omega) (by omega) (hT.step hp0 hp1 (by omega) rT18_2)
  exact L7 ((S.1 2).toNat + 1) (0) (_) (by omega) (by omega) (LCi.LM rT2_1)
theorem k_X1_layMenu {G : Gw} {X : Cx} {cc : ByteArray} {nL : Nat} {y : MethodName} {ret : Option FieldType} {dp : Nat} {P : Option Value → Hp → Prop} {mc ms pc : Nat} {lv : List (Nat × Value)} {st : List Value} {kc ks : Nat} {M : Mg} {B : Hp} {S : Ms} {b : Int} (hM : MOk M) (hd : decode cc pc = .ok (.invokevirtual 172, 3)) (hp0 : Wf S) (hp1 : 2 ≤ b ∧ b ≤ 4) (kk : ∀ T : Ms, (LM S b (S.1 2) T) → V G X cc nL y ret dp P mc ms (pc + 3) lv (st) (mh G M B T) kc ks) (hy : y.cls = RX1 := by rfl) (hdp : 4 + 1 ≤ dp := by decide) (hrs : (st.map fun v => v.category).sum ≤ 8 := by first | decide | (simp [Value.category, iv, jv]; done)) : V G X cc nL y ret dp P mc ms pc lv (iv (b) :: .ref M.1 :: st) (mh G M B S) kc ks := by
  refine x_callV (ci := 1) (T := TX1) (N := 33) (As := [iv (b)]) 1 (fun l => c_X1_layMenu l G M B S b hM hp0 hp1) (by rw [hy]; exact q3048) q3050 qs95 q173 q3051 (by decide +kernel) hdp (by decide) (mh_o hM) rfl rfl rfl hrs hd (Nat.zero_le _) (Nat.zero_le _) (fun v h hv => ?_)
  obtain ⟨T, rfl, rfl, hv⟩ := hv
  exact kk T hv
abbrev q_X1_nameNow (G : Gw) (M : Mg) (B : Hp) (S : Ms) (a : Int) (w : Int) : Option Value → Hp → Prop := fun v_ h_ => ∃ T : Ms, v_ = some (iv (f_name S a w)) ∧ h_ = mh G M B T ∧ (Cc S T)
set_option maxHeartbeats 4000000 in
theorem c_X1_nameNow (l : Launch) (G : Gw) (M : Mg) (B : Hp) (S : Ms) (a : Int) (w : Int) (hM : MOk M) (hp0 : Wf S) (hp1 : 0 ≤ a ∧ a < S.1 2) (hp2 : -2147483648 ≤ w ∧ w ≤ 2147483647) (hp3 : 0 ≤ S.1 12 ∧ S.1 12 ≤ 4) : Mt l G yX1_nameNow cX1_nameNow 3 (some .int) 5 [.ref (M.1), iv (a), iv (w)] (mh G M B S) (q_X1_nameNow G M B S a w) (0) (0) := by
  refine Mt.of (lv := [(0, .ref (M.1)), (1, iv (a)), (2, iv (w))]) (by decide) (Nat.le_of_ble_eq_true rfl) rfl (fun X => ?_)
  have h2 := hp0.nm
  refine x_iload_n dX1_nameNow_0 rfl ?_
  by_cases t_1_0 : w = 0
  · refine x_ji t_1_0 ?_
    refine x_tin 44 dX1_nameNow_1 (by decide) (by decide) (by decide) rfl rfl ?_
    refine x_aload_n dX1_nameNow_44 rfl ?_
    refine m_get_length hM dX1_nameNow_45 ?_
    refine x_iload_n dX1_nameNow_48 rfl ?_
    refine m_ald hM (N := 14) rfl (by omega) (by decide) dX1_nameNow_49 ?_
    exact x_iret rfl ⟨_, ri (by unfold f_name; simp_all), rfl, Cc.rf S⟩ dX1_nameNow_50
  by_cases t_1_1 : w = 1
  · refine x_ji t_1_1 ?_
    refine x_tin 51 dX1_nameNow_1 (by decide) (by decide) (by decide) rfl rfl ?_
    refine x_aload_n dX1_nameNow_51 rfl ?_
    refine m_get_uses hM dX1_nameNow_52 ?_
    refine x_iload_n dX1_nameNow_55 rfl ?_
    refine m_ald hM (N := 14) rfl (by omega) (by decide) dX1_nameNow_56 ?_
    exact x_iret rfl ⟨_, ri (by unfold f_name; simp_all), rfl, Cc.rf S⟩ dX1_nameNow_57
  by_cases t_1_2 : w = 2
  · refine x_ji t_1_2 ?_
    refine x_tin 58 dX1_nameNow_1 (by decide) (by decide) (by decide) rfl rfl ?_
    refine x_aload_n dX1_nameNow_58 rfl ?_
    refine x_iload_n dX1_nameNow_59 rfl ?_
    refine k_X1_twins (a := a) hM dX1_nameNow_60 (hp0) (hp1) ?_
    exact x_iret rfl ⟨_, ri (by unfold f_name; simp_all), rfl, Cc.rf S⟩ dX1_nameNow_63
  by_cases t_1_3 : w = 3
  · refine x_ji t_1_3 ?_
    refine x_tin 64 dX1_nameNow_1 (by decide) (by decide) (by decide) rfl rfl ?_
    refine x_aload_n dX1_nameNow_64 rfl ?_
    refine x_iload_n dX1_nameNow_65 rfl ?_
    refine k_X1_telling (a := a) hM dX1_nameNow_66 (hp0) (hp1) ?_
    exact x_iret rfl ⟨_, ri (by unfold f_name; simp_all), rfl, Cc.rf S⟩ dX1_nameNow_69
  by_cases t_1_4 : w = 4
  · refine x_ji t_1_4 ?_
    refine x_tin 70 dX1_nameNow_1 (by decide) (by decide) (by decide) rfl rfl ?_
    refine x_aload_n dX1_nameNow_70 rfl ?_
    refine x_iload_n dX1_nameNow_71 rfl ?_
    refine k_X1_presses (a := a) hM dX1_nameNow_72 (hp0) (hp1) ?_
    exact x_iret rfl ⟨_, ri (by unfold f_name; simp_all), rfl, Cc.rf S⟩ dX1_nameNow_75
  by_cases t_1_5 : w = 5
  · refine x_ji t_1_5 ?_
    refine x_tin 76 dX1_nameNow_1 (by decide) (by decide) (by decide) rfl rfl ?_
    refine x_aload_n dX1_nameNow_76 rfl ?_
    refine x_iload_n dX1_nameNow_77 rfl ?_
    refine x_aload_n dX1_nameNow_78 rfl ?_
    refine m_get_length hM dX1_nameNow_79 ?_
    refine x_iload_n dX1_nameNow_82 rfl ?_
    refine m_ald hM (N := 14) rfl (by omega) (by decide) dX1_nameNow_83 ?_
    refine k_X1_placeIn (a := a) (m := S.2 3 a) hM dX1_nameNow_84 (hp0) (hp1) (by have := hp0.len hp1; omega) ?_
    exact x_iret rfl ⟨_, ri (by unfold f_name; simp_all), rfl, Cc.rf S⟩ dX1_nameNow_87
  by_cases t_1_6 : w = 6
  · refine x_ji t_1_6 ?_
    refine x_tin 88 dX1_nameNow_1 (by decide) (by decide) (by decide) rfl rfl ?_
    refine x_aload_n dX1_nameNow_88 rfl ?_
    refine m_get_width hM dX1_nameNow_89 ?_
    refine x_if_ne 99 dX1_nameNow_92 rfl (by omega) (fun c_92 => ?_) (fun c_92 => ?_)
    · refine x_aload_n dX1_nameNow_99 rfl ?_
      refine m_get_pathLength hM dX1_nameNow_100 ?_
      refine x_iload_n dX1_nameNow_103 rfl ?_
      refine m_ald hM (N := 14) rfl (by omega) (by decide) dX1_nameNow_104 ?_
      exact x_iret rfl ⟨_, ri (by unfold f_name; simp_all), rfl, Cc.rf S⟩ dX1_nameNow_105
    · refine x_iconst dX1_nameNow_95 ?_
      refine x_goto 105 dX1_nameNow_96 rfl ?_
      exact x_iret rfl ⟨_, ri (by unfold f_name; simp_all), rfl, Cc.rf S⟩ dX1_nameNow_105
  refine x_tout 106 dX1_nameNow_1 (by omega) (by omega) rfl ?_
  refine x_aload_n dX1_nameNow_106 rfl ?_
  refine x_iconst dX1_nameNow_107 ?_
  refine k_X1_layMenu (b := 3) hM dX1_nameNow_108 (hp0) (by decide) (fun T108_1 rT108_1 => ?_)
  refine x_aload_n dX1_nameNow_111 rfl ?_
  refine m_get_newPathLength hM dX1_nameNow_112 ?_
  refine x_iload_n dX1_nameNow_115 rfl ?_
  refine m_ald hM (N := 14) rfl (by omega) (by decide) dX1_nameNow_116 ?_
  exact x_iret rfl ⟨_, ri (by unfold f_name; simp_all; exact (rT108_1.2.2.2.2 a hp1.1 hp1.2).1), rfl, LM.cc rT108_1⟩ dX1_nameNow_117
theorem k_X1_nameNow {G : Gw} {X : Cx} {cc : ByteArray} {nL : Nat} {y : MethodName} {ret : Option FieldType} {dp : Nat} {P : Option Value → Hp → Prop} {mc ms pc : Nat} {lv : List (Nat × Value)} {st : List Value} {kc ks : Nat} {M : Mg} {B : Hp} {S : Ms} {a : Int} {w : Int} (hM : MOk M) (hd : decode cc pc = .ok (.invokevirtual 175, 3)) (hp0 : Wf S) (hp1 : 0 ≤ a ∧ a < S.1 2) (hp2 : -2147483648 ≤ w ∧ w ≤ 2147483647) (hp3 : 0 ≤ S.1 12 ∧ S.1 12 ≤ 4) (kk : ∀ T : Ms, (Cc S T) → V G X cc nL y ret dp P mc ms (pc + 3) lv (iv (f_name S a w) :: st) (mh G M B T) kc ks) (hy : y.cls = RX1 := by rfl) (hdp : 5 + 1 ≤ dp := by decide) (hrs : (st.map fun v => v.category).sum ≤ 8 := by first | decide | (simp [Value.category, iv, jv]; done)) : V G X cc nL y ret dp P mc ms pc lv (iv (w) :: iv (a) :: .ref M.1 :: st) (mh G M B S) kc ks := by
  refine x_callV (ci := 1) (T := TX1) (N := 33) (As := [iv (a), iv (w)]) 2 (fun l => c_X1_nameNow l G M B S a w hM hp0 hp1 hp2 hp3) (by rw [hy]; exact q3011) q3013 qs86 q173 q3014 (by decide +kernel) hdp (by decide) (mh_o hM) rfl rfl rfl hrs hd (Nat.zero_le _) (Nat.zero_le _) (fun v h hv => ?_)
  obtain ⟨T, rfl, rfl, hv⟩ := hv
  exact kk T hv
