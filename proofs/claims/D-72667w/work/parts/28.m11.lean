/-! MODEL 11: what is told of the menu; where numbers lead -/
set_option maxRecDepth 100000
abbrev q_X1_longest (G : Gw) (M : Mg) (B : Hp) (S : Ms)  : Option Value → Hp → Prop := fun v_ h_ => v_ = some (iv (f_longest S)) ∧ h_ = mh G M B (S)
set_option maxHeartbeats 4000000 in
theorem c_X1_longest (l : Launch) (G : Gw) (M : Mg) (B : Hp) (S : Ms)  (hM : MOk M) (hp0 : Wf S) (hp1 : Wm S) : Mt l G yX1_longest cX1_longest 3 (some .int) 0 [.ref (M.1)] (mh G M B S) (q_X1_longest G M B S ) (0) (0) := by
  refine Mt.of (lv := [(0, .ref (M.1))]) (by decide) (Nat.le_of_ble_eq_true rfl) rfl (fun X => ?_)
  have h2 := hp0.nm
  refine x_iconst dX1_longest_0 ?_
  refine x_istore_n (lv' := [(0, _), (1, _)]) dX1_longest_1 rfl (by decide) ?_
  refine x_iconst dX1_longest_2 ?_
  refine x_istore_n (lv' := [(0, _), (1, _), (2, _)]) dX1_longest_3 rfl (by decide) ?_
  have L4 : ∀ (n4 : Nat) (k : Nat), (S.1 2 - k) < (n4 : Int) → ((k : Int) ≤ S.1 2) → V G X cX1_longest 3 yX1_longest (some .int) 0 (q_X1_longest G M B S ) (0) (0) 4 [(0, .ref (M.1)), (1, iv (maxZ 0 (fun k => S.2 13 k) k)), (2, iv (k))] [] (mh G M B S) (0) (0) := by
    intro n4
    induction n4 with
    | zero =>
      intro k hm hk
      exact absurd hm (by omega)
    | succ n4 ih4 =>
      intro k hm4 hk
      have h5 := maxZ_L hp1 k (by omega)
      refine x_iload_n dX1_longest_4 rfl ?_
      refine x_aload_n dX1_longest_5 rfl ?_
      refine m_get_names hM dX1_longest_6 ?_
      refine x_icmp_ge 39 dX1_longest_9 rfl (by omega) (by omega) (fun c_9 => ?_) (fun c_9 => ?_)
      · refine x_iload_n dX1_longest_39 rfl ?_
        exact x_iret rfl ⟨ri (by rw [f_longest, show (S.1 2).toNat = k by omega]), rfl⟩ dX1_longest_40
      · have h6 := hp1.2.1 k (by omega) (by omega)
        have J32 : V G X cX1_longest 3 yX1_longest (some .int) 0 (q_X1_longest G M B S ) (0) (0) 32 [(0, .ref (M.1)), (1, iv (maxZ 0 (fun k => S.2 13 k) k)), (2, iv (k))] [iv (maxZ 0 (fun k => S.2 13 k) (k + 1))] (mh G M B S) (0) (0) := by
          refine x_istore_n (lv' := [(0, _), (1, _), (2, _)]) dX1_longest_32 rfl (by decide) ?_
          refine x_iinc (lv' := [(0, _), (1, _), (2, _)]) dX1_longest_33 rfl rfl (by decide) ?_
          refine x_goto 4 dX1_longest_36 rfl ?_
          exact ih4 (k + 1) (by omega) (by omega)
        refine x_aload_n dX1_longest_12 rfl ?_
        refine m_get_pathLength hM dX1_longest_13 ?_
        refine x_iload_n dX1_longest_16 rfl ?_
        refine m_ald hM (N := 14) rfl (by omega) (by decide) dX1_longest_17 ?_
        refine x_iload_n dX1_longest_18 rfl ?_
        refine x_icmp_le 31 dX1_longest_19 rfl (by omega) (by omega) (fun c_19 => ?_) (fun c_19 => ?_)
        · refine x_iload_n dX1_longest_31 rfl ?_
          exact x_ji (by rw [maxZ]; simp_all; try omega) J32
        · refine x_aload_n dX1_longest_22 rfl ?_
          refine m_get_pathLength hM dX1_longest_23 ?_
          refine x_iload_n dX1_longest_26 rfl ?_
          refine m_ald hM (N := 14) rfl (by omega) (by decide) dX1_longest_27 ?_
          refine x_goto 32 dX1_longest_28 rfl ?_
          exact x_ji (by rw [maxZ]; simp_all; try omega) J32
  exact L4 ((S.1 2).toNat + 1) (0) (by omega) (by omega)
theorem k_X1_longest {G : Gw} {X : Cx} {cc : ByteArray} {nL : Nat} {y : MethodName} {ret : Option FieldType} {dp : Nat} {P : Option Value → Hp → Prop} {mc ms pc : Nat} {lv : List (Nat × Value)} {st : List Value} {kc ks : Nat} {M : Mg} {B : Hp} {S : Ms}  (hM : MOk M) (hd : decode cc pc = .ok (.invokevirtual 283, 3)) (hp0 : Wf S) (hp1 : Wm S) (kk : V G X cc nL y ret dp P mc ms (pc + 3) lv (iv (f_longest S) :: st) (mh G M B (S)) kc ks) (hy : y.cls = RX1 := by rfl) (hdp : 0 + 1 ≤ dp := by decide) (hrs : (st.map fun v => v.category).sum ≤ 8 := by first | decide | (simp [Value.category, iv, jv]; done)) : V G X cc nL y ret dp P mc ms pc lv (.ref M.1 :: st) (mh G M B S) kc ks := by
  refine x_callV (ci := 1) (T := TX1) (N := 33) (As := []) 0 (fun l => c_X1_longest l G M B S  hM hp0 hp1) (by rw [hy]; exact q3241) q3243 qs127 q173 q3244 (by decide +kernel) hdp (by decide) (mh_o hM) rfl rfl rfl hrs hd (Nat.zero_le _) (Nat.zero_le _) (fun v h hv => ?_)
  obtain ⟨rfl, rfl⟩ := hv
  exact kk
abbrev q_X1_isSamePath (G : Gw) (M : Mg) (B : Hp) (S : Ms) (a : Int) (b : Int) (m : Int) : Option Value → Hp → Prop := fun v_ h_ => v_ = some (iv (bI (f_same S a b m))) ∧ h_ = mh G M B (S)
set_option maxHeartbeats 4000000 in
theorem c_X1_isSamePath (l : Launch) (G : Gw) (M : Mg) (B : Hp) (S : Ms) (a : Int) (b : Int) (m : Int) (hM : MOk M) (hp0 : Wm S) (hp1 : 0 ≤ a ∧ a < 14) (hp2 : 0 ≤ b ∧ b < 14) (hp3 : 0 ≤ m ∧ m ≤ 13) : Mt l G yX1_isSamePath cX1_isSamePath 6 (some .boolean) 0 [.ref (M.1), iv (a), iv (b), iv (m)] (mh G M B S) (q_X1_isSamePath G M B S a b m) (0) (0) := by
  refine Mt.of (lv := [(0, .ref (M.1)), (1, iv (a)), (2, iv (b)), (3, iv (m))]) (by decide) (Nat.le_of_ble_eq_true rfl) rfl (fun X => ?_)
  have h1 := hp0.2.1 a hp1.1 hp1.2
  have h2 := hp0.2.1 b hp2.1 hp2.2
  have J25 : V G X cX1_isSamePath 6 yX1_isSamePath (some .boolean) 0 (q_X1_isSamePath G M B S a b m) (0) (0) 25 [(0, .ref (M.1)), (1, iv (a)), (2, iv (b)), (3, iv (m))] [iv (bI (decide (m ≤ S.2 13 a) && decide (m ≤ S.2 13 b)))] (mh G M B S) (0) (0) := by
    refine x_istore (lv' := [(0, _), (1, _), (2, _), (3, _), (4, _)]) dX1_isSamePath_25 rfl (by decide) ?_
    refine x_iconst dX1_isSamePath_27 ?_
    refine x_istore (lv' := [(0, _), (1, _), (2, _), (3, _), (4, _), (5, _)]) dX1_isSamePath_28 rfl (by decide) ?_
    have L30 : ∀ (n30 : Nat) (k : Nat) (is : Bool), (m - k) < (n30 : Int) → ((k : Int) ≤ m) → (is = ((decide (m ≤ S.2 13 a) && decide (m ≤ S.2 13 b)) && allB (fun i => decide (S.2 14 (14 * a + i) = S.2 14 (14 * b + i))) k)) → V G X cX1_isSamePath 6 yX1_isSamePath (some .boolean) 0 (q_X1_isSamePath G M B S a b m) (0) (0) 30 [(0, .ref (M.1)), (1, iv (a)), (2, iv (b)), (3, iv (m)), (4, iv (bI (is))), (5, iv (k))] [] (mh G M B S) (0) (0) := by
      intro n30
      induction n30 with
      | zero =>
        intro k is hm hk hi
        exact absurd hm (by omega)
      | succ n30 ih30 =>
        intro k is hm30 hk hi
        refine x_iload dX1_isSamePath_30 rfl ?_
        refine x_iload_n dX1_isSamePath_32 rfl ?_
        refine x_icmp_ge 81 dX1_isSamePath_33 rfl (by omega) (by omega) (fun c_33 => ?_) (fun c_33 => ?_)
        · refine x_iload dX1_isSamePath_81 rfl ?_
          exact x_zret rfl (nar_b _) ⟨congrArg (fun b => some (iv (bI b))) (by rw [hi, f_same]; congr 2; omega), rfl⟩ dX1_isSamePath_83
        · refine x_iload dX1_isSamePath_36 rfl ?_
          refine x_ifb_eq 81 dX1_isSamePath_38 rfl (fun c_38 => ?_) (fun c_38 => ?_)
          · refine x_iload dX1_isSamePath_81 rfl ?_
            exact x_zret rfl (nar_b _) ⟨congrArg (fun b => some (iv (bI b))) (by rw [c_38] at hi; rw [c_38, f_same]; cases h9 : (decide (m ≤ S.2 13 a) && decide (m ≤ S.2 13 b)) with | false => rfl | true => (rw [h9, Bool.true_and] at hi; rw [allB_f k (by omega) hi.symm]; rfl)), rfl⟩ dX1_isSamePath_83
          · have J73 : V G X cX1_isSamePath 6 yX1_isSamePath (some .boolean) 0 (q_X1_isSamePath G M B S a b m) (0) (0) 73 [(0, .ref (M.1)), (1, iv (a)), (2, iv (b)), (3, iv (m)), (4, iv (bI (is))), (5, iv (k))] [iv (bI (decide (S.2 14 (14 * a + k) = S.2 14 (14 * b + k))))] (mh G M B S) (0) (0) := by
              refine x_istore (lv' := [(0, _), (1, _), (2, _), (3, _), (4, _), (5, _)]) dX1_isSamePath_73 rfl (by decide) ?_
              refine x_iinc (lv' := [(0, _), (1, _), (2, _), (3, _), (4, _), (5, _)]) dX1_isSamePath_75 rfl rfl (by decide) ?_
              refine x_goto 30 dX1_isSamePath_78 rfl ?_
              exact ih30 (k + 1) (_) (by omega) (by omega) (by rw [c_38] at hi; have hi := hi.symm; rw [Bool.and_eq_true] at hi; rw [allB, hi.1, hi.2]; rfl)
            refine x_aload_n dX1_isSamePath_41 rfl ?_
            refine m_get_steps hM dX1_isSamePath_42 ?_
            refine x_bipush dX1_isSamePath_45 ?_
            refine x_iload_n dX1_isSamePath_47 rfl ?_
            refine x_imul dX1_isSamePath_48 ?_
            refine x_iload dX1_isSamePath_49 rfl ?_
            refine x_iadd dX1_isSamePath_51 ?_
            refine m_ald hM (N := 196) rfl (by omega) (by decide) dX1_isSamePath_52 ?_
            refine x_aload_n dX1_isSamePath_53 rfl ?_
            refine m_get_steps hM dX1_isSamePath_54 ?_
            refine x_bipush dX1_isSamePath_57 ?_
            refine x_iload_n dX1_isSamePath_59 rfl ?_
            refine x_imul dX1_isSamePath_60 ?_
            refine x_iload dX1_isSamePath_61 rfl ?_
            refine x_iadd dX1_isSamePath_63 ?_
            refine m_ald hM (N := 196) rfl (by omega) (by decide) dX1_isSamePath_64 ?_
            refine x_icmp_ne 72 dX1_isSamePath_65 rfl (by have := hp0.2.2 (14 * a + k) (by omega) (by omega); omega) (by have := hp0.2.2 (14 * b + k) (by omega) (by omega); omega) (fun c_65 => ?_) (fun c_65 => ?_)
            · refine x_iconst dX1_isSamePath_72 ?_
              exact x_jf (by first | (simp_all; done) | (simp; omega) | (simp_all; omega)) J73
            · refine x_iconst dX1_isSamePath_68 ?_
              refine x_goto 73 dX1_isSamePath_69 rfl ?_
              exact x_jt (by first | (simp_all; done) | (simp; omega) | (simp_all; omega)) J73
    exact L30 (m.toNat + 1) (0) (_) (by omega) (by omega) (by simp [allB])
  refine x_iload_n dX1_isSamePath_0 rfl ?_
  refine x_aload_n dX1_isSamePath_1 rfl ?_
  refine m_get_pathLength hM dX1_isSamePath_2 ?_
  refine x_iload_n dX1_isSamePath_5 rfl ?_
  refine m_ald hM (N := 14) rfl (by omega) (by decide) dX1_isSamePath_6 ?_
  refine x_icmp_gt 24 dX1_isSamePath_7 rfl (by omega) (by omega) (fun c_7 => ?_) (fun c_7 => ?_)
  · refine x_iconst dX1_isSamePath_24 ?_
    exact x_jf (by first | (simp_all; done) | (simp; omega)) J25
  · refine x_iload_n dX1_isSamePath_10 rfl ?_
    refine x_aload_n dX1_isSamePath_11 rfl ?_
    refine m_get_pathLength hM dX1_isSamePath_12 ?_
    refine x_iload_n dX1_isSamePath_15 rfl ?_
    refine m_ald hM (N := 14) rfl (by omega) (by decide) dX1_isSamePath_16 ?_
    refine x_icmp_gt 24 dX1_isSamePath_17 rfl (by omega) (by omega) (fun c_17 => ?_) (fun c_17 => ?_)
    · refine x_iconst dX1_isSamePath_24 ?_
      exact x_jf (by first | (simp_all; done) | (simp; omega)) J25
    · refine x_iconst dX1_isSamePath_20 ?_
      refine x_goto 25 dX1_isSamePath_21 rfl ?_
      exact x_jt (by first | (simp_all; done) | (simp; omega)) J25
theorem k_X1_isSamePath {G : Gw} {X : Cx} {cc : ByteArray} {nL : Nat} {y : MethodName} {ret : Option FieldType} {dp : Nat} {P : Option Value → Hp → Prop} {mc ms pc : Nat} {lv : List (Nat × Value)} {st : List Value} {kc ks : Nat} {M : Mg} {B : Hp} {S : Ms} {a : Int} {b : Int} {m : Int} (hM : MOk M) (hd : decode cc pc = .ok (.invokevirtual 280, 3)) (hp0 : Wm S) (hp1 : 0 ≤ a ∧ a < 14) (hp2 : 0 ≤ b ∧ b < 14) (hp3 : 0 ≤ m ∧ m ≤ 13) (kk : V G X cc nL y ret dp P mc ms (pc + 3) lv (iv (bI (f_same S a b m)) :: st) (mh G M B (S)) kc ks) (hy : y.cls = RX1 := by rfl) (hdp : 0 + 1 ≤ dp := by decide) (hrs : (st.map fun v => v.category).sum ≤ 8 := by first | decide | (simp [Value.category, iv, jv]; done)) : V G X cc nL y ret dp P mc ms pc lv (iv (m) :: iv (b) :: iv (a) :: .ref M.1 :: st) (mh G M B S) kc ks := by
  refine x_callV (ci := 1) (T := TX1) (N := 33) (As := [iv (a), iv (b), iv (m)]) 3 (fun l => c_X1_isSamePath l G M B S a b m hM hp0 hp1 hp2 hp3) (by rw [hy]; exact q3249) q3251 qs129 q173 q3252 (by decide +kernel) hdp (by decide) (mh_o hM) rfl rfl rfl hrs hd (Nat.zero_le _) (Nat.zero_le _) (fun v h hv => ?_)
  obtain ⟨rfl, rfl⟩ := hv
  exact kk
abbrev q_X1_menusMany (G : Gw) (M : Mg) (B : Hp) (S : Ms)  : Option Value → Hp → Prop := fun v_ h_ => v_ = some (iv (f_menus S)) ∧ h_ = mh G M B (S)
set_option maxHeartbeats 4000000 in
theorem c_X1_menusMany (l : Launch) (G : Gw) (M : Mg) (B : Hp) (S : Ms)  (hM : MOk M) (hp0 : Wf S) (hp1 : Wm S) : Mt l G yX1_menusMany cX1_menusMany 4 (some .int) 1 [.ref (M.1)] (mh G M B S) (q_X1_menusMany G M B S ) (0) (0) := by
  refine Mt.of (lv := [(0, .ref (M.1))]) (by decide) (Nat.le_of_ble_eq_true rfl) rfl (fun X => ?_)
  have h2 := hp0.nm
  refine x_iconst dX1_menusMany_0 ?_
  refine x_istore_n (lv' := [(0, _), (1, _)]) dX1_menusMany_1 rfl (by decide) ?_
  refine x_iconst dX1_menusMany_2 ?_
  refine x_istore_n (lv' := [(0, _), (1, _), (2, _)]) dX1_menusMany_3 rfl (by decide) ?_
  have L4 : ∀ (n4 : Nat) (k : Nat) (r : Int), (S.1 2 - k) < (n4 : Int) → ((k : Int) ≤ S.1 2) → (r = sumZ (fun k => cntB (fun m => decide (k = 0) || !f_same S (k - 1) k m) (S.2 13 k).toNat) k) → V G X cX1_menusMany 4 yX1_menusMany (some .int) 1 (q_X1_menusMany G M B S ) (0) (0) 4 [(0, .ref (M.1)), (1, iv (r)), (2, iv (k))] [] (mh G M B S) (0) (0) := by
    intro n4
    induction n4 with
    | zero =>
      intro k r hm hk hr
      exact absurd hm (by omega)
    | succ n4 ih4 =>
      intro k r hm4 hk hr
      refine x_iload_n dX1_menusMany_4 rfl ?_
      refine x_aload_n dX1_menusMany_5 rfl ?_
      refine m_get_names hM dX1_menusMany_6 ?_
      refine x_icmp_ge 60 dX1_menusMany_9 rfl (by omega) (by omega) (fun c_9 => ?_) (fun c_9 => ?_)
      · refine x_iload_n dX1_menusMany_60 rfl ?_
        exact x_iret rfl ⟨ri (by rw [hr, f_menus, show (S.1 2).toNat = k by omega]), rfl⟩ dX1_menusMany_61
      · have h6 := hp1.2.1 k (by omega) (by omega)
        refine x_iconst dX1_menusMany_12 ?_
        refine x_istore_n (lv' := [(0, _), (1, _), (2, _), (3, _)]) dX1_menusMany_13 rfl (by decide) ?_
        have L14 : ∀ (n14 : Nat) (m : Nat) (s : Int), (S.2 13 k - m) < (n14 : Int) → ((m : Int) ≤ S.2 13 k) → (s = r + cntB (fun m => decide ((k : Int) = 0) || !f_same S (k - 1) k m) m) → V G X cX1_menusMany 4 yX1_menusMany (some .int) 1 (q_X1_menusMany G M B S ) (0) (0) 14 [(0, .ref (M.1)), (1, iv (s)), (2, iv (k)), (3, iv (m))] [] (mh G M B S) (0) (0) := by
          intro n14
          induction n14 with
          | zero =>
            intro m s hm hm hs
            exact absurd hm (by omega)
          | succ n14 ih14 =>
            intro m s hm14 hm hs
            refine x_iload_n dX1_menusMany_14 rfl ?_
            refine x_aload_n dX1_menusMany_15 rfl ?_
            refine m_get_pathLength hM dX1_menusMany_16 ?_
            refine x_iload_n dX1_menusMany_19 rfl ?_
            refine m_ald hM (N := 14) rfl (by omega) (by decide) dX1_menusMany_20 ?_
            refine x_icmp_ge 54 dX1_menusMany_21 rfl (by omega) (by omega) (fun c_21 => ?_) (fun c_21 => ?_)
            · refine x_iinc (lv' := [(0, _), (1, _), (2, _), (3, _)]) dX1_menusMany_54 rfl rfl (by decide) ?_
              refine x_goto 4 dX1_menusMany_57 rfl ?_
              refine x_lvp [0, 1, 2] (lv' := [(0, _), (1, _), (2, _)]) rfl ?_
              exact ih4 (k + 1) (_) (by omega) (by omega) (by rw [hs, hr, sumZ, show (S.2 13 (k : Int)).toNat = m by omega])
            · refine x_iload_n dX1_menusMany_24 rfl ?_
              have J46 : V G X cX1_menusMany 4 yX1_menusMany (some .int) 1 (q_X1_menusMany G M B S ) (0) (0) 46 [(0, .ref (M.1)), (1, iv (s)), (2, iv (k)), (3, iv (m))] [iv (bI (decide ((k : Int) = 0) || !f_same S (k - 1) k m)), iv (s)] (mh G M B S) (0) (0) := by
                refine x_iadd dX1_menusMany_46 ?_
                refine x_istore_n (lv' := [(0, _), (1, _), (2, _), (3, _)]) dX1_menusMany_47 rfl (by decide) ?_
                refine x_iinc (lv' := [(0, _), (1, _), (2, _), (3, _)]) dX1_menusMany_48 rfl rfl (by decide) ?_
                refine x_goto 14 dX1_menusMany_51 rfl ?_
                exact ih14 (m + 1) (_) (by omega) (by omega) (by rw [hs, cntB]; omega)
              refine x_iload_n dX1_menusMany_25 rfl ?_
              refine x_if_eq 41 dX1_menusMany_26 rfl (by omega) (fun c_26 => ?_) (fun c_26 => ?_)
              · refine x_iconst dX1_menusMany_41 ?_
                refine x_goto 46 dX1_menusMany_42 rfl ?_
                exact x_ji (by simp_all [bI]) J46
              · refine x_aload_n dX1_menusMany_29 rfl ?_
                refine x_iload_n dX1_menusMany_30 rfl ?_
                refine x_iconst dX1_menusMany_31 ?_
                refine x_isub dX1_menusMany_32 ?_
                refine x_iload_n dX1_menusMany_33 rfl ?_
                refine x_iload_n dX1_menusMany_34 rfl ?_
                refine k_X1_isSamePath (a := k - 1) (b := k) (m := m) hM dX1_menusMany_35 (hp1) (by omega) (by omega) (by omega) ?_
                refine x_ifb_ne 45 dX1_menusMany_38 rfl (fun c_38 => ?_) (fun c_38 => ?_)
                · refine x_iconst dX1_menusMany_45 ?_
                  exact x_ji (by simp_all [bI]) J46
                · refine x_iconst dX1_menusMany_41 ?_
                  refine x_goto 46 dX1_menusMany_42 rfl ?_
                  exact x_ji (by simp_all [bI]) J46
        exact L14 ((S.2 13 k).toNat + 1) (0) (_) (by omega) (by omega) (by simp [cntB])
  exact L4 ((S.1 2).toNat + 1) (0) (0) (by omega) (by omega) (rfl)
theorem k_X1_menusMany {G : Gw} {X : Cx} {cc : ByteArray} {nL : Nat} {y : MethodName} {ret : Option FieldType} {dp : Nat} {P : Option Value → Hp → Prop} {mc ms pc : Nat} {lv : List (Nat × Value)} {st : List Value} {kc ks : Nat} {M : Mg} {B : Hp} {S : Ms}  (hM : MOk M) (hd : decode cc pc = .ok (.invokevirtual 286, 3)) (hp0 : Wf S) (hp1 : Wm S) (kk : V G X cc nL y ret dp P mc ms (pc + 3) lv (iv (f_menus S) :: st) (mh G M B (S)) kc ks) (hy : y.cls = RX1 := by rfl) (hdp : 1 + 1 ≤ dp := by decide) (hrs : (st.map fun v => v.category).sum ≤ 8 := by first | decide | (simp [Value.category, iv, jv]; done)) : V G X cc nL y ret dp P mc ms pc lv (.ref M.1 :: st) (mh G M B S) kc ks := by
  refine x_callV (ci := 1) (T := TX1) (N := 33) (As := []) 0 (fun l => c_X1_menusMany l G M B S  hM hp0 hp1) (by rw [hy]; exact q3245) q3247 qs128 q173 q3248 (by decide +kernel) hdp (by decide) (mh_o hM) rfl rfl rfl hrs hd (Nat.zero_le _) (Nat.zero_le _) (fun v h hv => ?_)
  obtain ⟨rfl, rfl⟩ := hv
  exact kk
abbrev q_X1_wholeParts (G : Gw) (M : Mg) (B : Hp) (S : Ms)  : Option Value → Hp → Prop := fun v_ h_ => v_ = some (iv (mxW S (S.1 2).toNat)) ∧ h_ = mh G M B (S)
set_option maxHeartbeats 4000000 in
theorem c_X1_wholeParts (l : Launch) (G : Gw) (M : Mg) (B : Hp) (S : Ms)  (hM : MOk M) (hp0 : Wf S) (hp1 : Wm S) : Mt l G yX1_wholeParts cX1_wholeParts 3 (some .int) 0 [.ref (M.1)] (mh G M B S) (q_X1_wholeParts G M B S ) (0) (0) := by
  refine Mt.of (lv := [(0, .ref (M.1))]) (by decide) (Nat.le_of_ble_eq_true rfl) rfl (fun X => ?_)
  have h2 := hp0.nm
  refine x_iconst dX1_wholeParts_0 ?_
  refine x_istore_n (lv' := [(0, _), (1, _)]) dX1_wholeParts_1 rfl (by decide) ?_
  refine x_iconst dX1_wholeParts_2 ?_
  refine x_istore_n (lv' := [(0, _), (1, _), (2, _)]) dX1_wholeParts_3 rfl (by decide) ?_
  have L4 : ∀ (n4 : Nat) (k : Nat), (S.1 2 - k) < (n4 : Int) → ((k : Int) ≤ S.1 2) → V G X cX1_wholeParts 3 yX1_wholeParts (some .int) 0 (q_X1_wholeParts G M B S ) (0) (0) 4 [(0, .ref (M.1)), (1, iv (mxW S k)), (2, iv (k))] [] (mh G M B S) (0) (0) := by
    intro n4
    induction n4 with
    | zero =>
      intro k hm hk
      exact absurd hm (by omega)
    | succ n4 ih4 =>
      intro k hm4 hk
      have h5 := mxW_R hp1 k (by omega)
      refine x_iload_n dX1_wholeParts_4 rfl ?_
      refine x_aload_n dX1_wholeParts_5 rfl ?_
      refine m_get_names hM dX1_wholeParts_6 ?_
      refine x_icmp_ge 54 dX1_wholeParts_9 rfl (by omega) (by omega) (fun c_9 => ?_) (fun c_9 => ?_)
      · refine x_iload_n dX1_wholeParts_54 rfl ?_
        exact x_iret rfl ⟨ri (by rw [show (S.1 2).toNat = k by omega]), rfl⟩ dX1_wholeParts_55
      · have h6 := hp1.2.1 k (by omega) (by omega)
        have h7 := hp1.2.2 (14 * k) (by omega) (by omega)
        have J47 : V G X cX1_wholeParts 3 yX1_wholeParts (some .int) 0 (q_X1_wholeParts G M B S ) (0) (0) 47 [(0, .ref (M.1)), (1, iv (mxW S k)), (2, iv (k))] [iv (mxW S (k + 1))] (mh G M B S) (0) (0) := by
          refine x_istore_n (lv' := [(0, _), (1, _), (2, _)]) dX1_wholeParts_47 rfl (by decide) ?_
          refine x_iinc (lv' := [(0, _), (1, _), (2, _)]) dX1_wholeParts_48 rfl rfl (by decide) ?_
          refine x_goto 4 dX1_wholeParts_51 rfl ?_
          exact ih4 (k + 1) (by omega) (by omega)
        refine x_aload_n dX1_wholeParts_12 rfl ?_
        refine m_get_pathLength hM dX1_wholeParts_13 ?_
        refine x_iload_n dX1_wholeParts_16 rfl ?_
        refine m_ald hM (N := 14) rfl (by omega) (by decide) dX1_wholeParts_17 ?_
        refine x_if_le 46 dX1_wholeParts_18 rfl (by omega) (fun c_18 => ?_) (fun c_18 => ?_)
        · refine x_iload_n dX1_wholeParts_46 rfl ?_
          exact x_ji (by rw [mxW, if_neg (by omega)]) J47
        · refine x_aload_n dX1_wholeParts_21 rfl ?_
          refine m_get_steps hM dX1_wholeParts_22 ?_
          refine x_bipush dX1_wholeParts_25 ?_
          refine x_iload_n dX1_wholeParts_27 rfl ?_
          refine x_imul dX1_wholeParts_28 ?_
          refine m_ald hM (N := 196) rfl (by omega) (by decide) dX1_wholeParts_29 ?_
          refine x_iload_n dX1_wholeParts_30 rfl ?_
          refine x_icmp_le 46 dX1_wholeParts_31 rfl (by omega) (by omega) (fun c_31 => ?_) (fun c_31 => ?_)
          · refine x_iload_n dX1_wholeParts_46 rfl ?_
            exact x_ji (by rw [mxW, if_neg (by omega)]) J47
          · refine x_aload_n dX1_wholeParts_34 rfl ?_
            refine m_get_steps hM dX1_wholeParts_35 ?_
            refine x_bipush dX1_wholeParts_38 ?_
            refine x_iload_n dX1_wholeParts_40 rfl ?_
            refine x_imul dX1_wholeParts_41 ?_
            refine m_ald hM (N := 196) rfl (by omega) (by decide) dX1_wholeParts_42 ?_
            refine x_goto 47 dX1_wholeParts_43 rfl ?_
            exact x_ji (by rw [mxW, if_pos (by omega)]) J47
  exact L4 ((S.1 2).toNat + 1) (0) (by omega) (by omega)
theorem k_X1_wholeParts {G : Gw} {X : Cx} {cc : ByteArray} {nL : Nat} {y : MethodName} {ret : Option FieldType} {dp : Nat} {P : Option Value → Hp → Prop} {mc ms pc : Nat} {lv : List (Nat × Value)} {st : List Value} {kc ks : Nat} {M : Mg} {B : Hp} {S : Ms}  (hM : MOk M) (hd : decode cc pc = .ok (.invokevirtual 289, 3)) (hp0 : Wf S) (hp1 : Wm S) (kk : V G X cc nL y ret dp P mc ms (pc + 3) lv (iv (mxW S (S.1 2).toNat) :: st) (mh G M B (S)) kc ks) (hy : y.cls = RX1 := by rfl) (hdp : 0 + 1 ≤ dp := by decide) (hrs : (st.map fun v => v.category).sum ≤ 8 := by first | decide | (simp [Value.category, iv, jv]; done)) : V G X cc nL y ret dp P mc ms pc lv (.ref M.1 :: st) (mh G M B S) kc ks := by
  refine x_callV (ci := 1) (T := TX1) (N := 33) (As := []) 0 (fun l => c_X1_wholeParts l G M B S  hM hp0 hp1) (by rw [hy]; exact q3253) q3255 qs130 q173 q3256 (by decide +kernel) hdp (by decide) (mh_o hM) rfl rfl rfl hrs hd (Nat.zero_le _) (Nat.zero_le _) (fun v h hv => ?_)
  obtain ⟨rfl, rfl⟩ := hv
  exact kk
abbrev q_X1_menuNow (G : Gw) (M : Mg) (B : Hp) (S : Ms) (w : Int) : Option Value → Hp → Prop := fun v_ h_ => ∃ T : Ms, v_ = some (iv (f_menu S w)) ∧ h_ = mh G M B T ∧ (Cc S T)
set_option maxHeartbeats 4000000 in
theorem c_X1_menuNow (l : Launch) (G : Gw) (M : Mg) (B : Hp) (S : Ms) (w : Int) (hM : MOk M) (hp0 : Wf S) (hp1 : Wm S) (hp2 : -2147483648 ≤ w ∧ w ≤ 2147483647) (hp3 : ¬ S.1 12 = 0) : Mt l G yX1_menuNow cX1_menuNow 2 (some .int) 5 [.ref (M.1), iv (w)] (mh G M B S) (q_X1_menuNow G M B S w) (0) (0) := by
  refine Mt.of (lv := [(0, .ref (M.1)), (1, iv (w))]) (by decide) (Nat.le_of_ble_eq_true rfl) rfl (fun X => ?_)
  have h8 := hp1.1.resolve_left hp3
  refine x_iload_n dX1_menuNow_0 rfl ?_
  by_cases t_1_0 : w = 0
  · refine x_ji t_1_0 ?_
    refine x_tin 40 dX1_menuNow_1 (by decide) (by decide) (by decide) rfl rfl ?_
    refine x_aload_n dX1_menuNow_40 rfl ?_
    refine m_get_width hM dX1_menuNow_41 ?_
    exact x_iret rfl ⟨_, ri (by unfold f_menu; simp_all), rfl, Cc.rf S⟩ dX1_menuNow_44
  by_cases t_1_1 : w = 1
  · refine x_ji t_1_1 ?_
    refine x_tin 45 dX1_menuNow_1 (by decide) (by decide) (by decide) rfl rfl ?_
    refine x_aload_n dX1_menuNow_45 rfl ?_
    refine k_X1_costNow  hM dX1_menuNow_46 (hp0) ?_
    exact x_iret rfl ⟨_, ri (by unfold f_menu; simp_all), rfl, Cc.rf S⟩ dX1_menuNow_49
  by_cases t_1_2 : w = 2
  · refine x_ji t_1_2 ?_
    refine x_tin 50 dX1_menuNow_1 (by decide) (by decide) (by decide) rfl rfl ?_
    refine x_aload_n dX1_menuNow_50 rfl ?_
    refine k_X1_leastCost  hM dX1_menuNow_51 (hp0) (by omega) (by omega) (fun T51_1 rT51_1 => ?_)
    exact x_iret rfl ⟨_, ri (by unfold f_menu; simp_all), rfl, LCi.cc rT51_1⟩ dX1_menuNow_54
  by_cases t_1_3 : w = 3
  · refine x_ji t_1_3 ?_
    refine x_tin 55 dX1_menuNow_1 (by decide) (by decide) (by decide) rfl rfl ?_
    refine x_aload_n dX1_menuNow_55 rfl ?_
    refine k_X1_longest  hM dX1_menuNow_56 (hp0) (hp1) ?_
    exact x_iret rfl ⟨_, ri (by unfold f_menu; simp_all), rfl, Cc.rf S⟩ dX1_menuNow_59
  by_cases t_1_4 : w = 4
  · refine x_ji t_1_4 ?_
    refine x_tin 60 dX1_menuNow_1 (by decide) (by decide) (by decide) rfl rfl ?_
    refine x_aload_n dX1_menuNow_60 rfl ?_
    refine k_X1_menusMany  hM dX1_menuNow_61 (hp0) (hp1) ?_
    exact x_iret rfl ⟨_, ri (by unfold f_menu; simp_all), rfl, Cc.rf S⟩ dX1_menuNow_64
  by_cases t_1_5 : w = 5
  · refine x_ji t_1_5 ?_
    refine x_tin 65 dX1_menuNow_1 (by decide) (by decide) (by decide) rfl rfl ?_
    refine x_aload_n dX1_menuNow_65 rfl ?_
    refine k_X1_wholeParts  hM dX1_menuNow_66 (hp0) (hp1) ?_
    exact x_iret rfl ⟨_, ri (by unfold f_menu; simp_all), rfl, Cc.rf S⟩ dX1_menuNow_69
  refine x_tout 70 dX1_menuNow_1 (by omega) (by omega) rfl ?_
  refine x_aload_n dX1_menuNow_70 rfl ?_
  refine m_get_built hM dX1_menuNow_71 ?_
  exact x_iret rfl ⟨_, ri (by unfold f_menu; simp_all), rfl, Cc.rf S⟩ dX1_menuNow_74
theorem k_X1_menuNow {G : Gw} {X : Cx} {cc : ByteArray} {nL : Nat} {y : MethodName} {ret : Option FieldType} {dp : Nat} {P : Option Value → Hp → Prop} {mc ms pc : Nat} {lv : List (Nat × Value)} {st : List Value} {kc ks : Nat} {M : Mg} {B : Hp} {S : Ms} {w : Int} (hM : MOk M) (hd : decode cc pc = .ok (.invokevirtual 292, 3)) (hp0 : Wf S) (hp1 : Wm S) (hp2 : -2147483648 ≤ w ∧ w ≤ 2147483647) (hp3 : ¬ S.1 12 = 0) (kk : ∀ T : Ms, (Cc S T) → V G X cc nL y ret dp P mc ms (pc + 3) lv (iv (f_menu S w) :: st) (mh G M B T) kc ks) (hy : y.cls = RX1 := by rfl) (hdp : 5 + 1 ≤ dp := by decide) (hrs : (st.map fun v => v.category).sum ≤ 8 := by first | decide | (simp [Value.category, iv, jv]; done)) : V G X cc nL y ret dp P mc ms pc lv (iv (w) :: .ref M.1 :: st) (mh G M B S) kc ks := by
  refine x_callV (ci := 1) (T := TX1) (N := 33) (As := [iv (w)]) 1 (fun l => c_X1_menuNow l G M B S w hM hp0 hp1 hp2 hp3) (by rw [hy]; exact q3237) q3239 qs126 q173 q3240 (by decide +kernel) hdp (by decide) (mh_o hM) rfl rfl rfl hrs hd (Nat.zero_le _) (Nat.zero_le _) (fun v h hv => ?_)
  obtain ⟨T, rfl, rfl, hv⟩ := hv
  exact kk T hv
abbrev q_X1_menu (G : Gw) (M : Mg) (B : Hp) (S : Ms) (w : Int) : Option Value → Hp → Prop := fun v_ h_ => ∃ T : Ms, v_ = some (iv (f_menuQ S w)) ∧ h_ = mh G M B T ∧ (Cc S T)
set_option maxHeartbeats 4000000 in
theorem c_X1_menu (l : Launch) (G : Gw) (M : Mg) (B : Hp) (S : Ms) (w : Int) (hM : MOk M) (hp0 : Wf S) (hp1 : Wm S) (hp2 : -2147483648 ≤ w ∧ w ≤ 2147483647) : Mt l G yX1_menu cX1_menu 2 (some .int) 6 [.ref (M.1), iv (w)] (mh G M B S) (q_X1_menu G M B S w) (0) (0) := by
  refine Mt.of (lv := [(0, .ref (M.1)), (1, iv (w))]) (by decide) (Nat.le_of_ble_eq_true rfl) rfl (fun X => ?_)
  refine x_aload_n dX1_menu_0 rfl ?_
  refine m_get_width hM dX1_menu_1 ?_
  refine x_if_ne 10 dX1_menu_4 rfl (by have := hp1.1; omega) (fun c_4 => ?_) (fun c_4 => ?_)
  · refine x_iload_n dX1_menu_10 rfl ?_
    refine x_iconst dX1_menu_11 ?_
    refine x_bipush dX1_menu_12 ?_
    refine k_X1_within (v := w) (lo := 0) (hi := 6) hM dX1_menu_14 (hp2) (by decide) (by decide) ?_
    refine x_ifb_eq 28 dX1_menu_17 rfl (fun c_17 => ?_) (fun c_17 => ?_)
    · refine x_bipush dX1_menu_28 ?_
      exact x_iret rfl ⟨_, ri (by rw [f_menuQ, if_neg c_4, if_neg (bf c_17)]), rfl, Cc.rf S⟩ dX1_menu_30
    · refine x_aload_n dX1_menu_20 rfl ?_
      refine x_iload_n dX1_menu_21 rfl ?_
      refine k_X1_menuNow (w := w) hM dX1_menu_22 (hp0) (hp1) (hp2) (c_4) (fun T22_1 rT22_1 => ?_)
      refine x_goto 30 dX1_menu_25 rfl ?_
      exact x_iret rfl ⟨_, ri (by rw [f_menuQ, if_neg c_4, if_pos c_17]), rfl, rT22_1⟩ dX1_menu_30
  · refine x_bipush dX1_menu_7 ?_
    exact x_iret rfl ⟨_, ri (by rw [f_menuQ, if_pos c_4]), rfl, Cc.rf S⟩ dX1_menu_9
abbrev q_X1_layAsked (G : Gw) (M : Mg) (B : Hp) (S : Ms) (n : Int) : Option Value → Hp → Prop := fun v_ h_ => ∃ T : Ms, v_ = some (iv (bI (f_ask n))) ∧ h_ = mh G M B T ∧ (AK S n T)
set_option maxHeartbeats 4000000 in
theorem c_X1_layAsked (l : Launch) (G : Gw) (M : Mg) (B : Hp) (S : Ms) (n : Int) (hM : MOk M) (hp0 : -2147483648 ≤ n ∧ n ≤ 2147483647) : Mt l G yX1_layAsked cX1_layAsked 6 (some .boolean) 0 [.ref (M.1), iv (n)] (mh G M B S) (q_X1_layAsked G M B S n) (0) (0) := by
  refine Mt.of (lv := [(0, .ref (M.1)), (1, iv (n))]) (by decide) (Nat.le_of_ble_eq_true rfl) rfl (fun X => ?_)
  refine x_iconst dX1_layAsked_0 ?_
  refine x_istore_n (lv' := [(0, _), (1, _), (2, _)]) dX1_layAsked_1 rfl (by decide) ?_
  refine x_iload_n dX1_layAsked_2 rfl ?_
  refine x_istore_n (lv' := [(0, _), (1, _), (2, _), (3, _)]) dX1_layAsked_3 rfl (by decide) ?_
  have L4 : ∀ (n4 : Nat) (z : Nat) (q : Int) (e : Nat), ((e : Int)) < (n4 : Int) → (q < 10 ^ e ∧ q ≤ 2147483647 ∧ -2147483648 ≤ q) → (z + e = 10) → (dlen n = z + dl (e + 1) q) → V G X cX1_layAsked 6 yX1_layAsked (some .boolean) 0 (q_X1_layAsked G M B S n) (0) (0) 4 [(0, .ref (M.1)), (1, iv (n)), (2, iv (z)), (3, iv (q))] [] (mh G M B S) (0) (0) := by
    intro n4
    induction n4 with
    | zero =>
      intro z q e hm hq hz hd
      exact absurd hm (by omega)
    | succ n4 ih4 =>
      intro z q e hm4 hq hz hd
      have he : 0 < q → 0 < e := fun h => by cases e with | zero => (have := hq.1; omega) | succ e => omega
      refine x_iload_n dX1_layAsked_4 rfl ?_
      refine x_if_le 19 dX1_layAsked_5 rfl (by omega) (fun c_5 => ?_) (fun c_5 => ?_)
      · have hdz : dlen n = z := by rw [hd, dl, if_neg (by omega)]; omega
        have hz10 : z ≤ 10 := by omega
        refine x_aload_n dX1_layAsked_19 rfl ?_
        refine x_iload_n dX1_layAsked_20 rfl ?_
        refine m_put_asked hM dX1_layAsked_21 ?_
        have J33 : V G X cX1_layAsked 6 yX1_layAsked (some .boolean) 0 (q_X1_layAsked G M B S n) (0) (0) 33 [(0, .ref (M.1)), (1, iv (n)), (2, iv (z)), (3, iv (q))] [iv (bI (decide (0 ≤ n)))] (mh G M B (sv S 30 z)) (0) (0) := by
          refine x_istore_n (lv' := [(0, _), (1, _), (2, _), (3, _)]) dX1_layAsked_33 rfl (by decide) ?_
          refine x_iload_n dX1_layAsked_34 rfl ?_
          refine x_istore (lv' := [(0, _), (1, _), (2, _), (3, _), (4, _)]) dX1_layAsked_35 rfl (by decide) ?_
          refine x_iload_n dX1_layAsked_37 rfl ?_
          refine x_iconst dX1_layAsked_38 ?_
          refine x_isub dX1_layAsked_39 ?_
          refine x_istore (lv' := [(0, _), (1, _), (2, _), (3, _), (4, _), (5, _)]) dX1_layAsked_40 rfl (by decide) ?_
          have L42 : ∀ (n42 : Nat) (k : Int) (j : Nat) (is : Bool) (T : Ms), (k + 1) < (n42 : Int) → (k = dlen n - 1 - j) → (-1 ≤ k) → (is = (decide (0 ≤ n) && allB (fun j => decide (0 < dq n j.toNat % 10)) j)) → (AKi S n j T) → (0 ≤ k → 0 ≤ n) → V G X cX1_layAsked 6 yX1_layAsked (some .boolean) 0 (q_X1_layAsked G M B S n) (0) (0) 42 [(0, .ref (M.1)), (1, iv (n)), (2, iv (z)), (3, iv (bI (is))), (4, iv (dq n j)), (5, iv (k))] [] (mh G M B T) (0) (0) := by
            intro n42
            induction n42 with
            | zero =>
              intro k j is T hm hk hk1 hi hT hn0
              exact absurd hm (by omega)
            | succ n42 ih42 =>
              intro k j is T hm42 hk hk1 hi hT hn0
              have hle : dlen n ≤ 10 := dlen_le (by omega)
              refine x_iload dX1_layAsked_42 rfl ?_
              refine x_if_lt 92 dX1_layAsked_44 rfl (by omega) (fun c_44 => ?_) (fun c_44 => ?_)
              · refine x_iload_n dX1_layAsked_92 rfl ?_
                exact x_zret rfl (nar_b _) ⟨_, congrArg (fun b => some (iv (bI b))) (by rw [hi, f_ask, show dlen n = j by omega]), rfl, by rw [show j = dlen n by omega] at hT; exact hT⟩ dX1_layAsked_93
              · have hR := dq_R (n := n) ⟨hn0 (by omega), by omega⟩ j
                refine x_aload_n dX1_layAsked_47 rfl ?_
                refine m_get_askedAt hM dX1_layAsked_48 ?_
                refine x_iload dX1_layAsked_51 rfl ?_
                refine x_iload dX1_layAsked_53 rfl ?_
                refine x_bipush dX1_layAsked_55 ?_
                refine x_irem dX1_layAsked_57 (by omega) (by decide) ?_
                refine m_ast hM (N := 10) rfl (by omega) (by decide) dX1_layAsked_58 ?_
                refine x_iload dX1_layAsked_59 rfl ?_
                refine x_bipush dX1_layAsked_61 ?_
                refine x_idiv dX1_layAsked_63 (by omega) (by decide) ?_
                refine x_istore (lv' := [(0, _), (1, _), (2, _), (3, _), (4, _), (5, _)]) dX1_layAsked_64 rfl (by decide) ?_
                have J85 : V G X cX1_layAsked 6 yX1_layAsked (some .boolean) 0 (q_X1_layAsked G M B S n) (0) (0) 85 [(0, .ref (M.1)), (1, iv (n)), (2, iv (z)), (3, iv (bI (is))), (4, iv ((dq n j) / 10)), (5, iv (k))] [iv (bI (is && decide (0 < dq n (j : Int).toNat % 10)))] (mh G M B (sa T 31 k ((dq n j) % 10))) (0) (0) := by
                  refine x_istore_n (lv' := [(0, _), (1, _), (2, _), (3, _), (4, _), (5, _)]) dX1_layAsked_85 rfl (by decide) ?_
                  refine x_iinc (lv' := [(0, _), (1, _), (2, _), (3, _), (4, _), (5, _)]) dX1_layAsked_86 rfl rfl (by decide) ?_
                  refine x_goto 42 dX1_layAsked_89 rfl ?_
                  exact ih42 (k + -1) (j + 1) (_) (_) (by omega) (by omega) (by omega) (by rw [hi, allB, Bool.and_assoc] <;> rfl) (hT.step hk) (fun h => hn0 (by omega))
                refine x_iload_n dX1_layAsked_66 rfl ?_
                refine x_ifb_eq 84 dX1_layAsked_67 rfl (fun c_67 => ?_) (fun c_67 => ?_)
                · refine x_iconst dX1_layAsked_84 ?_
                  exact x_jf (by first | (simp_all; done) | (simp; omega) | (simp_all; omega)) J85
                · refine x_aload_n dX1_layAsked_70 rfl ?_
                  refine m_get_askedAt hM dX1_layAsked_71 ?_
                  refine x_iload dX1_layAsked_74 rfl ?_
                  refine m_ald hM (N := 10) rfl (by omega) (by decide) dX1_layAsked_76 ?_
                  refine x_ji (show (sa T 31 k ((dq n j) % 10)).2 31 k = dq n j % 10 from sa_s _ _ _ _) ?_
                  refine x_if_le 84 dX1_layAsked_77 rfl (by omega) (fun c_77 => ?_) (fun c_77 => ?_)
                  · refine x_iconst dX1_layAsked_84 ?_
                    exact x_jf (by first | (simp_all; done) | (simp; omega) | (simp_all; omega)) J85
                  · refine x_iconst dX1_layAsked_80 ?_
                    refine x_goto 85 dX1_layAsked_81 rfl ?_
                    exact x_jt (by first | (simp_all; done) | (simp; omega) | (simp_all; omega)) J85
          exact L42 (12) (_) (0) (_) (_) (by omega) (by rw [hdz]; omega) (by omega) (by simp [allB]) (⟨fun k hk => sv_n hk, (sv_s _ _ _).trans (by rw [hdz]), fun _ _ => rfl, fun j hj => absurd hj (Nat.not_lt_zero _)⟩) (fun h9 => Int.not_lt.mp fun h => by have h6 : dlen n = 0 := (by unfold dlen; rw [dl, if_neg (by omega)]); omega)
        refine x_iload_n dX1_layAsked_24 rfl ?_
        refine x_if_lt 32 dX1_layAsked_25 rfl (by omega) (fun c_25 => ?_) (fun c_25 => ?_)
        · refine x_iconst dX1_layAsked_32 ?_
          exact x_jf (by first | (simp_all; done) | (simp; omega) | (simp_all; omega)) J33
        · refine x_iconst dX1_layAsked_28 ?_
          refine x_goto 33 dX1_layAsked_29 rfl ?_
          exact x_jt (by first | (simp_all; done) | (simp; omega) | (simp_all; omega)) J33
      · refine x_iinc (lv' := [(0, _), (1, _), (2, _), (3, _)]) dX1_layAsked_8 rfl rfl (by decide) ?_
        refine x_iload_n dX1_layAsked_11 rfl ?_
        refine x_bipush dX1_layAsked_12 ?_
        refine x_idiv dX1_layAsked_14 (by omega) (by decide) ?_
        refine x_istore_n (lv' := [(0, _), (1, _), (2, _), (3, _)]) dX1_layAsked_15 rfl (by decide) ?_
        refine x_goto 4 dX1_layAsked_16 rfl ?_
        exact ih4 (z + 1) (q / 10) (e - 1) (by omega) (by refine ⟨?_, by omega, by omega⟩; obtain ⟨e0, rfl⟩ : ∃ e0, e = e0 + 1 := ⟨e - 1, by omega⟩; rw [Int.pow_succ] at hq; show q / 10 < 10 ^ e0; omega) (by omega) (by rw [hd, dl, if_pos (by omega), show e - 1 + 1 = e by omega]; omega)
  exact L4 (11) (0) (n) (10) (by decide) (by omega) (rfl) (by show dl 11 n = 0 + dl 11 n; omega)
theorem k_X1_layAsked {G : Gw} {X : Cx} {cc : ByteArray} {nL : Nat} {y : MethodName} {ret : Option FieldType} {dp : Nat} {P : Option Value → Hp → Prop} {mc ms pc : Nat} {lv : List (Nat × Value)} {st : List Value} {kc ks : Nat} {M : Mg} {B : Hp} {S : Ms} {n : Int} (hM : MOk M) (hd : decode cc pc = .ok (.invokevirtual 274, 3)) (hp0 : -2147483648 ≤ n ∧ n ≤ 2147483647) (kk : ∀ T : Ms, (AK S n T) → V G X cc nL y ret dp P mc ms (pc + 3) lv (iv (bI (f_ask n)) :: st) (mh G M B T) kc ks) (hy : y.cls = RX1 := by rfl) (hdp : 0 + 1 ≤ dp := by decide) (hrs : (st.map fun v => v.category).sum ≤ 8 := by first | decide | (simp [Value.category, iv, jv]; done)) : V G X cc nL y ret dp P mc ms pc lv (iv (n) :: .ref M.1 :: st) (mh G M B S) kc ks := by
  refine x_callV (ci := 1) (T := TX1) (N := 33) (As := [iv (n)]) 1 (fun l => c_X1_layAsked l G M B S n hM hp0) (by rw [hy]; exact q3225) q3227 qs124 q173 q3228 (by decide +kernel) hdp (by decide) (mh_o hM) rfl rfl rfl hrs hd (Nat.zero_le _) (Nat.zero_le _) (fun v h hv => ?_)
  obtain ⟨T, rfl, rfl, hv⟩ := hv
  exact kk T hv
abbrev q_X1_isLed (G : Gw) (M : Mg) (B : Hp) (S : Ms) (a : Int) : Option Value → Hp → Prop := fun v_ h_ => v_ = some (iv (bI (f_led S a))) ∧ h_ = mh G M B (S)
set_option maxHeartbeats 4000000 in
theorem c_X1_isLed (l : Launch) (G : Gw) (M : Mg) (B : Hp) (S : Ms) (a : Int) (hM : MOk M) (hp0 : Wm S) (hp1 : 0 ≤ a ∧ a < 14) (hp2 : 0 ≤ S.1 30 ∧ S.1 30 ≤ 10) (hp3 : ∀ i : Int, 0 ≤ i → i < S.1 30 → 0 ≤ S.2 31 i ∧ S.2 31 i ≤ 9) : Mt l G yX1_isLed cX1_isLed 4 (some .boolean) 0 [.ref (M.1), iv (a)] (mh G M B S) (q_X1_isLed G M B S a) (0) (0) := by
  refine Mt.of (lv := [(0, .ref (M.1)), (1, iv (a))]) (by decide) (Nat.le_of_ble_eq_true rfl) rfl (fun X => ?_)
  have h1 := hp0.2.1 a hp1.1 hp1.2
  have J18 : V G X cX1_isLed 4 yX1_isLed (some .boolean) 0 (q_X1_isLed G M B S a) (0) (0) 18 [(0, .ref (M.1)), (1, iv (a))] [iv (bI (decide (S.1 30 ≤ S.2 13 a)))] (mh G M B S) (0) (0) := by
    refine x_istore_n (lv' := [(0, _), (1, _), (2, _)]) dX1_isLed_18 rfl (by decide) ?_
    refine x_iconst dX1_isLed_19 ?_
    refine x_istore_n (lv' := [(0, _), (1, _), (2, _), (3, _)]) dX1_isLed_20 rfl (by decide) ?_
    have L21 : ∀ (n21 : Nat) (k : Nat) (is : Bool), (S.1 30 - k) < (n21 : Int) → ((k : Int) ≤ S.1 30) → (is = (decide (S.1 30 ≤ S.2 13 a) && allB (fun i => decide (S.2 14 (14 * a + i) = S.2 31 i)) k)) → V G X cX1_isLed 4 yX1_isLed (some .boolean) 0 (q_X1_isLed G M B S a) (0) (0) 21 [(0, .ref (M.1)), (1, iv (a)), (2, iv (bI (is))), (3, iv (k))] [] (mh G M B S) (0) (0) := by
      intro n21
      induction n21 with
      | zero =>
        intro k is hm hk hi
        exact absurd hm (by omega)
      | succ n21 ih21 =>
        intro k is hm21 hk hi
        refine x_iload_n dX1_isLed_21 rfl ?_
        refine x_aload_n dX1_isLed_22 rfl ?_
        refine m_get_asked hM dX1_isLed_23 ?_
        refine x_icmp_ge 65 dX1_isLed_26 rfl (by omega) (by omega) (fun c_26 => ?_) (fun c_26 => ?_)
        · refine x_iload_n dX1_isLed_65 rfl ?_
          exact x_zret rfl (nar_b _) ⟨congrArg (fun b => some (iv (bI b))) (by rw [hi, f_led]; congr 2; omega), rfl⟩ dX1_isLed_66
        · refine x_iload_n dX1_isLed_29 rfl ?_
          refine x_ifb_eq 65 dX1_isLed_30 rfl (fun c_30 => ?_) (fun c_30 => ?_)
          · refine x_iload_n dX1_isLed_65 rfl ?_
            exact x_zret rfl (nar_b _) ⟨congrArg (fun b => some (iv (bI b))) (by rw [c_30] at hi; rw [c_30, f_led]; cases h9 : decide (S.1 30 ≤ S.2 13 a) with | false => rfl | true => (rw [h9, Bool.true_and] at hi; rw [allB_f k (by omega) hi.symm]; rfl)), rfl⟩ dX1_isLed_66
          · have J58 : V G X cX1_isLed 4 yX1_isLed (some .boolean) 0 (q_X1_isLed G M B S a) (0) (0) 58 [(0, .ref (M.1)), (1, iv (a)), (2, iv (bI (is))), (3, iv (k))] [iv (bI (decide (S.2 14 (14 * a + k) = S.2 31 k)))] (mh G M B S) (0) (0) := by
              refine x_istore_n (lv' := [(0, _), (1, _), (2, _), (3, _)]) dX1_isLed_58 rfl (by decide) ?_
              refine x_iinc (lv' := [(0, _), (1, _), (2, _), (3, _)]) dX1_isLed_59 rfl rfl (by decide) ?_
              refine x_goto 21 dX1_isLed_62 rfl ?_
              exact ih21 (k + 1) (_) (by omega) (by omega) (by rw [c_30] at hi; have hi := hi.symm; rw [Bool.and_eq_true] at hi; rw [allB, hi.1, hi.2]; rfl)
            refine x_aload_n dX1_isLed_33 rfl ?_
            refine m_get_steps hM dX1_isLed_34 ?_
            refine x_bipush dX1_isLed_37 ?_
            refine x_iload_n dX1_isLed_39 rfl ?_
            refine x_imul dX1_isLed_40 ?_
            refine x_iload_n dX1_isLed_41 rfl ?_
            refine x_iadd dX1_isLed_42 ?_
            refine m_ald hM (N := 196) rfl (by omega) (by decide) dX1_isLed_43 ?_
            refine x_aload_n dX1_isLed_44 rfl ?_
            refine m_get_askedAt hM dX1_isLed_45 ?_
            refine x_iload_n dX1_isLed_48 rfl ?_
            refine m_ald hM (N := 10) rfl (by omega) (by decide) dX1_isLed_49 ?_
            refine x_icmp_ne 57 dX1_isLed_50 rfl (by have := hp0.2.2 (14 * a + k) (by omega) (by omega); omega) (by have := hp3 k (by omega) (by omega); omega) (fun c_50 => ?_) (fun c_50 => ?_)
            · refine x_iconst dX1_isLed_57 ?_
              exact x_jf (by first | (simp_all; done) | (simp; omega) | (simp_all; omega)) J58
            · refine x_iconst dX1_isLed_53 ?_
              refine x_goto 58 dX1_isLed_54 rfl ?_
              exact x_jt (by first | (simp_all; done) | (simp; omega) | (simp_all; omega)) J58
    exact L21 ((S.1 30).toNat + 1) (0) (_) (by omega) (by omega) (by simp [allB])
  refine x_aload_n dX1_isLed_0 rfl ?_
  refine m_get_asked hM dX1_isLed_1 ?_
  refine x_aload_n dX1_isLed_4 rfl ?_
  refine m_get_pathLength hM dX1_isLed_5 ?_
  refine x_iload_n dX1_isLed_8 rfl ?_
  refine m_ald hM (N := 14) rfl (by omega) (by decide) dX1_isLed_9 ?_
  refine x_icmp_gt 17 dX1_isLed_10 rfl (by omega) (by omega) (fun c_10 => ?_) (fun c_10 => ?_)
  · refine x_iconst dX1_isLed_17 ?_
    exact x_jf (by first | (simp_all; done) | (simp; omega) | (simp_all; omega)) J18
  · refine x_iconst dX1_isLed_13 ?_
    refine x_goto 18 dX1_isLed_14 rfl ?_
    exact x_jt (by first | (simp_all; done) | (simp; omega) | (simp_all; omega)) J18
theorem k_X1_isLed {G : Gw} {X : Cx} {cc : ByteArray} {nL : Nat} {y : MethodName} {ret : Option FieldType} {dp : Nat} {P : Option Value → Hp → Prop} {mc ms pc : Nat} {lv : List (Nat × Value)} {st : List Value} {kc ks : Nat} {M : Mg} {B : Hp} {S : Ms} {a : Int} (hM : MOk M) (hd : decode cc pc = .ok (.invokevirtual 277, 3)) (hp0 : Wm S) (hp1 : 0 ≤ a ∧ a < 14) (hp2 : 0 ≤ S.1 30 ∧ S.1 30 ≤ 10) (hp3 : ∀ i : Int, 0 ≤ i → i < S.1 30 → 0 ≤ S.2 31 i ∧ S.2 31 i ≤ 9) (kk : V G X cc nL y ret dp P mc ms (pc + 3) lv (iv (bI (f_led S a)) :: st) (mh G M B (S)) kc ks) (hy : y.cls = RX1 := by rfl) (hdp : 0 + 1 ≤ dp := by decide) (hrs : (st.map fun v => v.category).sum ≤ 8 := by first | decide | (simp [Value.category, iv, jv]; done)) : V G X cc nL y ret dp P mc ms pc lv (iv (a) :: .ref M.1 :: st) (mh G M B S) kc ks := by
  refine x_callV (ci := 1) (T := TX1) (N := 33) (As := [iv (a)]) 1 (fun l => c_X1_isLed l G M B S a hM hp0 hp1 hp2 hp3) (by rw [hy]; exact q3229) q3231 qs125 q173 q3232 (by decide +kernel) hdp (by decide) (mh_o hM) rfl rfl rfl hrs hd (Nat.zero_le _) (Nat.zero_le _) (fun v h hv => ?_)
  obtain ⟨rfl, rfl⟩ := hv
  exact kk
abbrev q_X1_leads (G : Gw) (M : Mg) (B : Hp) (S : Ms) (n : Int) : Option Value → Hp → Prop := fun v_ h_ => ∃ T : Ms, v_ = some (iv (f_leads S n)) ∧ h_ = mh G M B T ∧ (Cb S T)
set_option maxHeartbeats 4000000 in
theorem c_X1_leads (l : Launch) (G : Gw) (M : Mg) (B : Hp) (S : Ms) (n : Int) (hM : MOk M) (hp0 : Wf S) (hp1 : Wm S) (hp2 : -2147483648 ≤ n ∧ n ≤ 2147483647) : Mt l G yX1_leads cX1_leads 5 (some .int) 1 [.ref (M.1), iv (n)] (mh G M B S) (q_X1_leads G M B S n) (0) (0) := by
  refine Mt.of (lv := [(0, .ref (M.1)), (1, iv (n))]) (by decide) (Nat.le_of_ble_eq_true rfl) rfl (fun X => ?_)
  have h2 := hp0.nm
  refine x_aload_n dX1_leads_0 rfl ?_
  refine m_get_width hM dX1_leads_1 ?_
  refine x_if_ne 10 dX1_leads_4 rfl (by have := hp1.1; omega) (fun c_4 => ?_) (fun c_4 => ?_)
  · refine x_aload_n dX1_leads_10 rfl ?_
    refine x_iload_n dX1_leads_11 rfl ?_
    refine k_X1_layAsked (n := n) hM dX1_leads_12 (hp2) (fun T12_1 rT12_1 => ?_)
    have hA := rT12_1
    have eN : (T12_1).1 2 = S.1 2 := hA.1 2 (by decide)
    refine x_ifb_ne 21 dX1_leads_15 rfl (fun c_15 => ?_) (fun c_15 => ?_)
    · refine x_iconst dX1_leads_21 ?_
      refine x_istore_n (lv' := [(0, _), (1, _), (2, _)]) dX1_leads_22 rfl (by decide) ?_
      refine x_iconst dX1_leads_23 ?_
      refine x_istore_n (lv' := [(0, _), (1, _), (2, _), (3, _)]) dX1_leads_24 rfl (by decide) ?_
      refine x_iconst dX1_leads_25 ?_
      refine x_istore (lv' := [(0, _), (1, _), (2, _), (3, _), (4, _)]) dX1_leads_26 rfl (by decide) ?_
      have L28 : ∀ (n28 : Nat) (k : Nat), (S.1 2 - k) < (n28 : Int) → ((k : Int) ≤ S.1 2) → V G X cX1_leads 5 yX1_leads (some .int) 1 (q_X1_leads G M B S n) (0) (0) 28 [(0, .ref (M.1)), (1, iv (n)), (2, iv (cntB (fun k => g_led S n k) k)), (3, iv (lastB (fun k => g_led S n k) k)), (4, iv (k))] [] (mh G M B T12_1) (0) (0) := by
        intro n28
        induction n28 with
        | zero =>
          intro k hm hk
          exact absurd hm (by omega)
        | succ n28 ih28 =>
          intro k hm28 hk
          refine x_iload dX1_leads_28 rfl ?_
          refine x_aload_n dX1_leads_30 rfl ?_
          refine m_get_names hM dX1_leads_31 ?_
          refine x_icmp_ge 76 dX1_leads_34 rfl (by omega) (by rw [eN]; omega) (fun c_34 => ?_) (fun c_34 => ?_)
          · rw [eN] at c_34
            have eK : (S.1 2).toNat = k := by omega
            refine x_iload_n dX1_leads_76 rfl ?_
            refine x_if_ne 85 dX1_leads_77 rfl (by have := cntB_R (p := fun k => g_led S n k) (n := k); omega) (fun c_77 => ?_) (fun c_77 => ?_)
            · refine x_iload_n dX1_leads_85 rfl ?_
              refine x_iconst dX1_leads_86 ?_
              refine x_icmp_ne 94 dX1_leads_87 rfl (by have := cntB_R (p := fun k => g_led S n k) (n := k); omega) (by omega) (fun c_87 => ?_) (fun c_87 => ?_)
              · refine x_iconst dX1_leads_94 ?_
                exact x_iret rfl ⟨_, ri (by rw [f_leads, if_neg c_4, if_pos c_15, eK, if_neg c_77, if_neg c_87]), rfl, AK.cb hA⟩ dX1_leads_95
              · refine x_iload_n dX1_leads_90 rfl ?_
                refine x_goto 95 dX1_leads_91 rfl ?_
                exact x_iret rfl ⟨_, ri (by rw [f_leads, if_neg c_4, if_pos c_15, eK, if_neg c_77, if_pos c_87]), rfl, AK.cb hA⟩ dX1_leads_95
            · refine x_bipush dX1_leads_80 ?_
              refine x_goto 95 dX1_leads_82 rfl ?_
              exact x_iret rfl ⟨_, ri (by rw [f_leads, if_neg c_4, if_pos c_15, eK, if_pos c_77]), rfl, AK.cb hA⟩ dX1_leads_95
          · rw [eN] at c_34
            refine x_iload_n dX1_leads_37 rfl ?_
            have J52 : V G X cX1_leads 5 yX1_leads (some .int) 1 (q_X1_leads G M B S n) (0) (0) 52 [(0, .ref (M.1)), (1, iv (n)), (2, iv (cntB (fun k => g_led S n k) k)), (3, iv (lastB (fun k => g_led S n k) k)), (4, iv (k))] [iv (bI (g_led S n k)), iv (cntB (fun k => g_led S n k) k)] (mh G M B T12_1) (0) (0) := by
              refine x_iadd dX1_leads_52 ?_
              refine x_istore_n (lv' := [(0, _), (1, _), (2, _), (3, _), (4, _)]) dX1_leads_53 rfl (by decide) ?_
              have J69 : V G X cX1_leads 5 yX1_leads (some .int) 1 (q_X1_leads G M B S n) (0) (0) 69 [(0, .ref (M.1)), (1, iv (n)), (2, iv ((cntB (fun k => g_led S n k) k) + (bI (g_led S n k)))), (3, iv (lastB (fun k => g_led S n k) k)), (4, iv (k))] [iv (lastB (fun k => g_led S n k) (k + 1))] (mh G M B T12_1) (0) (0) := by
                refine x_istore_n (lv' := [(0, _), (1, _), (2, _), (3, _), (4, _)]) dX1_leads_69 rfl (by decide) ?_
                refine x_iinc (lv' := [(0, _), (1, _), (2, _), (3, _), (4, _)]) dX1_leads_70 rfl rfl (by decide) ?_
                refine x_goto 28 dX1_leads_73 rfl ?_
                exact ih28 (k + 1) (by omega) (by omega)
              refine x_aload_n dX1_leads_54 rfl ?_
              refine x_iload dX1_leads_55 rfl ?_
              refine k_X1_isLed (a := k) hM dX1_leads_57 (hp1.cs hA.cs) (by omega) (by rw [hA.2.1]; have := dlen_le (n := n) (by omega); omega) (fun i i0 i1 => by rw [hA.2.1] at i1; have h7 := hA.2.2.2 (dlen n - 1 - i.toNat) (by omega); rw [show ((dlen n : Nat) : Int) - 1 - ((dlen n - 1 - i.toNat : Nat) : Int) = i by omega] at h7; rw [h7]; omega) ?_
              refine x_jb (show (f_led T12_1 k) = (g_led S n k) from by rw [hA.led]) ?_
              refine x_ifb_eq 68 dX1_leads_60 rfl (fun c_60 => ?_) (fun c_60 => ?_)
              · refine x_iload_n dX1_leads_68 rfl ?_
                exact x_ji (by rw [lastB, if_neg (bf c_60)]) J69
              · refine x_iload dX1_leads_63 rfl ?_
                refine x_goto 69 dX1_leads_65 rfl ?_
                exact x_ji (by rw [lastB, if_pos c_60]) J69
            refine x_aload_n dX1_leads_38 rfl ?_
            refine x_iload dX1_leads_39 rfl ?_
            refine k_X1_isLed (a := k) hM dX1_leads_41 (hp1.cs hA.cs) (by omega) (by rw [hA.2.1]; have := dlen_le (n := n) (by omega); omega) (fun i i0 i1 => by rw [hA.2.1] at i1; have h7 := hA.2.2.2 (dlen n - 1 - i.toNat) (by omega); rw [show ((dlen n : Nat) : Int) - 1 - ((dlen n - 1 - i.toNat : Nat) : Int) = i by omega] at h7; rw [h7]; omega) ?_
            refine x_jb (show (f_led T12_1 k) = (g_led S n k) from by rw [hA.led]) ?_
            refine x_ifb_eq 51 dX1_leads_44 rfl (fun c_44 => ?_) (fun c_44 => ?_)
            · refine x_iconst dX1_leads_51 ?_
              exact x_ji (by simp [c_44, bI]) J52
            · refine x_iconst dX1_leads_47 ?_
              refine x_goto 52 dX1_leads_48 rfl ?_
              exact x_ji (by simp [c_44, bI]) J52
      exact L28 ((S.1 2).toNat + 1) (0) (by omega) (by omega)
    · refine x_bipush dX1_leads_18 ?_
      exact x_iret rfl ⟨_, ri (by rw [f_leads, if_neg c_4, if_neg (bf c_15)]), rfl, AK.cb hA⟩ dX1_leads_20
  · refine x_bipush dX1_leads_7 ?_
    exact x_iret rfl ⟨_, ri (by rw [f_leads, if_pos c_4]), rfl, Cb.rf S⟩ dX1_leads_9
