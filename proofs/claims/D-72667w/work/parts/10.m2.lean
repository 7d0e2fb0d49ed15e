/-! MODEL 2: names are told -/
set_option maxRecDepth 100000
abbrev q_X1_telling (G : Gw) (M : Mg) (B : Hp) (S : Ms) (a : Int) : Option Value → Hp → Prop := fun v_ h_ => v_ = some (iv (f_telling S a)) ∧ h_ = mh G M B (S)
set_option maxHeartbeats 4000000 in
theorem c_X1_telling (l : Launch) (G : Gw) (M : Mg) (B : Hp) (S : Ms) (a : Int) (hM : MOk M) (hp0 : Wf S) (hp1 : 0 ≤ a ∧ a < S.1 2) : Mt l G yX1_telling cX1_telling 5 (some .int) 2 [.ref (M.1), iv (a)] (mh G M B S) (q_X1_telling G M B S a) (0) (0) := by
  refine Mt.of (lv := [(0, .ref (M.1)), (1, iv (a))]) (by decide) (Nat.le_of_ble_eq_true rfl) rfl (fun X => ?_)
  have h2 := hp0.nm
  have h3 := hp0.len hp1
  refine x_iconst dX1_telling_0 ?_
  refine x_istore_n (lv' := [(0, _), (1, _), (2, _)]) dX1_telling_1 rfl (by decide) ?_
  have L2 : ∀ (n2 : Nat) (m : Nat), (S.2 3 a + 1 - m) < (n2 : Int) → (m : Int) ≤ S.2 3 a + 1 → f_telling S a = firstB (fun m => f_alone S a m) (-1) (S.2 3 a + 1 - m).toNat m → V G X cX1_telling 5 yX1_telling (some .int) 2 (q_X1_telling G M B S a) (0) (0) 2 [(0, .ref (M.1)), (1, iv (a)), (2, iv (m))] [] (mh G M B S) (0) (0) := by
    intro n2
    induction n2 with
    | zero =>
      intro m hm hm hf
      exact absurd hm (by omega)
    | succ n2 ih2 =>
      intro m hm2 hm hf
      refine x_iload_n dX1_telling_2 rfl ?_
      refine x_aload_n dX1_telling_3 rfl ?_
      refine m_get_length hM dX1_telling_4 ?_
      refine x_iload_n dX1_telling_7 rfl ?_
      refine m_ald hM (N := 14) rfl (by omega) (by decide) dX1_telling_8 ?_
      refine x_icmp_gt 71 dX1_telling_9 rfl (by omega) (by omega) (fun c_9 => ?_) (fun c_9 => ?_)
      · refine x_iconst dX1_telling_71 ?_
        exact x_iret rfl ⟨ri (by rw [hf, show (S.2 3 a + 1 - (m : Int)).toNat = 0 by omega]; rfl), rfl⟩ dX1_telling_72
      · refine x_iconst dX1_telling_12 ?_
        refine x_istore_n (lv' := [(0, _), (1, _), (2, _), (3, _)]) dX1_telling_13 rfl (by decide) ?_
        refine x_iconst dX1_telling_14 ?_
        refine x_istore (lv' := [(0, _), (1, _), (2, _), (3, _), (4, _)]) dX1_telling_15 rfl (by decide) ?_
        have L17 : ∀ (n17 : Nat) (k : Nat) (is : Bool), (S.1 2 - k) < (n17 : Int) → (k : Int) ≤ S.1 2 → is = allB (fun k => decide (k = a) || !f_begins S a m k) k → V G X cX1_telling 5 yX1_telling (some .int) 2 (q_X1_telling G M B S a) (0) (0) 17 [(0, .ref (M.1)), (1, iv (a)), (2, iv (m)), (3, iv (bI (is))), (4, iv (k))] [] (mh G M B S) (0) (0) := by
          intro n17
          induction n17 with
          | zero =>
            intro k is hm hk hi
            exact absurd hm (by omega)
          | succ n17 ih17 =>
            intro k is hm17 hk hi
            refine x_iload dX1_telling_17 rfl ?_
            refine x_aload_n dX1_telling_19 rfl ?_
            refine m_get_names hM dX1_telling_20 ?_
            refine x_icmp_ge 59 dX1_telling_23 rfl (by omega) (by omega) (fun c_23 => ?_) (fun c_23 => ?_)
            · refine x_iload_n dX1_telling_59 rfl ?_
              refine x_ifb_eq 65 dX1_telling_60 rfl (fun c_60 => ?_) (fun c_60 => ?_)
              · refine x_iinc (lv' := [(0, _), (1, _), (2, _), (3, _), (4, _)]) dX1_telling_65 rfl rfl (by decide) ?_
                refine x_goto 2 dX1_telling_68 rfl ?_
                refine x_lvp [0, 1, 2] (lv' := [(0, _), (1, _), (2, _)]) rfl ?_
                exact ih2 (m + 1) (by omega) (by omega) (by rw [hf, firstB_s (by rw [hi] at c_60; unfold f_alone; rw [show (S.1 2).toNat = k by omega]; exact c_60) (by omega)]; congr 1; omega)
              · refine x_iload_n dX1_telling_63 rfl ?_
                exact x_iret rfl ⟨ri (by rw [hf, firstB_t (by rw [hi] at c_60; unfold f_alone; rw [show (S.1 2).toNat = k by omega]; exact c_60) (by omega)]), rfl⟩ dX1_telling_64
            · have J52 : V G X cX1_telling 5 yX1_telling (some .int) 2 (q_X1_telling G M B S a) (0) (0) 52 [(0, .ref (M.1)), (1, iv (a)), (2, iv (m)), (3, iv (bI (is))), (4, iv (k))] [iv (bI (is && (decide ((k : Int) = a) || !f_begins S a m k)))] (mh G M B S) (0) (0) := by
                refine x_istore_n (lv' := [(0, _), (1, _), (2, _), (3, _), (4, _)]) dX1_telling_52 rfl (by decide) ?_
                refine x_iinc (lv' := [(0, _), (1, _), (2, _), (3, _), (4, _)]) dX1_telling_53 rfl rfl (by decide) ?_
                refine x_goto 17 dX1_telling_56 rfl ?_
                exact ih17 (k + 1) (_) (by omega) (by omega) (by rw [hi, allB])
              refine x_iload_n dX1_telling_26 rfl ?_
              refine x_ifb_eq 51 dX1_telling_27 rfl (fun c_27 => ?_) (fun c_27 => ?_)
              · refine x_iconst dX1_telling_51 ?_
                exact x_jf (by first | (simp_all; done) | (simp; omega) | (simp_all; omega)) J52
              · refine x_iload dX1_telling_30 rfl ?_
                refine x_iload_n dX1_telling_32 rfl ?_
                refine x_icmp_eq 47 dX1_telling_33 rfl (by omega) (by omega) (fun c_33 => ?_) (fun c_33 => ?_)
                · refine x_iconst dX1_telling_47 ?_
                  refine x_goto 52 dX1_telling_48 rfl ?_
                  exact x_jt (by first | (simp_all; done) | (simp; omega) | (simp_all; omega)) J52
                · refine x_aload_n dX1_telling_36 rfl ?_
                  refine x_iload_n dX1_telling_37 rfl ?_
                  refine x_iload_n dX1_telling_38 rfl ?_
                  refine x_iload dX1_telling_39 rfl ?_
                  refine k_X1_begins (a := a) (m := m) (b := k) hM dX1_telling_41 (hp0) (hp1) (by omega) (by omega) ?_
                  refine x_ifb_ne 51 dX1_telling_44 rfl (fun c_44 => ?_) (fun c_44 => ?_)
                  · refine x_iconst dX1_telling_51 ?_
                    exact x_jf (by first | (simp_all; done) | (simp; omega) | (simp_all; omega)) J52
                  · refine x_iconst dX1_telling_47 ?_
                    refine x_goto 52 dX1_telling_48 rfl ?_
                    exact x_jt (by first | (simp_all; done) | (simp; omega) | (simp_all; omega)) J52
        exact L17 ((S.1 2).toNat + 1) (0) (true) (by omega) (by omega) (rfl)
  exact L2 ((S.2 3 a + 1).toNat + 1) (0) (by omega) (by omega) (by simp [f_telling])
theorem k_X1_telling {G : Gw} {X : Cx} {cc : ByteArray} {nL : Nat} {y : MethodName} {ret : Option FieldType} {dp : Nat} {P : Option Value → Hp → Prop} {mc ms pc : Nat} {lv : List (Nat × Value)} {st : List Value} {kc ks : Nat} {M : Mg} {B : Hp} {S : Ms} {a : Int} (hM : MOk M) (hd : decode cc pc = .ok (.invokevirtual 166, 3)) (hp0 : Wf S) (hp1 : 0 ≤ a ∧ a < S.1 2) (kk : V G X cc nL y ret dp P mc ms (pc + 3) lv (iv (f_telling S a) :: st) (mh G M B (S)) kc ks) (hy : y.cls = RX1 := by rfl) (hdp : 2 + 1 ≤ dp := by decide) (hrs : (st.map fun v => v.category).sum ≤ 8 := by first | decide | (simp [Value.category, iv, jv]; done)) : V G X cc nL y ret dp P mc ms pc lv (iv (a) :: .ref M.1 :: st) (mh G M B S) kc ks := by
  refine x_callV (ci := 1) (T := TX1) (N := 33) (As := [iv (a)]) 1 (fun l => c_X1_telling l G M B S a hM hp0 hp1) (by rw [hy]; exact q3031) q3033 qs91 q173 q3034 (by decide +kernel) hdp (by decide) (mh_o hM) rfl rfl rfl hrs hd (Nat.zero_le _) (Nat.zero_le _) (fun v h hv => ?_)
  obtain ⟨rfl, rfl⟩ := hv
  exact kk
abbrev q_X1_isAhead (G : Gw) (M : Mg) (B : Hp) (S : Ms) (a : Int) (b : Int) : Option Value → Hp → Prop := fun v_ h_ => v_ = some (iv (bI (f_ahead S a b))) ∧ h_ = mh G M B (S)
set_option maxHeartbeats 4000000 in
theorem c_X1_isAhead (l : Launch) (G : Gw) (M : Mg) (B : Hp) (S : Ms) (a : Int) (b : Int) (hM : MOk M) (hp0 : Wf S) (hp1 : 0 ≤ a ∧ a < S.1 2) (hp2 : 0 ≤ b ∧ b < S.1 2) : Mt l G yX1_isAhead cX1_isAhead 3 (some .boolean) 0 [.ref (M.1), iv (a), iv (b)] (mh G M B S) (q_X1_isAhead G M B S a b) (0) (0) := by
  refine Mt.of (lv := [(0, .ref (M.1)), (1, iv (a)), (2, iv (b))]) (by decide) (Nat.le_of_ble_eq_true rfl) rfl (fun X => ?_)
  have h2 := hp0.nm
  have h3 := hp0.use hp1
  have h4 := hp0.use hp2
  refine x_aload_n dX1_isAhead_0 rfl ?_
  refine m_get_uses hM dX1_isAhead_1 ?_
  refine x_iload_n dX1_isAhead_4 rfl ?_
  refine m_ald hM (N := 14) rfl (by omega) (by decide) dX1_isAhead_5 ?_
  refine x_aload_n dX1_isAhead_6 rfl ?_
  refine m_get_uses hM dX1_isAhead_7 ?_
  refine x_iload_n dX1_isAhead_10 rfl ?_
  refine m_ald hM (N := 14) rfl (by omega) (by decide) dX1_isAhead_11 ?_
  refine x_icmp_gt 35 dX1_isAhead_12 rfl (by omega) (by omega) (fun c_12 => ?_) (fun c_12 => ?_)
  · refine x_iconst dX1_isAhead_35 ?_
    refine x_goto 40 dX1_isAhead_36 rfl ?_
    exact x_zret rfl (by decide) ⟨rb1 (by unfold f_ahead; first | (simp_all; done) | (simp; omega) | (simp_all; omega)), rfl⟩ dX1_isAhead_40
  · refine x_aload_n dX1_isAhead_15 rfl ?_
    refine m_get_uses hM dX1_isAhead_16 ?_
    refine x_iload_n dX1_isAhead_19 rfl ?_
    refine m_ald hM (N := 14) rfl (by omega) (by decide) dX1_isAhead_20 ?_
    refine x_aload_n dX1_isAhead_21 rfl ?_
    refine m_get_uses hM dX1_isAhead_22 ?_
    refine x_iload_n dX1_isAhead_25 rfl ?_
    refine m_ald hM (N := 14) rfl (by omega) (by decide) dX1_isAhead_26 ?_
    refine x_icmp_ne 39 dX1_isAhead_27 rfl (by omega) (by omega) (fun c_27 => ?_) (fun c_27 => ?_)
    · refine x_iconst dX1_isAhead_39 ?_
      exact x_zret rfl (by decide) ⟨rb0 (by unfold f_ahead; first | (simp_all; done) | (simp; omega) | (simp_all; omega)), rfl⟩ dX1_isAhead_40
    · refine x_iload_n dX1_isAhead_30 rfl ?_
      refine x_iload_n dX1_isAhead_31 rfl ?_
      refine x_icmp_ge 39 dX1_isAhead_32 rfl (by omega) (by omega) (fun c_32 => ?_) (fun c_32 => ?_)
      · refine x_iconst dX1_isAhead_39 ?_
        exact x_zret rfl (by decide) ⟨rb0 (by unfold f_ahead; first | (simp_all; done) | (simp; omega) | (simp_all; omega)), rfl⟩ dX1_isAhead_40
      · refine x_iconst dX1_isAhead_35 ?_
        refine x_goto 40 dX1_isAhead_36 rfl ?_
        exact x_zret rfl (by decide) ⟨rb1 (by unfold f_ahead; first | (simp_all; done) | (simp; omega) | (simp_all; omega)), rfl⟩ dX1_isAhead_40
theorem k_X1_isAhead {G : Gw} {X : Cx} {cc : ByteArray} {nL : Nat} {y : MethodName} {ret : Option FieldType} {dp : Nat} {P : Option Value → Hp → Prop} {mc ms pc : Nat} {lv : List (Nat × Value)} {st : List Value} {kc ks : Nat} {M : Mg} {B : Hp} {S : Ms} {a : Int} {b : Int} (hM : MOk M) (hd : decode cc pc = .ok (.invokevirtual 155, 3)) (hp0 : Wf S) (hp1 : 0 ≤ a ∧ a < S.1 2) (hp2 : 0 ≤ b ∧ b < S.1 2) (kk : V G X cc nL y ret dp P mc ms (pc + 3) lv (iv (bI (f_ahead S a b)) :: st) (mh G M B (S)) kc ks) (hy : y.cls = RX1 := by rfl) (hdp : 0 + 1 ≤ dp := by decide) (hrs : (st.map fun v => v.category).sum ≤ 8 := by first | decide | (simp [Value.category, iv, jv]; done)) : V G X cc nL y ret dp P mc ms pc lv (iv (b) :: iv (a) :: .ref M.1 :: st) (mh G M B S) kc ks := by
  refine x_callV (ci := 1) (T := TX1) (N := 33) (As := [iv (a), iv (b)]) 2 (fun l => c_X1_isAhead l G M B S a b hM hp0 hp1 hp2) (by rw [hy]; exact q3044) q3046 qs94 q173 q3047 (by decide +kernel) hdp (by decide) (mh_o hM) rfl rfl rfl hrs hd (Nat.zero_le _) (Nat.zero_le _) (fun v h hv => ?_)
  obtain ⟨rfl, rfl⟩ := hv
  exact kk
abbrev q_X1_placeIn (G : Gw) (M : Mg) (B : Hp) (S : Ms) (a : Int) (m : Int) : Option Value → Hp → Prop := fun v_ h_ => v_ = some (iv (f_place S a m)) ∧ h_ = mh G M B (S)
set_option maxHeartbeats 4000000 in
theorem c_X1_placeIn (l : Launch) (G : Gw) (M : Mg) (B : Hp) (S : Ms) (a : Int) (m : Int) (hM : MOk M) (hp0 : Wf S) (hp1 : 0 ≤ a ∧ a < S.1 2) (hp2 : 0 ≤ m ∧ m ≤ S.2 3 a) : Mt l G yX1_placeIn cX1_placeIn 5 (some .int) 2 [.ref (M.1), iv (a), iv (m)] (mh G M B S) (q_X1_placeIn G M B S a m) (0) (0) := by
  refine Mt.of (lv := [(0, .ref (M.1)), (1, iv (a)), (2, iv (m))]) (by decide) (Nat.le_of_ble_eq_true rfl) rfl (fun X => ?_)
  have h2 := hp0.nm
  refine x_iconst dX1_placeIn_0 ?_
  refine x_istore_n (lv' := [(0, _), (1, _), (2, _), (3, _)]) dX1_placeIn_1 rfl (by decide) ?_
  refine x_iconst dX1_placeIn_2 ?_
  refine x_istore (lv' := [(0, _), (1, _), (2, _), (3, _), (4, _)]) dX1_placeIn_3 rfl (by decide) ?_
  have L5 : ∀ (n5 : Nat) (k : Nat), (S.1 2 - k) < (n5 : Int) → (k : Int) ≤ S.1 2 → V G X cX1_placeIn 5 yX1_placeIn (some .int) 2 (q_X1_placeIn G M B S a m) (0) (0) 5 [(0, .ref (M.1)), (1, iv (a)), (2, iv (m)), (3, iv (cntB (fun k => f_begins S a m k && f_ahead S k a) k)), (4, iv (k))] [] (mh G M B S) (0) (0) := by
    intro n5
    induction n5 with
    | zero =>
      intro k hm hk
      exact absurd hm (by omega)
    | succ n5 ih5 =>
      intro k hm5 hk
      refine x_iload dX1_placeIn_5 rfl ?_
      refine x_aload_n dX1_placeIn_7 rfl ?_
      refine m_get_names hM dX1_placeIn_8 ?_
      refine x_icmp_ge 49 dX1_placeIn_11 rfl (by omega) (by omega) (fun c_11 => ?_) (fun c_11 => ?_)
      · refine x_iload_n dX1_placeIn_49 rfl ?_
        exact x_iret rfl ⟨ri (by rw [f_place, show (S.1 2).toNat = k by omega]), rfl⟩ dX1_placeIn_50
      · refine x_iload_n dX1_placeIn_14 rfl ?_
        have J41 : V G X cX1_placeIn 5 yX1_placeIn (some .int) 2 (q_X1_placeIn G M B S a m) (0) (0) 41 [(0, .ref (M.1)), (1, iv (a)), (2, iv (m)), (3, iv (cntB (fun k => f_begins S a m k && f_ahead S k a) k)), (4, iv (k))] [iv (bI (f_begins S a m k && f_ahead S k a)), iv (cntB (fun k => f_begins S a m k && f_ahead S k a) k)] (mh G M B S) (0) (0) := by
          refine x_iadd dX1_placeIn_41 ?_
          refine x_istore_n (lv' := [(0, _), (1, _), (2, _), (3, _), (4, _)]) dX1_placeIn_42 rfl (by decide) ?_
          refine x_iinc (lv' := [(0, _), (1, _), (2, _), (3, _), (4, _)]) dX1_placeIn_43 rfl rfl (by decide) ?_
          refine x_goto 5 dX1_placeIn_46 rfl ?_
          exact ih5 (k + 1) (by omega) (by omega)
        refine x_aload_n dX1_placeIn_15 rfl ?_
        refine x_iload_n dX1_placeIn_16 rfl ?_
        refine x_iload_n dX1_placeIn_17 rfl ?_
        refine x_iload dX1_placeIn_18 rfl ?_
        refine k_X1_begins (a := a) (m := m) (b := k) hM dX1_placeIn_20 (hp0) (hp1) (by omega) (by omega) ?_
        refine x_ifb_eq 40 dX1_placeIn_23 rfl (fun c_23 => ?_) (fun c_23 => ?_)
        · refine x_iconst dX1_placeIn_40 ?_
          exact x_ji (by simp_all [bI]) J41
        · refine x_aload_n dX1_placeIn_26 rfl ?_
          refine x_iload dX1_placeIn_27 rfl ?_
          refine x_iload_n dX1_placeIn_29 rfl ?_
          refine k_X1_isAhead (a := k) (b := a) hM dX1_placeIn_30 (hp0) (by omega) (hp1) ?_
          refine x_ifb_eq 40 dX1_placeIn_33 rfl (fun c_33 => ?_) (fun c_33 => ?_)
          · refine x_iconst dX1_placeIn_40 ?_
            exact x_ji (by simp_all [bI]) J41
          · refine x_iconst dX1_placeIn_36 ?_
            refine x_goto 41 dX1_placeIn_37 rfl ?_
            exact x_ji (by simp_all [bI]) J41
  exact L5 ((S.1 2).toNat + 1) (0) (by omega) (by omega)
theorem k_X1_placeIn {G : Gw} {X : Cx} {cc : ByteArray} {nL : Nat} {y : MethodName} {ret : Option FieldType} {dp : Nat} {P : Option Value → Hp → Prop} {mc ms pc : Nat} {lv : List (Nat × Value)} {st : List Value} {kc ks : Nat} {M : Mg} {B : Hp} {S : Ms} {a : Int} {m : Int} (hM : MOk M) (hd : decode cc pc = .ok (.invokevirtual 159, 3)) (hp0 : Wf S) (hp1 : 0 ≤ a ∧ a < S.1 2) (hp2 : 0 ≤ m ∧ m ≤ S.2 3 a) (kk : V G X cc nL y ret dp P mc ms (pc + 3) lv (iv (f_place S a m) :: st) (mh G M B (S)) kc ks) (hy : y.cls = RX1 := by rfl) (hdp : 2 + 1 ≤ dp := by decide) (hrs : (st.map fun v => v.category).sum ≤ 8 := by first | decide | (simp [Value.category, iv, jv]; done)) : V G X cc nL y ret dp P mc ms pc lv (iv (m) :: iv (a) :: .ref M.1 :: st) (mh G M B S) kc ks := by
  refine x_callV (ci := 1) (T := TX1) (N := 33) (As := [iv (a), iv (m)]) 2 (fun l => c_X1_placeIn l G M B S a m hM hp0 hp1 hp2) (by rw [hy]; exact q3040) q3042 qs93 q173 q3043 (by decide +kernel) hdp (by decide) (mh_o hM) rfl rfl rfl hrs hd (Nat.zero_le _) (Nat.zero_le _) (fun v h hv => ?_)
  obtain ⟨rfl, rfl⟩ := hv
  exact kk
abbrev q_X1_presses (G : Gw) (M : Mg) (B : Hp) (S : Ms) (a : Int) : Option Value → Hp → Prop := fun v_ h_ => v_ = some (iv (f_presses S a)) ∧ h_ = mh G M B (S)
set_option maxHeartbeats 4000000 in
theorem c_X1_presses (l : Launch) (G : Gw) (M : Mg) (B : Hp) (S : Ms) (a : Int) (hM : MOk M) (hp0 : Wf S) (hp1 : 0 ≤ a ∧ a < S.1 2) : Mt l G yX1_presses cX1_presses 5 (some .int) 3 [.ref (M.1), iv (a)] (mh G M B S) (q_X1_presses G M B S a) (0) (0) := by
  refine Mt.of (lv := [(0, .ref (M.1)), (1, iv (a))]) (by decide) (Nat.le_of_ble_eq_true rfl) rfl (fun X => ?_)
  have h2 := hp0.nm
  have h3 := hp0.len hp1
  refine x_ldc 268435456 q3039 dX1_presses_0 rfl ?_
  refine x_istore_n (lv' := [(0, _), (1, _), (2, _)]) dX1_presses_2 rfl (by decide) ?_
  refine x_iconst dX1_presses_3 ?_
  refine x_istore_n (lv' := [(0, _), (1, _), (2, _), (3, _)]) dX1_presses_4 rfl (by decide) ?_
  have L5 : ∀ (n5 : Nat) (m : Nat), (S.2 3 a + 1 - m) < (n5 : Int) → (m : Int) ≤ S.2 3 a + 1 → V G X cX1_presses 5 yX1_presses (some .int) 3 (q_X1_presses G M B S a) (0) (0) 5 [(0, .ref (M.1)), (1, iv (a)), (2, iv (minZ 268435456 (fun m => m + f_place S a m + 1) m)), (3, iv (m))] [] (mh G M B S) (0) (0) := by
    intro n5
    induction n5 with
    | zero =>
      intro m hm hm
      exact absurd hm (by omega)
    | succ n5 ih5 =>
      intro m hm5 hm
      have h5 := minZ_PR (a := a) hp0 m
      have h6 := f_place_R (a := a) (m := m) hp0
      refine x_iload_n dX1_presses_5 rfl ?_
      refine x_aload_n dX1_presses_6 rfl ?_
      refine m_get_length hM dX1_presses_7 ?_
      refine x_iload_n dX1_presses_10 rfl ?_
      refine m_ald hM (N := 14) rfl (by omega) (by decide) dX1_presses_11 ?_
      refine x_icmp_gt 46 dX1_presses_12 rfl (by omega) (by omega) (fun c_12 => ?_) (fun c_12 => ?_)
      · refine x_iload_n dX1_presses_46 rfl ?_
        exact x_iret rfl ⟨ri (by rw [f_presses, show (S.2 3 a + 1).toNat = m by omega]), rfl⟩ dX1_presses_47
      · refine x_iload_n dX1_presses_15 rfl ?_
        refine x_aload_n dX1_presses_16 rfl ?_
        refine x_iload_n dX1_presses_17 rfl ?_
        refine x_iload_n dX1_presses_18 rfl ?_
        refine k_X1_placeIn (a := a) (m := m) hM dX1_presses_19 (hp0) (hp1) (by omega) ?_
        refine x_iadd dX1_presses_22 ?_
        refine x_iconst dX1_presses_23 ?_
        refine x_iadd dX1_presses_24 ?_
        refine x_istore (lv' := [(0, _), (1, _), (2, _), (3, _), (4, _)]) dX1_presses_25 rfl (by decide) ?_
        have J39 : V G X cX1_presses 5 yX1_presses (some .int) 3 (q_X1_presses G M B S a) (0) (0) 39 [(0, .ref (M.1)), (1, iv (a)), (2, iv (minZ 268435456 (fun m => m + f_place S a m + 1) m)), (3, iv (m)), (4, iv ((m + (f_place S a m)) + 1))] [iv (minZ 268435456 (fun m => m + f_place S a m + 1) (m + 1))] (mh G M B S) (0) (0) := by
          refine x_istore_n (lv' := [(0, _), (1, _), (2, _), (3, _), (4, _)]) dX1_presses_39 rfl (by decide) ?_
          refine x_iinc (lv' := [(0, _), (1, _), (2, _), (3, _), (4, _)]) dX1_presses_40 rfl rfl (by decide) ?_
          refine x_goto 5 dX1_presses_43 rfl ?_
          refine x_lvp [0, 1, 2, 3] (lv' := [(0, _), (1, _), (2, _), (3, _)]) rfl ?_
          exact ih5 (m + 1) (by omega) (by omega)
        refine x_iload dX1_presses_27 rfl ?_
        refine x_iload_n dX1_presses_29 rfl ?_
        refine x_icmp_ge 38 dX1_presses_30 rfl (by omega) (by omega) (fun c_30 => ?_) (fun c_30 => ?_)
        · refine x_iload_n dX1_presses_38 rfl ?_
          exact x_ji (by rw [minZ]; simp_all; try omega) J39
        · refine x_iload dX1_presses_33 rfl ?_
          refine x_goto 39 dX1_presses_35 rfl ?_
          exact x_ji (by rw [minZ]; simp_all; try omega) J39
  exact L5 ((S.2 3 a + 1).toNat + 1) (0) (by omega) (by omega)
theorem k_X1_presses {G : Gw} {X : Cx} {cc : ByteArray} {nL : Nat} {y : MethodName} {ret : Option FieldType} {dp : Nat} {P : Option Value → Hp → Prop} {mc ms pc : Nat} {lv : List (Nat × Value)} {st : List Value} {kc ks : Nat} {M : Mg} {B : Hp} {S : Ms} {a : Int} (hM : MOk M) (hd : decode cc pc = .ok (.invokevirtual 169, 3)) (hp0 : Wf S) (hp1 : 0 ≤ a ∧ a < S.1 2) (kk : V G X cc nL y ret dp P mc ms (pc + 3) lv (iv (f_presses S a) :: st) (mh G M B (S)) kc ks) (hy : y.cls = RX1 := by rfl) (hdp : 3 + 1 ≤ dp := by decide) (hrs : (st.map fun v => v.category).sum ≤ 8 := by first | decide | (simp [Value.category, iv, jv]; done)) : V G X cc nL y ret dp P mc ms pc lv (iv (a) :: .ref M.1 :: st) (mh G M B S) kc ks := by
  refine x_callV (ci := 1) (T := TX1) (N := 33) (As := [iv (a)]) 1 (fun l => c_X1_presses l G M B S a hM hp0 hp1) (by rw [hy]; exact q3035) q3037 qs92 q173 q3038 (by decide +kernel) hdp (by decide) (mh_o hM) rfl rfl rfl hrs hd (Nat.zero_le _) (Nat.zero_le _) (fun v h hv => ?_)
  obtain ⟨rfl, rfl⟩ := hv
  exact kk
abbrev q_X1_sign (G : Gw) (M : Mg) (B : Hp) (S : Ms) (a : Int) (i : Int) : Option Value → Hp → Prop := fun v_ h_ => v_ = some (iv (if (decide (0 ≤ a) && decide (a ≤ S.1 2 - 1)) && (decide (0 ≤ i) && decide (i ≤ S.2 3 a - 1)) then S.2 4 (8 * a + i) else -101)) ∧ h_ = mh G M B (S)
set_option maxHeartbeats 4000000 in
theorem c_X1_sign (l : Launch) (G : Gw) (M : Mg) (B : Hp) (S : Ms) (a : Int) (i : Int) (hM : MOk M) (hp0 : Wf S) (hp1 : -2147483648 ≤ a ∧ a ≤ 2147483647) (hp2 : -2147483648 ≤ i ∧ i ≤ 2147483647) : Mt l G yX1_sign cX1_sign 3 (some .int) 2 [.ref (M.1), iv (a), iv (i)] (mh G M B S) (q_X1_sign G M B S a i) (0) (0) := by
  refine Mt.of (lv := [(0, .ref (M.1)), (1, iv (a)), (2, iv (i))]) (by decide) (Nat.le_of_ble_eq_true rfl) rfl (fun X => ?_)
  have h2 := hp0.nm
  refine x_aload_n dX1_sign_0 rfl ?_
  refine x_iload_n dX1_sign_1 rfl ?_
  refine k_X1_isName (a := a) hM dX1_sign_2 (hp0) (hp1) ?_
  refine x_ifb_eq 38 dX1_sign_5 rfl (fun c_5 => ?_) (fun c_5 => ?_)
  · refine x_bipush dX1_sign_38 ?_
    exact x_iret rfl ⟨ri (by rw [c_5]; rfl), rfl⟩ dX1_sign_40
  · have h7 : 0 ≤ a ∧ a < S.1 2 := by simp at c_5; omega
    have h8 := hp0.len h7
    refine x_iload_n dX1_sign_8 rfl ?_
    refine x_iconst dX1_sign_9 ?_
    refine x_aload_n dX1_sign_10 rfl ?_
    refine m_get_length hM dX1_sign_11 ?_
    refine x_iload_n dX1_sign_14 rfl ?_
    refine m_ald hM (N := 14) rfl (by omega) (by decide) dX1_sign_15 ?_
    refine x_iconst dX1_sign_16 ?_
    refine x_isub dX1_sign_17 ?_
    refine k_X1_within (v := i) (lo := 0) (hi := (S.2 3 a) - 1) hM dX1_sign_18 (hp2) (by omega) (by omega) ?_
    refine x_ifb_eq 38 dX1_sign_21 rfl (fun c_21 => ?_) (fun c_21 => ?_)
    · refine x_bipush dX1_sign_38 ?_
      exact x_iret rfl ⟨ri (by rw [c_5, c_21]; rfl), rfl⟩ dX1_sign_40
    · have h9 : 0 ≤ i ∧ i < S.2 3 a := by simp at c_21; omega
      refine x_aload_n dX1_sign_24 rfl ?_
      refine m_get_letters hM dX1_sign_25 ?_
      refine x_bipush dX1_sign_28 ?_
      refine x_iload_n dX1_sign_30 rfl ?_
      refine x_imul dX1_sign_31 ?_
      refine x_iload_n dX1_sign_32 rfl ?_
      refine x_iadd dX1_sign_33 ?_
      refine m_ald hM (N := 112) rfl (by omega) (by decide) dX1_sign_34 ?_
      refine x_goto 40 dX1_sign_35 rfl ?_
      exact x_iret rfl ⟨ri (by rw [c_5, c_21]; rfl), rfl⟩ dX1_sign_40
abbrev q_X1_digit (G : Gw) (M : Mg) (B : Hp) (S : Ms) (a : Int) (i : Int) : Option Value → Hp → Prop := fun v_ h_ => v_ = some (iv (if (decide (0 ≤ a) && decide (a ≤ S.1 2 - 1)) && (decide (0 ≤ i) && decide (i ≤ S.2 3 a - 1)) then f_code S a i else -101)) ∧ h_ = mh G M B (S)
set_option maxHeartbeats 4000000 in
theorem c_X1_digit (l : Launch) (G : Gw) (M : Mg) (B : Hp) (S : Ms) (a : Int) (i : Int) (hM : MOk M) (hp0 : Wf S) (hp1 : -2147483648 ≤ a ∧ a ≤ 2147483647) (hp2 : -2147483648 ≤ i ∧ i ≤ 2147483647) : Mt l G yX1_digit cX1_digit 3 (some .int) 2 [.ref (M.1), iv (a), iv (i)] (mh G M B S) (q_X1_digit G M B S a i) (0) (0) := by
  refine Mt.of (lv := [(0, .ref (M.1)), (1, iv (a)), (2, iv (i))]) (by decide) (Nat.le_of_ble_eq_true rfl) rfl (fun X => ?_)
  have h2 := hp0.nm
  refine x_aload_n dX1_digit_0 rfl ?_
  refine x_iload_n dX1_digit_1 rfl ?_
  refine k_X1_isName (a := a) hM dX1_digit_2 (hp0) (hp1) ?_
  refine x_ifb_eq 33 dX1_digit_5 rfl (fun c_5 => ?_) (fun c_5 => ?_)
  · refine x_bipush dX1_digit_33 ?_
    exact x_iret rfl ⟨ri (by rw [c_5]; rfl), rfl⟩ dX1_digit_35
  · have h7 : 0 ≤ a ∧ a < S.1 2 := by simp at c_5; omega
    have h8 := hp0.len h7
    refine x_iload_n dX1_digit_8 rfl ?_
    refine x_iconst dX1_digit_9 ?_
    refine x_aload_n dX1_digit_10 rfl ?_
    refine m_get_length hM dX1_digit_11 ?_
    refine x_iload_n dX1_digit_14 rfl ?_
    refine m_ald hM (N := 14) rfl (by omega) (by decide) dX1_digit_15 ?_
    refine x_iconst dX1_digit_16 ?_
    refine x_isub dX1_digit_17 ?_
    refine k_X1_within (v := i) (lo := 0) (hi := (S.2 3 a) - 1) hM dX1_digit_18 (hp2) (by omega) (by omega) ?_
    refine x_ifb_eq 33 dX1_digit_21 rfl (fun c_21 => ?_) (fun c_21 => ?_)
    · refine x_bipush dX1_digit_33 ?_
      exact x_iret rfl ⟨ri (by rw [c_5, c_21]; rfl), rfl⟩ dX1_digit_35
    · have h9 : 0 ≤ i ∧ i < S.2 3 a := by simp at c_21; omega
      refine x_aload_n dX1_digit_24 rfl ?_
      refine x_iload_n dX1_digit_25 rfl ?_
      refine x_iload_n dX1_digit_26 rfl ?_
      refine k_X1_codeAt (a := a) (i := i) hM dX1_digit_27 (hp0) (h7) (h9) ?_
      refine x_goto 35 dX1_digit_30 rfl ?_
      exact x_iret rfl ⟨ri (by rw [c_5, c_21]; rfl), rfl⟩ dX1_digit_35
abbrev q_X1_laid (G : Gw) (M : Mg) (B : Hp) (S : Ms) (c : Int) : Option Value → Hp → Prop := fun v_ h_ => v_ = some (iv (if decide (97 ≤ c) && decide (c ≤ 122) then S.2 9 (c - 97) else -102)) ∧ h_ = mh G M B (S)
set_option maxHeartbeats 4000000 in
theorem c_X1_laid (l : Launch) (G : Gw) (M : Mg) (B : Hp) (S : Ms) (c : Int) (hM : MOk M) (hp0 : -2147483648 ≤ c ∧ c ≤ 2147483647) : Mt l G yX1_laid cX1_laid 2 (some .int) 1 [.ref (M.1), iv (c)] (mh G M B S) (q_X1_laid G M B S c) (0) (0) := by
  refine Mt.of (lv := [(0, .ref (M.1)), (1, iv (c))]) (by decide) (Nat.le_of_ble_eq_true rfl) rfl (fun X => ?_)
  refine x_iload_n dX1_laid_0 rfl ?_
  refine x_bipush dX1_laid_1 ?_
  refine x_bipush dX1_laid_3 ?_
  refine k_X1_within (v := c) (lo := 97) (hi := 122) hM dX1_laid_5 (hp0) (by decide) (by decide) ?_
  refine x_ifb_eq 23 dX1_laid_8 rfl (fun c_8 => ?_) (fun c_8 => ?_)
  · refine x_bipush dX1_laid_23 ?_
    exact x_iret rfl ⟨ri (by rw [c_8]; rfl), rfl⟩ dX1_laid_25
  · have h9 : 97 ≤ c ∧ c ≤ 122 := by simp at c_8; omega
    refine x_aload_n dX1_laid_11 rfl ?_
    refine m_get_digitOf hM dX1_laid_12 ?_
    refine x_iload_n dX1_laid_15 rfl ?_
    refine x_bipush dX1_laid_16 ?_
    refine x_isub dX1_laid_18 ?_
    refine m_ald hM (N := 26) rfl (by omega) (by decide) dX1_laid_19 ?_
    refine x_goto 25 dX1_laid_20 rfl ?_
    exact x_iret rfl ⟨ri (by rw [c_8]; rfl), rfl⟩ dX1_laid_25
abbrev q_X1_usesAll (G : Gw) (M : Mg) (B : Hp) (S : Ms)  : Option Value → Hp → Prop := fun v_ h_ => v_ = some (iv (f_uses S)) ∧ h_ = mh G M B (S)
set_option maxHeartbeats 4000000 in
theorem c_X1_usesAll (l : Launch) (G : Gw) (M : Mg) (B : Hp) (S : Ms)  (hM : MOk M) (hp0 : Wf S) : Mt l G yX1_usesAll cX1_usesAll 3 (some .int) 0 [.ref (M.1)] (mh G M B S) (q_X1_usesAll G M B S ) (0) (0) := by
  refine Mt.of (lv := [(0, .ref (M.1))]) (by decide) (Nat.le_of_ble_eq_true rfl) rfl (fun X => ?_)
  have h2 := hp0.nm
  refine x_iconst dX1_usesAll_0 ?_
  refine x_istore_n (lv' := [(0, _), (1, _)]) dX1_usesAll_1 rfl (by decide) ?_
  refine x_iconst dX1_usesAll_2 ?_
  refine x_istore_n (lv' := [(0, _), (1, _), (2, _)]) dX1_usesAll_3 rfl (by decide) ?_
  have L4 : ∀ (n4 : Nat) (k : Nat), (S.1 2 - k) < (n4 : Int) → (k : Int) ≤ S.1 2 → V G X cX1_usesAll 3 yX1_usesAll (some .int) 0 (q_X1_usesAll G M B S ) (0) (0) 4 [(0, .ref (M.1)), (1, iv (sumZ (fun k => S.2 5 k) k)), (2, iv (k))] [] (mh G M B S) (0) (0) := by
    intro n4
    induction n4 with
    | zero =>
      intro k hm hk
      exact absurd hm (by omega)
    | succ n4 ih4 =>
      intro k hm4 hk
      refine x_iload_n dX1_usesAll_4 rfl ?_
      refine x_aload_n dX1_usesAll_5 rfl ?_
      refine m_get_names hM dX1_usesAll_6 ?_
      refine x_icmp_ge 27 dX1_usesAll_9 rfl (by omega) (by omega) (fun c_9 => ?_) (fun c_9 => ?_)
      · refine x_iload_n dX1_usesAll_27 rfl ?_
        exact x_iret rfl ⟨ri (by rw [f_uses, show (S.1 2).toNat = k by omega]), rfl⟩ dX1_usesAll_28
      · refine x_iload_n dX1_usesAll_12 rfl ?_
        refine x_aload_n dX1_usesAll_13 rfl ?_
        refine m_get_uses hM dX1_usesAll_14 ?_
        refine x_iload_n dX1_usesAll_17 rfl ?_
        refine m_ald hM (N := 14) rfl (by omega) (by decide) dX1_usesAll_18 ?_
        refine x_iadd dX1_usesAll_19 ?_
        refine x_istore_n (lv' := [(0, _), (1, _), (2, _)]) dX1_usesAll_20 rfl (by decide) ?_
        refine x_iinc (lv' := [(0, _), (1, _), (2, _)]) dX1_usesAll_21 rfl rfl (by decide) ?_
        refine x_goto 4 dX1_usesAll_24 rfl ?_
        exact ih4 (k + 1) (by omega) (by omega)
  exact L4 ((S.1 2).toNat + 1) (0) (by omega) (by omega)
theorem k_X1_usesAll {G : Gw} {X : Cx} {cc : ByteArray} {nL : Nat} {y : MethodName} {ret : Option FieldType} {dp : Nat} {P : Option Value → Hp → Prop} {mc ms pc : Nat} {lv : List (Nat × Value)} {st : List Value} {kc ks : Nat} {M : Mg} {B : Hp} {S : Ms}  (hM : MOk M) (hd : decode cc pc = .ok (.invokevirtual 178, 3)) (hp0 : Wf S) (kk : V G X cc nL y ret dp P mc ms (pc + 3) lv (iv (f_uses S) :: st) (mh G M B (S)) kc ks) (hy : y.cls = RX1 := by rfl) (hdp : 0 + 1 ≤ dp := by decide) (hrs : (st.map fun v => v.category).sum ≤ 8 := by first | decide | (simp [Value.category, iv, jv]; done)) : V G X cc nL y ret dp P mc ms pc lv (.ref M.1 :: st) (mh G M B S) kc ks := by
  refine x_callV (ci := 1) (T := TX1) (N := 33) (As := []) 0 (fun l => c_X1_usesAll l G M B S  hM hp0) (by rw [hy]; exact q3108) q3110 qs106 q173 q3111 (by decide +kernel) hdp (by decide) (mh_o hM) rfl rfl rfl hrs hd (Nat.zero_le _) (Nat.zero_le _) (fun v h hv => ?_)
  obtain ⟨rfl, rfl⟩ := hv
  exact kk
abbrev q_X1_withTwins (G : Gw) (M : Mg) (B : Hp) (S : Ms)  : Option Value → Hp → Prop := fun v_ h_ => v_ = some (iv (f_withTwins S)) ∧ h_ = mh G M B (S)
set_option maxHeartbeats 4000000 in
theorem c_X1_withTwins (l : Launch) (G : Gw) (M : Mg) (B : Hp) (S : Ms)  (hM : MOk M) (hp0 : Wf S) : Mt l G yX1_withTwins cX1_withTwins 3 (some .int) 4 [.ref (M.1)] (mh G M B S) (q_X1_withTwins G M B S ) (0) (0) := by
  refine Mt.of (lv := [(0, .ref (M.1))]) (by decide) (Nat.le_of_ble_eq_true rfl) rfl (fun X => ?_)
  have h2 := hp0.nm
  refine x_iconst dX1_withTwins_0 ?_
  refine x_istore_n (lv' := [(0, _), (1, _)]) dX1_withTwins_1 rfl (by decide) ?_
  refine x_iconst dX1_withTwins_2 ?_
  refine x_istore_n (lv' := [(0, _), (1, _), (2, _)]) dX1_withTwins_3 rfl (by decide) ?_
  have L4 : ∀ (n4 : Nat) (k : Nat), (S.1 2 - k) < (n4 : Int) → (k : Int) ≤ S.1 2 → V G X cX1_withTwins 3 yX1_withTwins (some .int) 4 (q_X1_withTwins G M B S ) (0) (0) 4 [(0, .ref (M.1)), (1, iv (cntB (fun k => decide (0 < f_twins S k)) k)), (2, iv (k))] [] (mh G M B S) (0) (0) := by
    intro n4
    induction n4 with
    | zero =>
      intro k hm hk
      exact absurd hm (by omega)
    | succ n4 ih4 =>
      intro k hm4 hk
      have h6 := f_twins_R (a := k) hp0
      refine x_iload_n dX1_withTwins_4 rfl ?_
      refine x_aload_n dX1_withTwins_5 rfl ?_
      refine m_get_names hM dX1_withTwins_6 ?_
      refine x_icmp_ge 34 dX1_withTwins_9 rfl (by omega) (by omega) (fun c_9 => ?_) (fun c_9 => ?_)
      · refine x_iload_n dX1_withTwins_34 rfl ?_
        exact x_iret rfl ⟨ri (by rw [f_withTwins, show (S.1 2).toNat = k by omega]), rfl⟩ dX1_withTwins_35
      · refine x_iload_n dX1_withTwins_12 rfl ?_
        have J26 : V G X cX1_withTwins 3 yX1_withTwins (some .int) 4 (q_X1_withTwins G M B S ) (0) (0) 26 [(0, .ref (M.1)), (1, iv (cntB (fun k => decide (0 < f_twins S k)) k)), (2, iv (k))] [iv (bI (decide (0 < f_twins S k))), iv (cntB (fun k => decide (0 < f_twins S k)) k)] (mh G M B S) (0) (0) := by
          refine x_iadd dX1_withTwins_26 ?_
          refine x_istore_n (lv' := [(0, _), (1, _), (2, _)]) dX1_withTwins_27 rfl (by decide) ?_
          refine x_iinc (lv' := [(0, _), (1, _), (2, _)]) dX1_withTwins_28 rfl rfl (by decide) ?_
          refine x_goto 4 dX1_withTwins_31 rfl ?_
          exact ih4 (k + 1) (by omega) (by omega)
        refine x_aload_n dX1_withTwins_13 rfl ?_
        refine x_iload_n dX1_withTwins_14 rfl ?_
        refine k_X1_twins (a := k) hM dX1_withTwins_15 (hp0) (by omega) ?_
        refine x_if_le 25 dX1_withTwins_18 rfl (by omega) (fun c_18 => ?_) (fun c_18 => ?_)
        · refine x_iconst dX1_withTwins_25 ?_
          exact x_ji (by simp_all [bI]) J26
        · refine x_iconst dX1_withTwins_21 ?_
          refine x_goto 26 dX1_withTwins_22 rfl ?_
          exact x_ji (by simp_all [bI]) J26
  exact L4 ((S.1 2).toNat + 1) (0) (by omega) (by omega)
theorem k_X1_withTwins {G : Gw} {X : Cx} {cc : ByteArray} {nL : Nat} {y : MethodName} {ret : Option FieldType} {dp : Nat} {P : Option Value → Hp → Prop} {mc ms pc : Nat} {lv : List (Nat × Value)} {st : List Value} {kc ks : Nat} {M : Mg} {B : Hp} {S : Ms}  (hM : MOk M) (hd : decode cc pc = .ok (.invokevirtual 181, 3)) (hp0 : Wf S) (kk : V G X cc nL y ret dp P mc ms (pc + 3) lv (iv (f_withTwins S) :: st) (mh G M B (S)) kc ks) (hy : y.cls = RX1 := by rfl) (hdp : 4 + 1 ≤ dp := by decide) (hrs : (st.map fun v => v.category).sum ≤ 8 := by first | decide | (simp [Value.category, iv, jv]; done)) : V G X cc nL y ret dp P mc ms pc lv (.ref M.1 :: st) (mh G M B S) kc ks := by
  refine x_callV (ci := 1) (T := TX1) (N := 33) (As := []) 0 (fun l => c_X1_withTwins l G M B S  hM hp0) (by rw [hy]; exact q3112) q3114 qs107 q173 q3115 (by decide +kernel) hdp (by decide) (mh_o hM) rfl rfl rfl hrs hd (Nat.zero_le _) (Nat.zero_le _) (fun v h hv => ?_)
  obtain ⟨rfl, rfl⟩ := hv
  exact kk
abbrev q_X1_codesMany (G : Gw) (M : Mg) (B : Hp) (S : Ms)  : Option Value → Hp → Prop := fun v_ h_ => v_ = some (iv (f_codes S)) ∧ h_ = mh G M B (S)
set_option maxHeartbeats 4000000 in
theorem c_X1_codesMany (l : Launch) (G : Gw) (M : Mg) (B : Hp) (S : Ms)  (hM : MOk M) (hp0 : Wf S) : Mt l G yX1_codesMany cX1_codesMany 5 (some .int) 3 [.ref (M.1)] (mh G M B S) (q_X1_codesMany G M B S ) (0) (0) := by
  refine Mt.of (lv := [(0, .ref (M.1))]) (by decide) (Nat.le_of_ble_eq_true rfl) rfl (fun X => ?_)
  have h2 := hp0.nm
  refine x_iconst dX1_codesMany_0 ?_
  refine x_istore_n (lv' := [(0, _), (1, _)]) dX1_codesMany_1 rfl (by decide) ?_
  refine x_iconst dX1_codesMany_2 ?_
  refine x_istore_n (lv' := [(0, _), (1, _), (2, _)]) dX1_codesMany_3 rfl (by decide) ?_
  have L4 : ∀ (n4 : Nat) (k : Nat), (S.1 2 - k) < (n4 : Int) → (k : Int) ≤ S.1 2 → V G X cX1_codesMany 5 yX1_codesMany (some .int) 3 (q_X1_codesMany G M B S ) (0) (0) 4 [(0, .ref (M.1)), (1, iv (cntB (fun k => allB (fun e => !f_twin S k e) k.toNat) k)), (2, iv (k))] [] (mh G M B S) (0) (0) := by
    intro n4
    induction n4 with
    | zero =>
      intro k hm hk
      exact absurd hm (by omega)
    | succ n4 ih4 =>
      intro k hm4 hk
      refine x_iload_n dX1_codesMany_4 rfl ?_
      refine x_aload_n dX1_codesMany_5 rfl ?_
      refine m_get_names hM dX1_codesMany_6 ?_
      refine x_icmp_ge 67 dX1_codesMany_9 rfl (by omega) (by omega) (fun c_9 => ?_) (fun c_9 => ?_)
      · refine x_iload_n dX1_codesMany_67 rfl ?_
        exact x_iret rfl ⟨ri (by rw [f_codes, show (S.1 2).toNat = k by omega]), rfl⟩ dX1_codesMany_68
      · refine x_iconst dX1_codesMany_12 ?_
        refine x_istore_n (lv' := [(0, _), (1, _), (2, _), (3, _)]) dX1_codesMany_13 rfl (by decide) ?_
        refine x_iconst dX1_codesMany_14 ?_
        refine x_istore (lv' := [(0, _), (1, _), (2, _), (3, _), (4, _)]) dX1_codesMany_15 rfl (by decide) ?_
        have L17 : ∀ (n17 : Nat) (e : Nat) (is : Bool), ((k : Int) - e) < (n17 : Int) → (e : Int) ≤ k → is = allB (fun e => !f_twin S k e) e → V G X cX1_codesMany 5 yX1_codesMany (some .int) 3 (q_X1_codesMany G M B S ) (0) (0) 17 [(0, .ref (M.1)), (1, iv (cntB (fun k => allB (fun e => !f_twin S k e) k.toNat) k)), (2, iv (k)), (3, iv (bI (is))), (4, iv (e))] [] (mh G M B S) (0) (0) := by
          intro n17
          induction n17 with
          | zero =>
            intro e is hm he hi
            exact absurd hm (by omega)
          | succ n17 ih17 =>
            intro e is hm17 he hi
            refine x_iload dX1_codesMany_17 rfl ?_
            refine x_iload_n dX1_codesMany_19 rfl ?_
            refine x_icmp_ge 49 dX1_codesMany_20 rfl (by omega) (by omega) (fun c_20 => ?_) (fun c_20 => ?_)
            · refine x_iload_n dX1_codesMany_49 rfl ?_
              have J59 : V G X cX1_codesMany 5 yX1_codesMany (some .int) 3 (q_X1_codesMany G M B S ) (0) (0) 59 [(0, .ref (M.1)), (1, iv (cntB (fun k => allB (fun e => !f_twin S k e) k.toNat) k)), (2, iv (k)), (3, iv (bI (is))), (4, iv (e))] [iv (bI (allB (fun e => !f_twin S k e) (k : Int).toNat)), iv (cntB (fun k => allB (fun e => !f_twin S k e) k.toNat) k)] (mh G M B S) (0) (0) := by
                refine x_iadd dX1_codesMany_59 ?_
                refine x_istore_n (lv' := [(0, _), (1, _), (2, _), (3, _), (4, _)]) dX1_codesMany_60 rfl (by decide) ?_
                refine x_iinc (lv' := [(0, _), (1, _), (2, _), (3, _), (4, _)]) dX1_codesMany_61 rfl rfl (by decide) ?_
                refine x_goto 4 dX1_codesMany_64 rfl ?_
                refine x_lvp [0, 1, 2] (lv' := [(0, _), (1, _), (2, _)]) rfl ?_
                exact ih4 (k + 1) (by omega) (by omega)
              refine x_iload_n dX1_codesMany_50 rfl ?_
              refine x_ifb_eq 58 dX1_codesMany_51 rfl (fun c_51 => ?_) (fun c_51 => ?_)
              · refine x_iconst dX1_codesMany_58 ?_
                exact x_ji (by rw [show (k : Int).toNat = e by omega, ← hi]; simp_all [bI]) J59
              · refine x_iconst dX1_codesMany_54 ?_
                refine x_goto 59 dX1_codesMany_55 rfl ?_
                exact x_ji (by rw [show (k : Int).toNat = e by omega, ← hi]; simp_all [bI]) J59
            · have J42 : V G X cX1_codesMany 5 yX1_codesMany (some .int) 3 (q_X1_codesMany G M B S ) (0) (0) 42 [(0, .ref (M.1)), (1, iv (cntB (fun k => allB (fun e => !f_twin S k e) k.toNat) k)), (2, iv (k)), (3, iv (bI (is))), (4, iv (e))] [iv (bI (is && !f_twin S k e))] (mh G M B S) (0) (0) := by
                refine x_istore_n (lv' := [(0, _), (1, _), (2, _), (3, _), (4, _)]) dX1_codesMany_42 rfl (by decide) ?_
                refine x_iinc (lv' := [(0, _), (1, _), (2, _), (3, _), (4, _)]) dX1_codesMany_43 rfl rfl (by decide) ?_
                refine x_goto 17 dX1_codesMany_46 rfl ?_
                exact ih17 (e + 1) (_) (by omega) (by omega) (by rw [hi, allB])
              refine x_iload_n dX1_codesMany_23 rfl ?_
              refine x_ifb_eq 41 dX1_codesMany_24 rfl (fun c_24 => ?_) (fun c_24 => ?_)
              · refine x_iconst dX1_codesMany_41 ?_
                exact x_jf (by first | (simp_all; done) | (simp; omega) | (simp_all; omega)) J42
              · refine x_aload_n dX1_codesMany_27 rfl ?_
                refine x_iload_n dX1_codesMany_28 rfl ?_
                refine x_iload dX1_codesMany_29 rfl ?_
                refine k_X1_isTwin (a := k) (b := e) hM dX1_codesMany_31 (hp0) (by omega) (by omega) ?_
                refine x_ifb_ne 41 dX1_codesMany_34 rfl (fun c_34 => ?_) (fun c_34 => ?_)
                · refine x_iconst dX1_codesMany_41 ?_
                  exact x_jf (by first | (simp_all; done) | (simp; omega) | (simp_all; omega)) J42
                · refine x_iconst dX1_codesMany_37 ?_
                  refine x_goto 42 dX1_codesMany_38 rfl ?_
                  exact x_jt (by first | (simp_all; done) | (simp; omega) | (simp_all; omega)) J42
        exact L17 (k + 1) (0) (true) (by omega) (by omega) (rfl)
  exact L4 ((S.1 2).toNat + 1) (0) (by omega) (by omega)
theorem k_X1_codesMany {G : Gw} {X : Cx} {cc : ByteArray} {nL : Nat} {y : MethodName} {ret : Option FieldType} {dp : Nat} {P : Option Value → Hp → Prop} {mc ms pc : Nat} {lv : List (Nat × Value)} {st : List Value} {kc ks : Nat} {M : Mg} {B : Hp} {S : Ms}  (hM : MOk M) (hd : decode cc pc = .ok (.invokevirtual 184, 3)) (hp0 : Wf S) (kk : V G X cc nL y ret dp P mc ms (pc + 3) lv (iv (f_codes S) :: st) (mh G M B (S)) kc ks) (hy : y.cls = RX1 := by rfl) (hdp : 3 + 1 ≤ dp := by decide) (hrs : (st.map fun v => v.category).sum ≤ 8 := by first | decide | (simp [Value.category, iv, jv]; done)) : V G X cc nL y ret dp P mc ms pc lv (.ref M.1 :: st) (mh G M B S) kc ks := by
  refine x_callV (ci := 1) (T := TX1) (N := 33) (As := []) 0 (fun l => c_X1_codesMany l G M B S  hM hp0) (by rw [hy]; exact q3116) q3118 qs108 q173 q3119 (by decide +kernel) hdp (by decide) (mh_o hM) rfl rfl rfl hrs hd (Nat.zero_le _) (Nat.zero_le _) (fun v h hv => ?_)
  obtain ⟨rfl, rfl⟩ := hv
  exact kk
abbrev q_X1_mostTelling (G : Gw) (M : Mg) (B : Hp) (S : Ms)  : Option Value → Hp → Prop := fun v_ h_ => v_ = some (iv (f_most S)) ∧ h_ = mh G M B (S)
set_option maxHeartbeats 4000000 in
theorem c_X1_mostTelling (l : Launch) (G : Gw) (M : Mg) (B : Hp) (S : Ms)  (hM : MOk M) (hp0 : Wf S) : Mt l G yX1_mostTelling cX1_mostTelling 4 (some .int) 3 [.ref (M.1)] (mh G M B S) (q_X1_mostTelling G M B S ) (0) (0) := by
  refine Mt.of (lv := [(0, .ref (M.1))]) (by decide) (Nat.le_of_ble_eq_true rfl) rfl (fun X => ?_)
  have h2 := hp0.nm
  refine x_iconst dX1_mostTelling_0 ?_
  refine x_istore_n (lv' := [(0, _), (1, _)]) dX1_mostTelling_1 rfl (by decide) ?_
  refine x_iconst dX1_mostTelling_2 ?_
  refine x_istore_n (lv' := [(0, _), (1, _), (2, _)]) dX1_mostTelling_3 rfl (by decide) ?_
  have L4 : ∀ (n4 : Nat) (k : Nat), (S.1 2 - k) < (n4 : Int) → (k : Int) ≤ S.1 2 → V G X cX1_mostTelling 4 yX1_mostTelling (some .int) 3 (q_X1_mostTelling G M B S ) (0) (0) 4 [(0, .ref (M.1)), (1, iv (maxZ (-1) (fun k => f_telling S k) k)), (2, iv (k))] [] (mh G M B S) (0) (0) := by
    intro n4
    induction n4 with
    | zero =>
      intro k hm hk
      exact absurd hm (by omega)
    | succ n4 ih4 =>
      intro k hm4 hk
      have h5 := maxZ_TR hp0 k hk
      refine x_iload_n dX1_mostTelling_4 rfl ?_
      refine x_aload_n dX1_mostTelling_5 rfl ?_
      refine m_get_names hM dX1_mostTelling_6 ?_
      refine x_icmp_ge 35 dX1_mostTelling_9 rfl (by omega) (by omega) (fun c_9 => ?_) (fun c_9 => ?_)
      · refine x_iload_n dX1_mostTelling_35 rfl ?_
        exact x_iret rfl ⟨ri (by rw [f_most, show (S.1 2).toNat = k by omega]), rfl⟩ dX1_mostTelling_36
      · refine x_aload_n dX1_mostTelling_12 rfl ?_
        refine x_iload_n dX1_mostTelling_13 rfl ?_
        refine k_X1_telling (a := k) hM dX1_mostTelling_14 (hp0) (by omega) ?_
        refine x_istore_n (lv' := [(0, _), (1, _), (2, _), (3, _)]) dX1_mostTelling_17 rfl (by decide) ?_
        have h6 := f_telling_R hp0 (a := k) (by omega)
        have h7 := hp0.len (k := k) (by omega)
        have J28 : V G X cX1_mostTelling 4 yX1_mostTelling (some .int) 3 (q_X1_mostTelling G M B S ) (0) (0) 28 [(0, .ref (M.1)), (1, iv (maxZ (-1) (fun k => f_telling S k) k)), (2, iv (k)), (3, iv (f_telling S k))] [iv (maxZ (-1) (fun k => f_telling S k) (k + 1))] (mh G M B S) (0) (0) := by
          refine x_istore_n (lv' := [(0, _), (1, _), (2, _), (3, _)]) dX1_mostTelling_28 rfl (by decide) ?_
          refine x_iinc (lv' := [(0, _), (1, _), (2, _), (3, _)]) dX1_mostTelling_29 rfl rfl (by decide) ?_
          refine x_goto 4 dX1_mostTelling_32 rfl ?_
          refine x_lvp [0, 1, 2] (lv' := [(0, _), (1, _), (2, _)]) rfl ?_
          exact ih4 (k + 1) (by omega) (by omega)
        refine x_iload_n dX1_mostTelling_18 rfl ?_
        refine x_iload_n dX1_mostTelling_19 rfl ?_
        refine x_icmp_le 27 dX1_mostTelling_20 rfl (by omega) (by omega) (fun c_20 => ?_) (fun c_20 => ?_)
        · refine x_iload_n dX1_mostTelling_27 rfl ?_
          exact x_ji (by rw [maxZ]; simp_all; try omega) J28
        · refine x_iload_n dX1_mostTelling_23 rfl ?_
          refine x_goto 28 dX1_mostTelling_24 rfl ?_
          exact x_ji (by rw [maxZ]; simp_all; try omega) J28
  exact L4 ((S.1 2).toNat + 1) (0) (by omega) (by omega)
theorem k_X1_mostTelling {G : Gw} {X : Cx} {cc : ByteArray} {nL : Nat} {y : MethodName} {ret : Option FieldType} {dp : Nat} {P : Option Value → Hp → Prop} {mc ms pc : Nat} {lv : List (Nat × Value)} {st : List Value} {kc ks : Nat} {M : Mg} {B : Hp} {S : Ms}  (hM : MOk M) (hd : decode cc pc = .ok (.invokevirtual 187, 3)) (hp0 : Wf S) (kk : V G X cc nL y ret dp P mc ms (pc + 3) lv (iv (f_most S) :: st) (mh G M B (S)) kc ks) (hy : y.cls = RX1 := by rfl) (hdp : 3 + 1 ≤ dp := by decide) (hrs : (st.map fun v => v.category).sum ≤ 8 := by first | decide | (simp [Value.category, iv, jv]; done)) : V G X cc nL y ret dp P mc ms pc lv (.ref M.1 :: st) (mh G M B S) kc ks := by
  refine x_callV (ci := 1) (T := TX1) (N := 33) (As := []) 0 (fun l => c_X1_mostTelling l G M B S  hM hp0) (by rw [hy]; exact q3120) q3122 qs109 q173 q3123 (by decide +kernel) hdp (by decide) (mh_o hM) rfl rfl rfl hrs hd (Nat.zero_le _) (Nat.zero_le _) (fun v h hv => ?_)
  obtain ⟨rfl, rfl⟩ := hv
  exact kk
abbrev q_X1_pressesAll (G : Gw) (M : Mg) (B : Hp) (S : Ms)  : Option Value → Hp → Prop := fun v_ h_ => v_ = some (iv (f_pressAll S)) ∧ h_ = mh G M B (S)
set_option maxHeartbeats 4000000 in
theorem c_X1_pressesAll (l : Launch) (G : Gw) (M : Mg) (B : Hp) (S : Ms)  (hM : MOk M) (hp0 : Wf S) : Mt l G yX1_pressesAll cX1_pressesAll 3 (some .int) 4 [.ref (M.1)] (mh G M B S) (q_X1_pressesAll G M B S ) (0) (0) := by
  refine Mt.of (lv := [(0, .ref (M.1))]) (by decide) (Nat.le_of_ble_eq_true rfl) rfl (fun X => ?_)
  have h2 := hp0.nm
  refine x_iconst dX1_pressesAll_0 ?_
  refine x_istore_n (lv' := [(0, _), (1, _)]) dX1_pressesAll_1 rfl (by decide) ?_
  refine x_iconst dX1_pressesAll_2 ?_
  refine x_istore_n (lv' := [(0, _), (1, _), (2, _)]) dX1_pressesAll_3 rfl (by decide) ?_
  have L4 : ∀ (n4 : Nat) (k : Nat), (S.1 2 - k) < (n4 : Int) → (k : Int) ≤ S.1 2 → V G X cX1_pressesAll 3 yX1_pressesAll (some .int) 4 (q_X1_pressesAll G M B S ) (0) (0) 4 [(0, .ref (M.1)), (1, iv (sumZ (fun k => S.2 5 k * f_presses S k) k)), (2, iv (k))] [] (mh G M B S) (0) (0) := by
    intro n4
    induction n4 with
    | zero =>
      intro k hm hk
      exact absurd hm (by omega)
    | succ n4 ih4 =>
      intro k hm4 hk
      refine x_iload_n dX1_pressesAll_4 rfl ?_
      refine x_aload_n dX1_pressesAll_5 rfl ?_
      refine m_get_names hM dX1_pressesAll_6 ?_
      refine x_icmp_ge 33 dX1_pressesAll_9 rfl (by omega) (by omega) (fun c_9 => ?_) (fun c_9 => ?_)
      · refine x_iload_n dX1_pressesAll_33 rfl ?_
        exact x_iret rfl ⟨ri (by rw [f_pressAll, show (S.1 2).toNat = k by omega]), rfl⟩ dX1_pressesAll_34
      · refine x_iload_n dX1_pressesAll_12 rfl ?_
        refine x_aload_n dX1_pressesAll_13 rfl ?_
        refine m_get_uses hM dX1_pressesAll_14 ?_
        refine x_iload_n dX1_pressesAll_17 rfl ?_
        refine m_ald hM (N := 14) rfl (by omega) (by decide) dX1_pressesAll_18 ?_
        refine x_aload_n dX1_pressesAll_19 rfl ?_
        refine x_iload_n dX1_pressesAll_20 rfl ?_
        refine k_X1_presses (a := k) hM dX1_pressesAll_21 (hp0) (by omega) ?_
        refine x_imul dX1_pressesAll_24 ?_
        refine x_iadd dX1_pressesAll_25 ?_
        refine x_istore_n (lv' := [(0, _), (1, _), (2, _)]) dX1_pressesAll_26 rfl (by decide) ?_
        refine x_iinc (lv' := [(0, _), (1, _), (2, _)]) dX1_pressesAll_27 rfl rfl (by decide) ?_
        refine x_goto 4 dX1_pressesAll_30 rfl ?_
        exact ih4 (k + 1) (by omega) (by omega)
  exact L4 ((S.1 2).toNat + 1) (0) (by omega) (by omega)
theorem k_X1_pressesAll {G : Gw} {X : Cx} {cc : ByteArray} {nL : Nat} {y : MethodName} {ret : Option FieldType} {dp : Nat} {P : Option Value → Hp → Prop} {mc ms pc : Nat} {lv : List (Nat × Value)} {st : List Value} {kc ks : Nat} {M : Mg} {B : Hp} {S : Ms}  (hM : MOk M) (hd : decode cc pc = .ok (.invokevirtual 190, 3)) (hp0 : Wf S) (kk : V G X cc nL y ret dp P mc ms (pc + 3) lv (iv (f_pressAll S) :: st) (mh G M B (S)) kc ks) (hy : y.cls = RX1 := by rfl) (hdp : 4 + 1 ≤ dp := by decide) (hrs : (st.map fun v => v.category).sum ≤ 8 := by first | decide | (simp [Value.category, iv, jv]; done)) : V G X cc nL y ret dp P mc ms pc lv (.ref M.1 :: st) (mh G M B S) kc ks := by
  refine x_callV (ci := 1) (T := TX1) (N := 33) (As := []) 0 (fun l => c_X1_pressesAll l G M B S  hM hp0) (by rw [hy]; exact q3124) q3126 qs110 q173 q3127 (by decide +kernel) hdp (by decide) (mh_o hM) rfl rfl rfl hrs hd (Nat.zero_le _) (Nat.zero_le _) (fun v h hv => ?_)
  obtain ⟨rfl, rfl⟩ := hv
  exact kk
abbrev q_X1_digitsAll (G : Gw) (M : Mg) (B : Hp) (S : Ms)  : Option Value → Hp → Prop := fun v_ h_ => v_ = some (iv (f_digits S)) ∧ h_ = mh G M B (S)
set_option maxHeartbeats 4000000 in
theorem c_X1_digitsAll (l : Launch) (G : Gw) (M : Mg) (B : Hp) (S : Ms)  (hM : MOk M) (hp0 : Wf S) : Mt l G yX1_digitsAll cX1_digitsAll 3 (some .int) 0 [.ref (M.1)] (mh G M B S) (q_X1_digitsAll G M B S ) (0) (0) := by
  refine Mt.of (lv := [(0, .ref (M.1))]) (by decide) (Nat.le_of_ble_eq_true rfl) rfl (fun X => ?_)
  have h2 := hp0.nm
  refine x_iconst dX1_digitsAll_0 ?_
  refine x_istore_n (lv' := [(0, _), (1, _)]) dX1_digitsAll_1 rfl (by decide) ?_
  refine x_iconst dX1_digitsAll_2 ?_
  refine x_istore_n (lv' := [(0, _), (1, _), (2, _)]) dX1_digitsAll_3 rfl (by decide) ?_
  have L4 : ∀ (n4 : Nat) (k : Nat), (S.1 2 - k) < (n4 : Int) → (k : Int) ≤ S.1 2 → V G X cX1_digitsAll 3 yX1_digitsAll (some .int) 0 (q_X1_digitsAll G M B S ) (0) (0) 4 [(0, .ref (M.1)), (1, iv (sumZ (fun k => S.2 5 k * S.2 3 k) k)), (2, iv (k))] [] (mh G M B S) (0) (0) := by
    intro n4
    induction n4 with
    | zero =>
      intro k hm hk
      exact absurd hm (by omega)
    | succ n4 ih4 =>
      intro k hm4 hk
      refine x_iload_n dX1_digitsAll_4 rfl ?_
      refine x_aload_n dX1_digitsAll_5 rfl ?_
      refine m_get_names hM dX1_digitsAll_6 ?_
      refine x_icmp_ge 34 dX1_digitsAll_9 rfl (by omega) (by omega) (fun c_9 => ?_) (fun c_9 => ?_)
      · refine x_iload_n dX1_digitsAll_34 rfl ?_
        exact x_iret rfl ⟨ri (by rw [f_digits, show (S.1 2).toNat = k by omega]), rfl⟩ dX1_digitsAll_35
      · refine x_iload_n dX1_digitsAll_12 rfl ?_
        refine x_aload_n dX1_digitsAll_13 rfl ?_
        refine m_get_uses hM dX1_digitsAll_14 ?_
        refine x_iload_n dX1_digitsAll_17 rfl ?_
        refine m_ald hM (N := 14) rfl (by omega) (by decide) dX1_digitsAll_18 ?_
        refine x_aload_n dX1_digitsAll_19 rfl ?_
        refine m_get_length hM dX1_digitsAll_20 ?_
        refine x_iload_n dX1_digitsAll_23 rfl ?_
        refine m_ald hM (N := 14) rfl (by omega) (by decide) dX1_digitsAll_24 ?_
        refine x_imul dX1_digitsAll_25 ?_
        refine x_iadd dX1_digitsAll_26 ?_
        refine x_istore_n (lv' := [(0, _), (1, _), (2, _)]) dX1_digitsAll_27 rfl (by decide) ?_
        refine x_iinc (lv' := [(0, _), (1, _), (2, _)]) dX1_digitsAll_28 rfl rfl (by decide) ?_
        refine x_goto 4 dX1_digitsAll_31 rfl ?_
        exact ih4 (k + 1) (by omega) (by omega)
  exact L4 ((S.1 2).toNat + 1) (0) (by omega) (by omega)
theorem k_X1_digitsAll {G : Gw} {X : Cx} {cc : ByteArray} {nL : Nat} {y : MethodName} {ret : Option FieldType} {dp : Nat} {P : Option Value → Hp → Prop} {mc ms pc : Nat} {lv : List (Nat × Value)} {st : List Value} {kc ks : Nat} {M : Mg} {B : Hp} {S : Ms}  (hM : MOk M) (hd : decode cc pc = .ok (.invokevirtual 193, 3)) (hp0 : Wf S) (kk : V G X cc nL y ret dp P mc ms (pc + 3) lv (iv (f_digits S) :: st) (mh G M B (S)) kc ks) (hy : y.cls = RX1 := by rfl) (hdp : 0 + 1 ≤ dp := by decide) (hrs : (st.map fun v => v.category).sum ≤ 8 := by first | decide | (simp [Value.category, iv, jv]; done)) : V G X cc nL y ret dp P mc ms pc lv (.ref M.1 :: st) (mh G M B S) kc ks := by
  refine x_callV (ci := 1) (T := TX1) (N := 33) (As := []) 0 (fun l => c_X1_digitsAll l G M B S  hM hp0) (by rw [hy]; exact q3128) q3130 qs111 q173 q3131 (by decide +kernel) hdp (by decide) (mh_o hM) rfl rfl rfl hrs hd (Nat.zero_le _) (Nat.zero_le _) (fun v h hv => ?_)
  obtain ⟨rfl, rfl⟩ := hv
  exact kk
