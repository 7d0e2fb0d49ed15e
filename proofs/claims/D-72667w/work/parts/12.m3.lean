/-! MODEL 3: page, typed, choices, counts -/
set_option maxRecDepth 100000
abbrev q_X1_letter (G : Gw) (M : Mg) (B : Hp) (S : Ms) (c : Int) : Option Value → Hp → Prop := fun v_ h_ => v_ = some (iv (f_letter S c)) ∧ h_ = mh G M B (s_letter S c)
set_option maxHeartbeats 4000000 in
theorem c_X1_letter (l : Launch) (G : Gw) (M : Mg) (B : Hp) (S : Ms) (c : Int) (hM : MOk M) (hp0 : Wp S) (hp1 : -2147483648 ≤ c ∧ c ≤ 2147483647) : Mt l G yX1_letter cX1_letter 2 (some .int) 1 [.ref (M.1), iv (c)] (mh G M B S) (q_X1_letter G M B S c) (0) (0) := by
  refine Mt.of (lv := [(0, .ref (M.1)), (1, iv (c))]) (by decide) (Nat.le_of_ble_eq_true rfl) rfl (fun X => ?_)
  have h1 := hp0.1
  refine x_iload_n dX1_letter_0 rfl ?_
  refine x_bipush dX1_letter_1 ?_
  refine x_bipush dX1_letter_3 ?_
  refine k_X1_within (v := c) (lo := 32) (hi := 126) hM dX1_letter_5 (hp1) (by decide) (by decide) ?_
  refine x_ifb_ne 14 dX1_letter_8 rfl (fun c_8 => ?_) (fun c_8 => ?_)
  · refine x_aload_n dX1_letter_14 rfl ?_
    refine m_get_pageLength hM dX1_letter_15 ?_
    refine x_bipush dX1_letter_18 ?_
    refine x_icmp_ne 26 dX1_letter_20 rfl (by omega) (by omega) (fun c_20 => ?_) (fun c_20 => ?_)
    · refine x_aload_n dX1_letter_26 rfl ?_
      refine m_get_page hM dX1_letter_27 ?_
      refine x_aload_n dX1_letter_30 rfl ?_
      refine m_get_pageLength hM dX1_letter_31 ?_
      refine x_iload_n dX1_letter_34 rfl ?_
      refine m_ast hM (N := 50) rfl (by omega) (by decide) dX1_letter_35 ?_
      refine x_aload_n dX1_letter_36 rfl ?_
      refine x_dup dX1_letter_37 ?_
      refine m_get_pageLength hM dX1_letter_38 ?_
      refine x_iconst dX1_letter_41 ?_
      refine x_iadd dX1_letter_42 ?_
      refine m_put_pageLength hM dX1_letter_43 ?_
      refine x_aload_n dX1_letter_46 rfl ?_
      refine m_get_pageLength hM dX1_letter_47 ?_
      exact x_iret rfl ⟨ri (by rw [f_letter, if_pos c_8, if_neg c_20] <;> rfl), by rw [s_letter, if_pos c_8, if_neg c_20] <;> rfl⟩ dX1_letter_50
    · refine x_bipush dX1_letter_23 ?_
      exact x_iret rfl ⟨ri (by rw [f_letter, if_pos c_8, if_pos c_20]), by rw [s_letter, if_pos c_8, if_pos c_20]⟩ dX1_letter_25
  · refine x_bipush dX1_letter_11 ?_
    exact x_iret rfl ⟨ri (by rw [f_letter, if_neg (bf c_8)]), by rw [s_letter, if_neg (bf c_8)]⟩ dX1_letter_13
abbrev q_X1_blank (G : Gw) (M : Mg) (B : Hp) (S : Ms)  : Option Value → Hp → Prop := fun v_ h_ => v_ = some (iv (S.1 0)) ∧ h_ = mh G M B (sv S 0 0)
set_option maxHeartbeats 4000000 in
theorem c_X1_blank (l : Launch) (G : Gw) (M : Mg) (B : Hp) (S : Ms)  (hM : MOk M)  : Mt l G yX1_blank cX1_blank 2 (some .int) 0 [.ref (M.1)] (mh G M B S) (q_X1_blank G M B S ) (0) (0) := by
  refine Mt.of (lv := [(0, .ref (M.1))]) (by decide) (Nat.le_of_ble_eq_true rfl) rfl (fun X => ?_)
  refine x_aload_n dX1_blank_0 rfl ?_
  refine m_get_pageLength hM dX1_blank_1 ?_
  refine x_istore_n (lv' := [(0, _), (1, _)]) dX1_blank_4 rfl (by decide) ?_
  refine x_aload_n dX1_blank_5 rfl ?_
  refine x_iconst dX1_blank_6 ?_
  refine m_put_pageLength hM dX1_blank_7 ?_
  refine x_iload_n dX1_blank_10 rfl ?_
  exact x_iret rfl ⟨ri (by first | rfl | (simp_all; done) | (simp; omega) | (simp_all; omega)), rfl⟩ dX1_blank_11
abbrev q_X1_press (G : Gw) (M : Mg) (B : Hp) (S : Ms) (d : Int) : Option Value → Hp → Prop := fun v_ h_ => v_ = some (iv (f_press S d)) ∧ h_ = mh G M B (s_press S d)
set_option maxHeartbeats 4000000 in
theorem c_X1_press (l : Launch) (G : Gw) (M : Mg) (B : Hp) (S : Ms) (d : Int) (hM : MOk M) (hp0 : Wt S) (hp1 : -2147483648 ≤ d ∧ d ≤ 2147483647) : Mt l G yX1_press cX1_press 2 (some .int) 1 [.ref (M.1), iv (d)] (mh G M B S) (q_X1_press G M B S d) (0) (0) := by
  refine Mt.of (lv := [(0, .ref (M.1)), (1, iv (d))]) (by decide) (Nat.le_of_ble_eq_true rfl) rfl (fun X => ?_)
  have h1 := hp0.1
  refine x_iload_n dX1_press_0 rfl ?_
  refine x_iconst dX1_press_1 ?_
  refine x_bipush dX1_press_2 ?_
  refine k_X1_within (v := d) (lo := 2) (hi := 9) hM dX1_press_4 (hp1) (by decide) (by decide) ?_
  refine x_ifb_ne 13 dX1_press_7 rfl (fun c_7 => ?_) (fun c_7 => ?_)
  · refine x_aload_n dX1_press_13 rfl ?_
    refine m_get_typedMany hM dX1_press_14 ?_
    refine x_bipush dX1_press_17 ?_
    refine x_icmp_ne 25 dX1_press_19 rfl (by omega) (by omega) (fun c_19 => ?_) (fun c_19 => ?_)
    · refine x_aload_n dX1_press_25 rfl ?_
      refine m_get_typedAt hM dX1_press_26 ?_
      refine x_aload_n dX1_press_29 rfl ?_
      refine m_get_typedMany hM dX1_press_30 ?_
      refine x_iload_n dX1_press_33 rfl ?_
      refine m_ast hM (N := 10) rfl (by omega) (by decide) dX1_press_34 ?_
      refine x_aload_n dX1_press_35 rfl ?_
      refine x_dup dX1_press_36 ?_
      refine m_get_typedMany hM dX1_press_37 ?_
      refine x_iconst dX1_press_40 ?_
      refine x_iadd dX1_press_41 ?_
      refine m_put_typedMany hM dX1_press_42 ?_
      refine x_aload_n dX1_press_45 rfl ?_
      refine m_get_typedMany hM dX1_press_46 ?_
      exact x_iret rfl ⟨ri (by rw [f_press, if_pos c_7, if_neg c_19] <;> rfl), by rw [s_press, if_pos c_7, if_neg c_19] <;> rfl⟩ dX1_press_49
    · refine x_bipush dX1_press_22 ?_
      exact x_iret rfl ⟨ri (by rw [f_press, if_pos c_7, if_pos c_19]), by rw [s_press, if_pos c_7, if_pos c_19]⟩ dX1_press_24
  · refine x_bipush dX1_press_10 ?_
    exact x_iret rfl ⟨ri (by rw [f_press, if_neg (bf c_7)]), by rw [s_press, if_neg (bf c_7)]⟩ dX1_press_12
abbrev q_X1_back (G : Gw) (M : Mg) (B : Hp) (S : Ms)  : Option Value → Hp → Prop := fun v_ h_ => v_ = some (iv (f_back S)) ∧ h_ = mh G M B (s_back S)
set_option maxHeartbeats 4000000 in
theorem c_X1_back (l : Launch) (G : Gw) (M : Mg) (B : Hp) (S : Ms)  (hM : MOk M) (hp0 : Wt S) : Mt l G yX1_back cX1_back 1 (some .int) 0 [.ref (M.1)] (mh G M B S) (q_X1_back G M B S ) (0) (0) := by
  refine Mt.of (lv := [(0, .ref (M.1))]) (by decide) (Nat.le_of_ble_eq_true rfl) rfl (fun X => ?_)
  have h1 := hp0.1
  refine x_aload_n dX1_back_0 rfl ?_
  refine m_get_typedMany hM dX1_back_1 ?_
  refine x_if_ne 10 dX1_back_4 rfl (by omega) (fun c_4 => ?_) (fun c_4 => ?_)
  · refine x_aload_n dX1_back_10 rfl ?_
    refine x_dup dX1_back_11 ?_
    refine m_get_typedMany hM dX1_back_12 ?_
    refine x_iconst dX1_back_15 ?_
    refine x_isub dX1_back_16 ?_
    refine m_put_typedMany hM dX1_back_17 ?_
    refine x_aload_n dX1_back_20 rfl ?_
    refine m_get_typedMany hM dX1_back_21 ?_
    exact x_iret rfl ⟨ri (by rw [f_back, if_neg c_4] <;> rfl), by rw [s_back, if_neg c_4] <;> rfl⟩ dX1_back_24
  · refine x_bipush dX1_back_7 ?_
    exact x_iret rfl ⟨ri (by rw [f_back, if_pos c_4]), by rw [s_back, if_pos c_4]⟩ dX1_back_9
abbrev q_X1_wipe (G : Gw) (M : Mg) (B : Hp) (S : Ms)  : Option Value → Hp → Prop := fun v_ h_ => v_ = some (iv (S.1 10)) ∧ h_ = mh G M B (sv S 10 0)
set_option maxHeartbeats 4000000 in
theorem c_X1_wipe (l : Launch) (G : Gw) (M : Mg) (B : Hp) (S : Ms)  (hM : MOk M)  : Mt l G yX1_wipe cX1_wipe 2 (some .int) 0 [.ref (M.1)] (mh G M B S) (q_X1_wipe G M B S ) (0) (0) := by
  refine Mt.of (lv := [(0, .ref (M.1))]) (by decide) (Nat.le_of_ble_eq_true rfl) rfl (fun X => ?_)
  refine x_aload_n dX1_wipe_0 rfl ?_
  refine m_get_typedMany hM dX1_wipe_1 ?_
  refine x_istore_n (lv' := [(0, _), (1, _)]) dX1_wipe_4 rfl (by decide) ?_
  refine x_aload_n dX1_wipe_5 rfl ?_
  refine x_iconst dX1_wipe_6 ?_
  refine m_put_typedMany hM dX1_wipe_7 ?_
  refine x_iload_n dX1_wipe_10 rfl ?_
  exact x_iret rfl ⟨ri (by first | rfl | (simp_all; done) | (simp; omega) | (simp_all; omega)), rfl⟩ dX1_wipe_11
abbrev q_X1_typed (G : Gw) (M : Mg) (B : Hp) (S : Ms) (p : Int) : Option Value → Hp → Prop := fun v_ h_ => v_ = some (iv (f_typed S p)) ∧ h_ = mh G M B (S)
set_option maxHeartbeats 4000000 in
theorem c_X1_typed (l : Launch) (G : Gw) (M : Mg) (B : Hp) (S : Ms) (p : Int) (hM : MOk M) (hp0 : Wt S) (hp1 : -2147483648 ≤ p ∧ p ≤ 2147483647) : Mt l G yX1_typed cX1_typed 2 (some .int) 1 [.ref (M.1), iv (p)] (mh G M B S) (q_X1_typed G M B S p) (0) (0) := by
  refine Mt.of (lv := [(0, .ref (M.1)), (1, iv (p))]) (by decide) (Nat.le_of_ble_eq_true rfl) rfl (fun X => ?_)
  have h1 := hp0.1
  refine x_iload_n dX1_typed_0 rfl ?_
  refine x_iconst dX1_typed_1 ?_
  refine x_aload_n dX1_typed_2 rfl ?_
  refine m_get_typedMany hM dX1_typed_3 ?_
  refine x_iconst dX1_typed_6 ?_
  refine x_isub dX1_typed_7 ?_
  refine k_X1_within (v := p) (lo := 0) (hi := (S.1 10) - 1) hM dX1_typed_8 (hp1) (by decide) (by omega) ?_
  refine x_ifb_eq 23 dX1_typed_11 rfl (fun c_11 => ?_) (fun c_11 => ?_)
  · refine x_bipush dX1_typed_23 ?_
    exact x_iret rfl ⟨ri (by rw [f_typed, if_neg (bf c_11)]), rfl⟩ dX1_typed_25
  · have h9 : 0 ≤ p ∧ p < S.1 10 := by simp at c_11; omega
    refine x_aload_n dX1_typed_14 rfl ?_
    refine m_get_typedAt hM dX1_typed_15 ?_
    refine x_iload_n dX1_typed_18 rfl ?_
    refine m_ald hM (N := 10) rfl (by omega) (by decide) dX1_typed_19 ?_
    refine x_goto 25 dX1_typed_20 rfl ?_
    exact x_iret rfl ⟨ri (by rw [f_typed, if_pos c_11]), rfl⟩ dX1_typed_25
abbrev q_X1_isChosen (G : Gw) (M : Mg) (B : Hp) (S : Ms) (a : Int) : Option Value → Hp → Prop := fun v_ h_ => v_ = some (iv (bI (f_chosen S a))) ∧ h_ = mh G M B (S)
set_option maxHeartbeats 4000000 in
theorem c_X1_isChosen (l : Launch) (G : Gw) (M : Mg) (B : Hp) (S : Ms) (a : Int) (hM : MOk M) (hp0 : Wf S) (hp1 : Wt S) (hp2 : 0 ≤ a ∧ a < S.1 2) : Mt l G yX1_isChosen cX1_isChosen 4 (some .boolean) 1 [.ref (M.1), iv (a)] (mh G M B S) (q_X1_isChosen G M B S a) (0) (0) := by
  refine Mt.of (lv := [(0, .ref (M.1)), (1, iv (a))]) (by decide) (Nat.le_of_ble_eq_true rfl) rfl (fun X => ?_)
  have h2 := hp0.nm
  have h3 := hp1.1
  have h4 := hp0.len hp2
  have J18 : V G X cX1_isChosen 4 yX1_isChosen (some .boolean) 1 (q_X1_isChosen G M B S a) (0) (0) 18 [(0, .ref (M.1)), (1, iv (a))] [iv (bI (decide (S.1 10 ≤ S.2 3 a)))] (mh G M B S) (0) (0) := by
    refine x_istore_n (lv' := [(0, _), (1, _), (2, _)]) dX1_isChosen_18 rfl (by decide) ?_
    refine x_iconst dX1_isChosen_19 ?_
    refine x_istore_n (lv' := [(0, _), (1, _), (2, _), (3, _)]) dX1_isChosen_20 rfl (by decide) ?_
    have L21 : ∀ (n21 : Nat) (k : Nat) (is : Bool), (S.1 10 - k) < (n21 : Int) → (k : Int) ≤ S.1 10 → is = (decide (S.1 10 ≤ S.2 3 a) && allB (fun i => decide (f_code S a i = S.2 11 i)) k) → V G X cX1_isChosen 4 yX1_isChosen (some .boolean) 1 (q_X1_isChosen G M B S a) (0) (0) 21 [(0, .ref (M.1)), (1, iv (a)), (2, iv (bI (is))), (3, iv (k))] [] (mh G M B S) (0) (0) := by
      intro n21
      induction n21 with
      | zero =>
        intro k is hm hk hi
        exact absurd hm (by omega)
      | succ n21 ih21 =>
        intro k is hm21 hk hi
        refine x_iload_n dX1_isChosen_21 rfl ?_
        refine x_aload_n dX1_isChosen_22 rfl ?_
        refine m_get_typedMany hM dX1_isChosen_23 ?_
        refine x_icmp_ge 60 dX1_isChosen_26 rfl (by omega) (by omega) (fun c_26 => ?_) (fun c_26 => ?_)
        · refine x_iload_n dX1_isChosen_60 rfl ?_
          exact x_zret rfl (nar_b _) ⟨congrArg (fun b => some (iv (bI b))) (by rw [hi, f_chosen]; congr 2; omega), rfl⟩ dX1_isChosen_61
        · refine x_iload_n dX1_isChosen_29 rfl ?_
          refine x_ifb_eq 60 dX1_isChosen_30 rfl (fun c_30 => ?_) (fun c_30 => ?_)
          · refine x_iload_n dX1_isChosen_60 rfl ?_
            exact x_zret rfl (nar_b _) ⟨congrArg (fun b => some (iv (bI b))) (by rw [c_30] at hi; rw [c_30, f_chosen]; cases h9 : decide (S.1 10 ≤ S.2 3 a) with | false => rfl | true => (rw [h9, Bool.true_and] at hi; rw [allB_f k (by omega) hi.symm]; rfl)), rfl⟩ dX1_isChosen_61
          · have J53 : V G X cX1_isChosen 4 yX1_isChosen (some .boolean) 1 (q_X1_isChosen G M B S a) (0) (0) 53 [(0, .ref (M.1)), (1, iv (a)), (2, iv (bI (is))), (3, iv (k))] [iv (bI (decide (f_code S a k = S.2 11 k)))] (mh G M B S) (0) (0) := by
              refine x_istore_n (lv' := [(0, _), (1, _), (2, _), (3, _)]) dX1_isChosen_53 rfl (by decide) ?_
              refine x_iinc (lv' := [(0, _), (1, _), (2, _), (3, _)]) dX1_isChosen_54 rfl rfl (by decide) ?_
              refine x_goto 21 dX1_isChosen_57 rfl ?_
              exact ih21 (k + 1) (_) (by omega) (by omega) (by rw [c_30] at hi; have hi := hi.symm; simp only [Bool.and_eq_true] at hi; simp [allB, hi.1, hi.2])
            refine x_aload_n dX1_isChosen_33 rfl ?_
            refine x_iload_n dX1_isChosen_34 rfl ?_
            refine x_iload_n dX1_isChosen_35 rfl ?_
            refine k_X1_codeAt (a := a) (i := k) hM dX1_isChosen_36 (hp0) (hp2) (by have hi := hi; rw [c_30] at hi; have hi := hi.symm; simp only [Bool.and_eq_true, decide_eq_true_eq] at hi; omega) ?_
            refine x_aload_n dX1_isChosen_39 rfl ?_
            refine m_get_typedAt hM dX1_isChosen_40 ?_
            refine x_iload_n dX1_isChosen_43 rfl ?_
            refine m_ald hM (N := 10) rfl (by omega) (by decide) dX1_isChosen_44 ?_
            refine x_icmp_ne 52 dX1_isChosen_45 rfl (by have hi := hi; rw [c_30] at hi; have hi := hi.symm; simp only [Bool.and_eq_true, decide_eq_true_eq] at hi; have := hp0.code hp2 (i := k) (by omega); omega) (by have := hp1.2 k (by omega) (by omega); omega) (fun c_45 => ?_) (fun c_45 => ?_)
            · refine x_iconst dX1_isChosen_52 ?_
              exact x_jf (by first | (simp_all; done) | (simp; omega) | (simp_all; omega)) J53
            · refine x_iconst dX1_isChosen_48 ?_
              refine x_goto 53 dX1_isChosen_49 rfl ?_
              exact x_jt (by first | (simp_all; done) | (simp; omega) | (simp_all; omega)) J53
    exact L21 ((S.1 10).toNat + 1) (0) (_) (by omega) (by omega) (by simp [allB])
  refine x_aload_n dX1_isChosen_0 rfl ?_
  refine m_get_typedMany hM dX1_isChosen_1 ?_
  refine x_aload_n dX1_isChosen_4 rfl ?_
  refine m_get_length hM dX1_isChosen_5 ?_
  refine x_iload_n dX1_isChosen_8 rfl ?_
  refine m_ald hM (N := 14) rfl (by omega) (by decide) dX1_isChosen_9 ?_
  refine x_icmp_gt 17 dX1_isChosen_10 rfl (by omega) (by omega) (fun c_10 => ?_) (fun c_10 => ?_)
  · refine x_iconst dX1_isChosen_17 ?_
    exact x_jf (by first | (simp_all; done) | (simp; omega) | (simp_all; omega)) J18
  · refine x_iconst dX1_isChosen_13 ?_
    refine x_goto 18 dX1_isChosen_14 rfl ?_
    exact x_jt (by first | (simp_all; done) | (simp; omega) | (simp_all; omega)) J18
theorem k_X1_isChosen {G : Gw} {X : Cx} {cc : ByteArray} {nL : Nat} {y : MethodName} {ret : Option FieldType} {dp : Nat} {P : Option Value → Hp → Prop} {mc ms pc : Nat} {lv : List (Nat × Value)} {st : List Value} {kc ks : Nat} {M : Mg} {B : Hp} {S : Ms} {a : Int} (hM : MOk M) (hd : decode cc pc = .ok (.invokevirtual 202, 3)) (hp0 : Wf S) (hp1 : Wt S) (hp2 : 0 ≤ a ∧ a < S.1 2) (kk : V G X cc nL y ret dp P mc ms (pc + 3) lv (iv (bI (f_chosen S a)) :: st) (mh G M B (S)) kc ks) (hy : y.cls = RX1 := by rfl) (hdp : 1 + 1 ≤ dp := by decide) (hrs : (st.map fun v => v.category).sum ≤ 8 := by first | decide | (simp [Value.category, iv, jv]; done)) : V G X cc nL y ret dp P mc ms pc lv (iv (a) :: .ref M.1 :: st) (mh G M B S) kc ks := by
  refine x_callV (ci := 1) (T := TX1) (N := 33) (As := [iv (a)]) 1 (fun l => c_X1_isChosen l G M B S a hM hp0 hp1 hp2) (by rw [hy]; exact q3152) q3154 qs112 q173 q3155 (by decide +kernel) hdp (by decide) (mh_o hM) rfl rfl rfl hrs hd (Nat.zero_le _) (Nat.zero_le _) (fun v h hv => ?_)
  obtain ⟨rfl, rfl⟩ := hv
  exact kk
abbrev q_X1_chosenAhead (G : Gw) (M : Mg) (B : Hp) (S : Ms) (a : Int) : Option Value → Hp → Prop := fun v_ h_ => v_ = some (iv (f_chAhead S a)) ∧ h_ = mh G M B (S)
set_option maxHeartbeats 4000000 in
theorem c_X1_chosenAhead (l : Launch) (G : Gw) (M : Mg) (B : Hp) (S : Ms) (a : Int) (hM : MOk M) (hp0 : Wf S) (hp1 : Wt S) (hp2 : 0 ≤ a ∧ a < S.1 2) : Mt l G yX1_chosenAhead cX1_chosenAhead 4 (some .int) 2 [.ref (M.1), iv (a)] (mh G M B S) (q_X1_chosenAhead G M B S a) (0) (0) := by
  refine Mt.of (lv := [(0, .ref (M.1)), (1, iv (a))]) (by decide) (Nat.le_of_ble_eq_true rfl) rfl (fun X => ?_)
  have h2 := hp0.nm
  refine x_iconst dX1_chosenAhead_0 ?_
  refine x_istore_n (lv' := [(0, _), (1, _), (2, _)]) dX1_chosenAhead_1 rfl (by decide) ?_
  refine x_iconst dX1_chosenAhead_2 ?_
  refine x_istore_n (lv' := [(0, _), (1, _), (2, _), (3, _)]) dX1_chosenAhead_3 rfl (by decide) ?_
  have L4 : ∀ (n4 : Nat) (k : Nat), (S.1 2 - k) < (n4 : Int) → (k : Int) ≤ S.1 2 → V G X cX1_chosenAhead 4 yX1_chosenAhead (some .int) 2 (q_X1_chosenAhead G M B S a) (0) (0) 4 [(0, .ref (M.1)), (1, iv (a)), (2, iv (cntB (fun k => f_chosen S k && f_ahead S k a) k)), (3, iv (k))] [] (mh G M B S) (0) (0) := by
    intro n4
    induction n4 with
    | zero =>
      intro k hm hk
      exact absurd hm (by omega)
    | succ n4 ih4 =>
      intro k hm4 hk
      refine x_iload_n dX1_chosenAhead_4 rfl ?_
      refine x_aload_n dX1_chosenAhead_5 rfl ?_
      refine m_get_names hM dX1_chosenAhead_6 ?_
      refine x_icmp_ge 43 dX1_chosenAhead_9 rfl (by omega) (by omega) (fun c_9 => ?_) (fun c_9 => ?_)
      · refine x_iload_n dX1_chosenAhead_43 rfl ?_
        exact x_iret rfl ⟨ri (by rw [f_chAhead, show (S.1 2).toNat = k by omega]), rfl⟩ dX1_chosenAhead_44
      · refine x_iload_n dX1_chosenAhead_12 rfl ?_
        have J35 : V G X cX1_chosenAhead 4 yX1_chosenAhead (some .int) 2 (q_X1_chosenAhead G M B S a) (0) (0) 35 [(0, .ref (M.1)), (1, iv (a)), (2, iv (cntB (fun k => f_chosen S k && f_ahead S k a) k)), (3, iv (k))] [iv (bI (f_chosen S k && f_ahead S k a)), iv (cntB (fun k => f_chosen S k && f_ahead S k a) k)] (mh G M B S) (0) (0) := by
          refine x_iadd dX1_chosenAhead_35 ?_
          refine x_istore_n (lv' := [(0, _), (1, _), (2, _), (3, _)]) dX1_chosenAhead_36 rfl (by decide) ?_
          refine x_iinc (lv' := [(0, _), (1, _), (2, _), (3, _)]) dX1_chosenAhead_37 rfl rfl (by decide) ?_
          refine x_goto 4 dX1_chosenAhead_40 rfl ?_
          exact ih4 (k + 1) (by omega) (by omega)
        refine x_aload_n dX1_chosenAhead_13 rfl ?_
        refine x_iload_n dX1_chosenAhead_14 rfl ?_
        refine k_X1_isChosen (a := k) hM dX1_chosenAhead_15 (hp0) (hp1) (by omega) ?_
        refine x_ifb_eq 34 dX1_chosenAhead_18 rfl (fun c_18 => ?_) (fun c_18 => ?_)
        · refine x_iconst dX1_chosenAhead_34 ?_
          exact x_ji (by simp_all [bI]) J35
        · refine x_aload_n dX1_chosenAhead_21 rfl ?_
          refine x_iload_n dX1_chosenAhead_22 rfl ?_
          refine x_iload_n dX1_chosenAhead_23 rfl ?_
          refine k_X1_isAhead (a := k) (b := a) hM dX1_chosenAhead_24 (hp0) (by omega) (hp2) ?_
          refine x_ifb_eq 34 dX1_chosenAhead_27 rfl (fun c_27 => ?_) (fun c_27 => ?_)
          · refine x_iconst dX1_chosenAhead_34 ?_
            exact x_ji (by simp_all [bI]) J35
          · refine x_iconst dX1_chosenAhead_30 ?_
            refine x_goto 35 dX1_chosenAhead_31 rfl ?_
            exact x_ji (by simp_all [bI]) J35
  exact L4 ((S.1 2).toNat + 1) (0) (by omega) (by omega)
theorem k_X1_chosenAhead {G : Gw} {X : Cx} {cc : ByteArray} {nL : Nat} {y : MethodName} {ret : Option FieldType} {dp : Nat} {P : Option Value → Hp → Prop} {mc ms pc : Nat} {lv : List (Nat × Value)} {st : List Value} {kc ks : Nat} {M : Mg} {B : Hp} {S : Ms} {a : Int} (hM : MOk M) (hd : decode cc pc = .ok (.invokevirtual 205, 3)) (hp0 : Wf S) (hp1 : Wt S) (hp2 : 0 ≤ a ∧ a < S.1 2) (kk : V G X cc nL y ret dp P mc ms (pc + 3) lv (iv (f_chAhead S a) :: st) (mh G M B (S)) kc ks) (hy : y.cls = RX1 := by rfl) (hdp : 2 + 1 ≤ dp := by decide) (hrs : (st.map fun v => v.category).sum ≤ 8 := by first | decide | (simp [Value.category, iv, jv]; done)) : V G X cc nL y ret dp P mc ms pc lv (iv (a) :: .ref M.1 :: st) (mh G M B S) kc ks := by
  refine x_callV (ci := 1) (T := TX1) (N := 33) (As := [iv (a)]) 1 (fun l => c_X1_chosenAhead l G M B S a hM hp0 hp1 hp2) (by rw [hy]; exact q3156) q3158 qs113 q173 q3159 (by decide +kernel) hdp (by decide) (mh_o hM) rfl rfl rfl hrs hd (Nat.zero_le _) (Nat.zero_le _) (fun v h hv => ?_)
  obtain ⟨rfl, rfl⟩ := hv
  exact kk
abbrev q_X1_choice (G : Gw) (M : Mg) (B : Hp) (S : Ms) (p : Int) : Option Value → Hp → Prop := fun v_ h_ => v_ = some (iv (f_choice S p)) ∧ h_ = mh G M B (S)
set_option maxHeartbeats 4000000 in
theorem c_X1_choice (l : Launch) (G : Gw) (M : Mg) (B : Hp) (S : Ms) (p : Int) (hM : MOk M) (hp0 : Wf S) (hp1 : Wt S) (hp2 : -2147483648 ≤ p ∧ p ≤ 2147483647) : Mt l G yX1_choice cX1_choice 3 (some .int) 3 [.ref (M.1), iv (p)] (mh G M B S) (q_X1_choice G M B S p) (0) (0) := by
  refine Mt.of (lv := [(0, .ref (M.1)), (1, iv (p))]) (by decide) (Nat.le_of_ble_eq_true rfl) rfl (fun X => ?_)
  have h2 := hp0.nm
  refine x_iconst dX1_choice_0 ?_
  refine x_istore_n (lv' := [(0, _), (1, _), (2, _)]) dX1_choice_1 rfl (by decide) ?_
  have L2 : ∀ (n2 : Nat) (k : Nat), (S.1 2 - k) < (n2 : Int) → (k : Int) ≤ S.1 2 → f_choice S p = firstB (fun k => f_chosen S k && decide (f_chAhead S k = p)) (-101) (S.1 2 - k).toNat k → V G X cX1_choice 3 yX1_choice (some .int) 3 (q_X1_choice G M B S p) (0) (0) 2 [(0, .ref (M.1)), (1, iv (p)), (2, iv (k))] [] (mh G M B S) (0) (0) := by
    intro n2
    induction n2 with
    | zero =>
      intro k hm hk hf
      exact absurd hm (by omega)
    | succ n2 ih2 =>
      intro k hm2 hk hf
      refine x_iload_n dX1_choice_2 rfl ?_
      refine x_aload_n dX1_choice_3 rfl ?_
      refine m_get_names hM dX1_choice_4 ?_
      refine x_icmp_ge 35 dX1_choice_7 rfl (by omega) (by omega) (fun c_7 => ?_) (fun c_7 => ?_)
      · refine x_bipush dX1_choice_35 ?_
        exact x_iret rfl ⟨ri (by rw [hf, show (S.1 2 - (k : Int)).toNat = 0 by omega]; rfl), rfl⟩ dX1_choice_37
      · refine x_aload_n dX1_choice_10 rfl ?_
        refine x_iload_n dX1_choice_11 rfl ?_
        refine k_X1_isChosen (a := k) hM dX1_choice_12 (hp0) (hp1) (by omega) ?_
        refine x_ifb_eq 29 dX1_choice_15 rfl (fun c_15 => ?_) (fun c_15 => ?_)
        · refine x_iinc (lv' := [(0, _), (1, _), (2, _)]) dX1_choice_29 rfl rfl (by decide) ?_
          refine x_goto 2 dX1_choice_32 rfl ?_
          exact ih2 (k + 1) (by omega) (by omega) (by rw [hf, firstB_s (by simp_all) (by omega)]; congr 1; omega)
        · refine x_aload_n dX1_choice_18 rfl ?_
          refine x_iload_n dX1_choice_19 rfl ?_
          refine k_X1_chosenAhead (a := k) hM dX1_choice_20 (hp0) (hp1) (by omega) ?_
          refine x_iload_n dX1_choice_23 rfl ?_
          refine x_icmp_ne 29 dX1_choice_24 rfl (by have := cntB_R (p := fun j => f_chosen S j && f_ahead S j k) (n := (S.1 2).toNat); unfold f_chAhead; omega) (by omega) (fun c_24 => ?_) (fun c_24 => ?_)
          · refine x_iinc (lv' := [(0, _), (1, _), (2, _)]) dX1_choice_29 rfl rfl (by decide) ?_
            refine x_goto 2 dX1_choice_32 rfl ?_
            exact ih2 (k + 1) (by omega) (by omega) (by rw [hf, firstB_s (by simp_all) (by omega)]; congr 1; omega)
          · refine x_iload_n dX1_choice_27 rfl ?_
            exact x_iret rfl ⟨ri (by rw [hf, firstB_t (by simp_all) (by omega)]), rfl⟩ dX1_choice_28
  exact L2 ((S.1 2).toNat + 1) (0) (by omega) (by omega) (by simp [f_choice])
theorem k_X1_choice {G : Gw} {X : Cx} {cc : ByteArray} {nL : Nat} {y : MethodName} {ret : Option FieldType} {dp : Nat} {P : Option Value → Hp → Prop} {mc ms pc : Nat} {lv : List (Nat × Value)} {st : List Value} {kc ks : Nat} {M : Mg} {B : Hp} {S : Ms} {p : Int} (hM : MOk M) (hd : decode cc pc = .ok (.invokevirtual 308, 3)) (hp0 : Wf S) (hp1 : Wt S) (hp2 : -2147483648 ≤ p ∧ p ≤ 2147483647) (kk : V G X cc nL y ret dp P mc ms (pc + 3) lv (iv (f_choice S p) :: st) (mh G M B (S)) kc ks) (hy : y.cls = RX1 := by rfl) (hdp : 3 + 1 ≤ dp := by decide) (hrs : (st.map fun v => v.category).sum ≤ 8 := by first | decide | (simp [Value.category, iv, jv]; done)) : V G X cc nL y ret dp P mc ms pc lv (iv (p) :: .ref M.1 :: st) (mh G M B S) kc ks := by
  refine x_callV (ci := 1) (T := TX1) (N := 33) (As := [iv (p)]) 1 (fun l => c_X1_choice l G M B S p hM hp0 hp1 hp2) (by rw [hy]; exact q3283) q3149 q3150 q173 q3151 (by decide +kernel) hdp (by decide) (mh_o hM) rfl rfl rfl hrs hd (Nat.zero_le _) (Nat.zero_le _) (fun v h hv => ?_)
  obtain ⟨rfl, rfl⟩ := hv
  exact kk
abbrev q_X1_fitsAt (G : Gw) (M : Mg) (B : Hp) (S : Ms) (a : Int) (p : Int) : Option Value → Hp → Prop := fun v_ h_ => v_ = some (iv (bI (f_fits S a p))) ∧ h_ = mh G M B (S)
set_option maxHeartbeats 4000000 in
theorem c_X1_fitsAt (l : Launch) (G : Gw) (M : Mg) (B : Hp) (S : Ms) (a : Int) (p : Int) (hM : MOk M) (hp0 : Wf S) (hp1 : Wt S) (hp2 : 0 ≤ a ∧ a < S.1 2) (hp3 : 0 ≤ p ∧ p ≤ S.1 10) : Mt l G yX1_fitsAt cX1_fitsAt 5 (some .boolean) 1 [.ref (M.1), iv (a), iv (p)] (mh G M B S) (q_X1_fitsAt G M B S a p) (0) (0) := by
  refine Mt.of (lv := [(0, .ref (M.1)), (1, iv (a)), (2, iv (p))]) (by decide) (Nat.le_of_ble_eq_true rfl) rfl (fun X => ?_)
  have h2 := hp0.nm
  have h3 := hp1.1
  have h4 := hp0.len hp2
  have J20 : V G X cX1_fitsAt 5 yX1_fitsAt (some .boolean) 1 (q_X1_fitsAt G M B S a p) (0) (0) 20 [(0, .ref (M.1)), (1, iv (a)), (2, iv (p))] [iv (bI (decide (p + S.2 3 a ≤ S.1 10)))] (mh G M B S) (0) (0) := by
    refine x_istore_n (lv' := [(0, _), (1, _), (2, _), (3, _)]) dX1_fitsAt_20 rfl (by decide) ?_
    refine x_iconst dX1_fitsAt_21 ?_
    refine x_istore (lv' := [(0, _), (1, _), (2, _), (3, _), (4, _)]) dX1_fitsAt_22 rfl (by decide) ?_
    have L24 : ∀ (n24 : Nat) (k : Nat) (is : Bool), (S.2 3 a - k) < (n24 : Int) → (k : Int) ≤ S.2 3 a → is = (decide (p + S.2 3 a ≤ S.1 10) && allB (fun i => decide (f_code S a i = S.2 11 (p + i))) k) → V G X cX1_fitsAt 5 yX1_fitsAt (some .boolean) 1 (q_X1_fitsAt G M B S a p) (0) (0) 24 [(0, .ref (M.1)), (1, iv (a)), (2, iv (p)), (3, iv (bI (is))), (4, iv (k))] [] (mh G M B S) (0) (0) := by
      intro n24
      induction n24 with
      | zero =>
        intro k is hm hk hi
        exact absurd hm (by omega)
      | succ n24 ih24 =>
        intro k is hm24 hk hi
        refine x_iload dX1_fitsAt_24 rfl ?_
        refine x_aload_n dX1_fitsAt_26 rfl ?_
        refine m_get_length hM dX1_fitsAt_27 ?_
        refine x_iload_n dX1_fitsAt_30 rfl ?_
        refine m_ald hM (N := 14) rfl (by omega) (by decide) dX1_fitsAt_31 ?_
        refine x_icmp_ge 70 dX1_fitsAt_32 rfl (by omega) (by omega) (fun c_32 => ?_) (fun c_32 => ?_)
        · refine x_iload_n dX1_fitsAt_70 rfl ?_
          exact x_zret rfl (nar_b _) ⟨congrArg (fun b => some (iv (bI b))) (by rw [hi, f_fits]; congr 2; omega), rfl⟩ dX1_fitsAt_71
        · refine x_iload_n dX1_fitsAt_35 rfl ?_
          refine x_ifb_eq 70 dX1_fitsAt_36 rfl (fun c_36 => ?_) (fun c_36 => ?_)
          · refine x_iload_n dX1_fitsAt_70 rfl ?_
            exact x_zret rfl (nar_b _) ⟨congrArg (fun b => some (iv (bI b))) (by rw [c_36] at hi; rw [c_36, f_fits]; cases h9 : decide (p + S.2 3 a ≤ S.1 10) with | false => rfl | true => (rw [h9, Bool.true_and] at hi; rw [allB_f k (by omega) hi.symm]; rfl)), rfl⟩ dX1_fitsAt_71
          · have J63 : V G X cX1_fitsAt 5 yX1_fitsAt (some .boolean) 1 (q_X1_fitsAt G M B S a p) (0) (0) 63 [(0, .ref (M.1)), (1, iv (a)), (2, iv (p)), (3, iv (bI (is))), (4, iv (k))] [iv (bI (decide (f_code S a k = S.2 11 (p + k))))] (mh G M B S) (0) (0) := by
              refine x_istore_n (lv' := [(0, _), (1, _), (2, _), (3, _), (4, _)]) dX1_fitsAt_63 rfl (by decide) ?_
              refine x_iinc (lv' := [(0, _), (1, _), (2, _), (3, _), (4, _)]) dX1_fitsAt_64 rfl rfl (by decide) ?_
              refine x_goto 24 dX1_fitsAt_67 rfl ?_
              exact ih24 (k + 1) (_) (by omega) (by omega) (by rw [c_36] at hi; have hi := hi.symm; simp only [Bool.and_eq_true] at hi; simp [allB, hi.1, hi.2])
            refine x_aload_n dX1_fitsAt_39 rfl ?_
            refine x_iload_n dX1_fitsAt_40 rfl ?_
            refine x_iload dX1_fitsAt_41 rfl ?_
            refine k_X1_codeAt (a := a) (i := k) hM dX1_fitsAt_43 (hp0) (hp2) (by omega) ?_
            refine x_aload_n dX1_fitsAt_46 rfl ?_
            refine m_get_typedAt hM dX1_fitsAt_47 ?_
            refine x_iload_n dX1_fitsAt_50 rfl ?_
            refine x_iload dX1_fitsAt_51 rfl ?_
            refine x_iadd dX1_fitsAt_53 ?_
            refine m_ald hM (N := 10) rfl (by have hi := hi; rw [c_36] at hi; have hi := hi.symm; simp only [Bool.and_eq_true, decide_eq_true_eq] at hi; omega) (by decide) dX1_fitsAt_54 ?_
            refine x_icmp_ne 62 dX1_fitsAt_55 rfl (by have := hp0.code hp2 (i := k) (by omega); omega) (by have hi := hi; rw [c_36] at hi; have hi := hi.symm; simp only [Bool.and_eq_true, decide_eq_true_eq] at hi; have := hp1.2 (p + k) (by omega) (by omega); omega) (fun c_55 => ?_) (fun c_55 => ?_)
            · refine x_iconst dX1_fitsAt_62 ?_
              exact x_jf (by first | (simp_all; done) | (simp; omega) | (simp_all; omega)) J63
            · refine x_iconst dX1_fitsAt_58 ?_
              refine x_goto 63 dX1_fitsAt_59 rfl ?_
              exact x_jt (by first | (simp_all; done) | (simp; omega) | (simp_all; omega)) J63
    exact L24 ((S.2 3 a).toNat + 1) (0) (_) (by omega) (by omega) (by simp [allB])
  refine x_iload_n dX1_fitsAt_0 rfl ?_
  refine x_aload_n dX1_fitsAt_1 rfl ?_
  refine m_get_length hM dX1_fitsAt_2 ?_
  refine x_iload_n dX1_fitsAt_5 rfl ?_
  refine m_ald hM (N := 14) rfl (by omega) (by decide) dX1_fitsAt_6 ?_
  refine x_iadd dX1_fitsAt_7 ?_
  refine x_aload_n dX1_fitsAt_8 rfl ?_
  refine m_get_typedMany hM dX1_fitsAt_9 ?_
  refine x_icmp_gt 19 dX1_fitsAt_12 rfl (by omega) (by omega) (fun c_12 => ?_) (fun c_12 => ?_)
  · refine x_iconst dX1_fitsAt_19 ?_
    exact x_jf (by first | (simp_all; done) | (simp; omega) | (simp_all; omega)) J20
  · refine x_iconst dX1_fitsAt_15 ?_
    refine x_goto 20 dX1_fitsAt_16 rfl ?_
    exact x_jt (by first | (simp_all; done) | (simp; omega) | (simp_all; omega)) J20
theorem k_X1_fitsAt {G : Gw} {X : Cx} {cc : ByteArray} {nL : Nat} {y : MethodName} {ret : Option FieldType} {dp : Nat} {P : Option Value → Hp → Prop} {mc ms pc : Nat} {lv : List (Nat × Value)} {st : List Value} {kc ks : Nat} {M : Mg} {B : Hp} {S : Ms} {a : Int} {p : Int} (hM : MOk M) (hd : decode cc pc = .ok (.invokevirtual 213, 3)) (hp0 : Wf S) (hp1 : Wt S) (hp2 : 0 ≤ a ∧ a < S.1 2) (hp3 : 0 ≤ p ∧ p ≤ S.1 10) (kk : V G X cc nL y ret dp P mc ms (pc + 3) lv (iv (bI (f_fits S a p)) :: st) (mh G M B (S)) kc ks) (hy : y.cls = RX1 := by rfl) (hdp : 1 + 1 ≤ dp := by decide) (hrs : (st.map fun v => v.category).sum ≤ 8 := by first | decide | (simp [Value.category, iv, jv]; done)) : V G X cc nL y ret dp P mc ms pc lv (iv (p) :: iv (a) :: .ref M.1 :: st) (mh G M B S) kc ks := by
  refine x_callV (ci := 1) (T := TX1) (N := 33) (As := [iv (a), iv (p)]) 2 (fun l => c_X1_fitsAt l G M B S a p hM hp0 hp1 hp2 hp3) (by rw [hy]; exact q3177) q3179 qs117 q173 q3180 (by decide +kernel) hdp (by decide) (mh_o hM) rfl rfl rfl hrs hd (Nat.zero_le _) (Nat.zero_le _) (fun v h hv => ?_)
  obtain ⟨rfl, rfl⟩ := hv
  exact kk
abbrev q_X1_howMany (G : Gw) (M : Mg) (B : Hp) (S : Ms) (w : Int) : Option Value → Hp → Prop := fun v_ h_ => v_ = some (iv (f_many S w)) ∧ h_ = mh G M B (S)
set_option maxHeartbeats 4000000 in
theorem c_X1_howMany (l : Launch) (G : Gw) (M : Mg) (B : Hp) (S : Ms) (w : Int) (hM : MOk M) (hp0 : -2147483648 ≤ w ∧ w ≤ 2147483647) : Mt l G yX1_howMany cX1_howMany 2 (some .int) 0 [.ref (M.1), iv (w)] (mh G M B S) (q_X1_howMany G M B S w) (0) (0) := by
  refine Mt.of (lv := [(0, .ref (M.1)), (1, iv (w))]) (by decide) (Nat.le_of_ble_eq_true rfl) rfl (fun X => ?_)
  refine x_iload_n dX1_howMany_0 rfl ?_
  by_cases t_1_0 : w = 0
  · refine x_ji t_1_0 ?_
    refine x_tin 40 dX1_howMany_1 (by decide) (by decide) (by decide) rfl rfl ?_
    refine x_aload_n dX1_howMany_40 rfl ?_
    refine m_get_names hM dX1_howMany_41 ?_
    exact x_iret rfl ⟨ri (by rw [f_many]; simp_all), rfl⟩ dX1_howMany_44
  by_cases t_1_1 : w = 1
  · refine x_ji t_1_1 ?_
    refine x_tin 45 dX1_howMany_1 (by decide) (by decide) (by decide) rfl rfl ?_
    refine x_aload_n dX1_howMany_45 rfl ?_
    refine m_get_pageLength hM dX1_howMany_46 ?_
    exact x_iret rfl ⟨ri (by rw [f_many]; simp_all), rfl⟩ dX1_howMany_49
  by_cases t_1_2 : w = 2
  · refine x_ji t_1_2 ?_
    refine x_tin 50 dX1_howMany_1 (by decide) (by decide) (by decide) rfl rfl ?_
    refine x_aload_n dX1_howMany_50 rfl ?_
    refine m_get_typedMany hM dX1_howMany_51 ?_
    exact x_iret rfl ⟨ri (by rw [f_many]; simp_all), rfl⟩ dX1_howMany_54
  by_cases t_1_3 : w = 3
  · refine x_ji t_1_3 ?_
    refine x_tin 55 dX1_howMany_1 (by decide) (by decide) (by decide) rfl rfl ?_
    refine x_aload_n dX1_howMany_55 rfl ?_
    refine m_get_listsRead hM dX1_howMany_56 ?_
    exact x_iret rfl ⟨ri (by rw [f_many]; simp_all), rfl⟩ dX1_howMany_59
  by_cases t_1_4 : w = 4
  · refine x_ji t_1_4 ?_
    refine x_tin 60 dX1_howMany_1 (by decide) (by decide) (by decide) rfl rfl ?_
    refine x_aload_n dX1_howMany_60 rfl ?_
    refine m_get_dialsRead hM dX1_howMany_61 ?_
    exact x_iret rfl ⟨ri (by rw [f_many]; simp_all), rfl⟩ dX1_howMany_64
  by_cases t_1_5 : w = 5
  · refine x_ji t_1_5 ?_
    refine x_tin 65 dX1_howMany_1 (by decide) (by decide) (by decide) rfl rfl ?_
    refine x_aload_n dX1_howMany_65 rfl ?_
    refine m_get_gone hM dX1_howMany_66 ?_
    exact x_iret rfl ⟨ri (by rw [f_many]; simp_all), rfl⟩ dX1_howMany_69
  refine x_tout 70 dX1_howMany_1 (by omega) (by omega) rfl ?_
  refine x_bipush dX1_howMany_70 ?_
  exact x_iret rfl ⟨ri (by rw [f_many]; simp_all), rfl⟩ dX1_howMany_72
theorem k_X1_howMany {G : Gw} {X : Cx} {cc : ByteArray} {nL : Nat} {y : MethodName} {ret : Option FieldType} {dp : Nat} {P : Option Value → Hp → Prop} {mc ms pc : Nat} {lv : List (Nat × Value)} {st : List Value} {kc ks : Nat} {M : Mg} {B : Hp} {S : Ms} {w : Int} (hM : MOk M) (hd : decode cc pc = .ok (.invokevirtual 295, 3)) (hp0 : -2147483648 ≤ w ∧ w ≤ 2147483647) (kk : V G X cc nL y ret dp P mc ms (pc + 3) lv (iv (f_many S w) :: st) (mh G M B (S)) kc ks) (hy : y.cls = RX1 := by rfl) (hdp : 0 + 1 ≤ dp := by decide) (hrs : (st.map fun v => v.category).sum ≤ 8 := by first | decide | (simp [Value.category, iv, jv]; done)) : V G X cc nL y ret dp P mc ms pc lv (iv (w) :: .ref M.1 :: st) (mh G M B S) kc ks := by
  refine x_callV (ci := 1) (T := TX1) (N := 33) (As := [iv (w)]) 1 (fun l => c_X1_howMany l G M B S w hM hp0) (by rw [hy]; exact q3261) q3263 qs131 q173 q3264 (by decide +kernel) hdp (by decide) (mh_o hM) rfl rfl rfl hrs hd (Nat.zero_le _) (Nat.zero_le _) (fun v h hv => ?_)
  obtain ⟨rfl, rfl⟩ := hv
  exact kk
abbrev q_X1_count (G : Gw) (M : Mg) (B : Hp) (S : Ms) (w : Int) : Option Value → Hp → Prop := fun v_ h_ => v_ = some (iv (f_many S w)) ∧ h_ = mh G M B (S)
set_option maxHeartbeats 4000000 in
theorem c_X1_count (l : Launch) (G : Gw) (M : Mg) (B : Hp) (S : Ms) (w : Int) (hM : MOk M) (hp0 : -2147483648 ≤ w ∧ w ≤ 2147483647) : Mt l G yX1_count cX1_count 2 (some .int) 1 [.ref (M.1), iv (w)] (mh G M B S) (q_X1_count G M B S w) (0) (0) := by
  refine Mt.of (lv := [(0, .ref (M.1)), (1, iv (w))]) (by decide) (Nat.le_of_ble_eq_true rfl) rfl (fun X => ?_)
  refine x_aload_n dX1_count_0 rfl ?_
  refine x_iload_n dX1_count_1 rfl ?_
  refine k_X1_howMany (w := w) hM dX1_count_2 (by first | assumption | omega) ?_
  exact x_iret rfl ⟨ri (by first | rfl | (simp_all; done) | (simp; omega) | (simp_all; omega)), rfl⟩ dX1_count_5
abbrev q_X1_use (G : Gw) (M : Mg) (B : Hp) (S : Ms) (a : Int) (v : Int) : Option Value → Hp → Prop := fun v_ h_ => v_ = some (iv (f_use S a v)) ∧ h_ = mh G M B (s_use S a v)
set_option maxHeartbeats 4000000 in
theorem c_X1_use (l : Launch) (G : Gw) (M : Mg) (B : Hp) (S : Ms) (a : Int) (v : Int) (hM : MOk M) (hp0 : Wf S) (hp1 : -2147483648 ≤ a ∧ a ≤ 2147483647) (hp2 : -2147483648 ≤ v ∧ v ≤ 2147483647) : Mt l G yX1_use cX1_use 4 (some .int) 2 [.ref (M.1), iv (a), iv (v)] (mh G M B S) (q_X1_use G M B S a v) (0) (0) := by
  refine Mt.of (lv := [(0, .ref (M.1)), (1, iv (a)), (2, iv (v))]) (by decide) (Nat.le_of_ble_eq_true rfl) rfl (fun X => ?_)
  have h2 := hp0.nm
  refine x_aload_n dX1_use_0 rfl ?_
  refine x_iload_n dX1_use_1 rfl ?_
  refine k_X1_isName (a := a) hM dX1_use_2 (hp0) (hp1) ?_
  refine x_ifb_ne 11 dX1_use_5 rfl (fun c_5 => ?_) (fun c_5 => ?_)
  · have h9 : 0 ≤ a ∧ a < S.1 2 := by simp at c_5; omega
    refine x_iload_n dX1_use_11 rfl ?_
    refine x_iconst dX1_use_12 ?_
    refine x_bipush dX1_use_13 ?_
    refine k_X1_within (v := v) (lo := 1) (hi := 99) hM dX1_use_15 (hp2) (by decide) (by decide) ?_
    refine x_ifb_ne 24 dX1_use_18 rfl (fun c_18 => ?_) (fun c_18 => ?_)
    · refine x_aload_n dX1_use_24 rfl ?_
      refine m_get_uses hM dX1_use_25 ?_
      refine x_iload_n dX1_use_28 rfl ?_
      refine m_ald hM (N := 14) rfl (by omega) (by decide) dX1_use_29 ?_
      refine x_istore_n (lv' := [(0, _), (1, _), (2, _), (3, _)]) dX1_use_30 rfl (by decide) ?_
      refine x_aload_n dX1_use_31 rfl ?_
      refine m_get_uses hM dX1_use_32 ?_
      refine x_iload_n dX1_use_35 rfl ?_
      refine x_iload_n dX1_use_36 rfl ?_
      refine m_ast hM (N := 14) rfl (by omega) (by decide) dX1_use_37 ?_
      refine x_iload_n dX1_use_38 rfl ?_
      exact x_iret rfl ⟨ri (by rw [f_use, if_pos c_5, if_pos c_18]), by rw [s_use, if_pos c_5, if_pos c_18]⟩ dX1_use_39
    · refine x_bipush dX1_use_21 ?_
      exact x_iret rfl ⟨ri (by rw [f_use, if_pos c_5, if_neg (bf c_18)]), by rw [s_use, if_pos c_5, if_neg (bf c_18)]⟩ dX1_use_23
  · refine x_bipush dX1_use_8 ?_
    exact x_iret rfl ⟨ri (by rw [f_use, if_neg (bf c_5)]), by rw [s_use, if_neg (bf c_5)]⟩ dX1_use_10
