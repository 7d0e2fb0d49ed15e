/-! MODEL 14: names come -/
set_option maxRecDepth 100000
abbrev q_X1_compareNew (G : Gw) (M : Mg) (B : Hp) (S : Ms) (a : Int) (r : Int) : Option Value → Hp → Prop := fun v_ h_ => v_ = some (iv (f_cmp S a r)) ∧ h_ = mh G M B (S)
set_option maxHeartbeats 4000000 in
theorem c_X1_compareNew (l : Launch) (G : Gw) (M : Mg) (B : Hp) (S : Ms) (a : Int) (r : Int) (hM : MOk M) (hp0 : OE S a) (hp1 : NE S r) (hp2 : 0 ≤ a ∧ a < 14) (hp3 : 0 ≤ r ∧ r < 14) : Mt l G yX1_compareNew cX1_compareNew 6 (some .int) 0 [.ref (M.1), iv (a), iv (r)] (mh G M B S) (q_X1_compareNew G M B S a r) (0) (0) := by
  refine Mt.of (lv := [(0, .ref (M.1)), (1, iv (a)), (2, iv (r))]) (by decide) (Nat.le_of_ble_eq_true rfl) rfl (fun X => ?_)
  have o1 := hp0.1
  have o2 := hp1.1
  refine x_iconst dX1_compareNew_0 ?_
  refine x_istore_n (lv' := [(0, _), (1, _), (2, _), (3, _)]) dX1_compareNew_1 rfl (by decide) ?_
  have L2 : ∀ (n2 : Nat) (k : Nat), ((8 : Int) - k) < (n2 : Int) → ((k : Int) ≤ 8) → (f_cmp S a r = cmpF (l_old S a) (l_new S r) (8 - k) k) → V G X cX1_compareNew 6 yX1_compareNew (some .int) 0 (q_X1_compareNew G M B S a r) (0) (0) 2 [(0, .ref (M.1)), (1, iv (a)), (2, iv (r)), (3, iv (k))] [] (mh G M B S) (0) (0) := by
    intro n2
    induction n2 with
    | zero =>
      intro k hm hk hf
      exact absurd hm (by omega)
    | succ n2 ih2 =>
      intro k hm2 hk hf
      refine x_iload_n dX1_compareNew_2 rfl ?_
      refine x_bipush dX1_compareNew_3 ?_
      refine x_icmp_ge 88 dX1_compareNew_5 rfl (by omega) (by omega) (fun c_5 => ?_) (fun c_5 => ?_)
      · refine x_iconst dX1_compareNew_88 ?_
        exact x_iret rfl ⟨ri (by rw [hf, show 8 - k = 0 by omega]; rfl), rfl⟩ dX1_compareNew_89
      · have l1 := l_old_R hp0 (i := k) (by omega)
        have l2 := l_new_R hp1 (i := k) (by omega)
        have hz : 8 - k = (8 - (k + 1)) + 1 := by omega
        have J33 : V G X cX1_compareNew 6 yX1_compareNew (some .int) 0 (q_X1_compareNew G M B S a r) (0) (0) 33 [(0, .ref (M.1)), (1, iv (a)), (2, iv (r)), (3, iv (k))] [iv (l_old S a k)] (mh G M B S) (0) (0) := by
          refine x_istore (lv' := [(0, _), (1, _), (2, _), (3, _), (4, _)]) dX1_compareNew_33 rfl (by decide) ?_
          have J60 : V G X cX1_compareNew 6 yX1_compareNew (some .int) 0 (q_X1_compareNew G M B S a r) (0) (0) 60 [(0, .ref (M.1)), (1, iv (a)), (2, iv (r)), (3, iv (k)), (4, iv (l_old S a k))] [iv (l_new S r k)] (mh G M B S) (0) (0) := by
            refine x_istore (lv' := [(0, _), (1, _), (2, _), (3, _), (4, _), (5, _)]) dX1_compareNew_60 rfl (by decide) ?_
            refine x_iload dX1_compareNew_62 rfl ?_
            refine x_iload dX1_compareNew_64 rfl ?_
            refine x_icmp_eq 82 dX1_compareNew_66 rfl (by omega) (by omega) (fun c_66 => ?_) (fun c_66 => ?_)
            · refine x_iinc (lv' := [(0, _), (1, _), (2, _), (3, _), (4, _), (5, _)]) dX1_compareNew_82 rfl rfl (by decide) ?_
              refine x_goto 2 dX1_compareNew_85 rfl ?_
              refine x_lvp [0, 1, 2, 3] (lv' := [(0, _), (1, _), (2, _), (3, _)]) rfl ?_
              exact ih2 (k + 1) (by omega) (by omega) (by rw [hf, hz, cmpF, if_pos c_66]; rfl)
            · refine x_iload dX1_compareNew_69 rfl ?_
              refine x_iload dX1_compareNew_71 rfl ?_
              refine x_icmp_ge 80 dX1_compareNew_73 rfl (by omega) (by omega) (fun c_73 => ?_) (fun c_73 => ?_)
              · refine x_iconst dX1_compareNew_80 ?_
                exact x_iret rfl ⟨ri (by rw [hf, hz, cmpF, if_neg c_66, if_neg (by omega)]), rfl⟩ dX1_compareNew_81
              · refine x_iconst dX1_compareNew_76 ?_
                refine x_goto 81 dX1_compareNew_77 rfl ?_
                exact x_iret rfl ⟨ri (by rw [hf, hz, cmpF, if_neg c_66, if_pos (by omega)]), rfl⟩ dX1_compareNew_81
          refine x_iload_n dX1_compareNew_35 rfl ?_
          refine x_aload_n dX1_compareNew_36 rfl ?_
          refine m_get_newLength hM dX1_compareNew_37 ?_
          refine x_iload_n dX1_compareNew_40 rfl ?_
          refine m_ald hM (N := 14) rfl (by omega) (by decide) dX1_compareNew_41 ?_
          refine x_icmp_ge 59 dX1_compareNew_42 rfl (by omega) (by omega) (fun c_42 => ?_) (fun c_42 => ?_)
          · refine x_iconst dX1_compareNew_59 ?_
            exact x_ji (by unfold l_new; rw [if_neg (by omega)]) J60
          · refine x_aload_n dX1_compareNew_45 rfl ?_
            refine m_get_newLetters hM dX1_compareNew_46 ?_
            refine x_bipush dX1_compareNew_49 ?_
            refine x_iload_n dX1_compareNew_51 rfl ?_
            refine x_imul dX1_compareNew_52 ?_
            refine x_iload_n dX1_compareNew_53 rfl ?_
            refine x_iadd dX1_compareNew_54 ?_
            refine m_ald hM (N := 112) rfl (by omega) (by decide) dX1_compareNew_55 ?_
            refine x_goto 60 dX1_compareNew_56 rfl ?_
            exact x_ji (by unfold l_new; rw [if_pos (by omega)]) J60
        refine x_iload_n dX1_compareNew_8 rfl ?_
        refine x_aload_n dX1_compareNew_9 rfl ?_
        refine m_get_length hM dX1_compareNew_10 ?_
        refine x_iload_n dX1_compareNew_13 rfl ?_
        refine m_ald hM (N := 14) rfl (by omega) (by decide) dX1_compareNew_14 ?_
        refine x_icmp_ge 32 dX1_compareNew_15 rfl (by omega) (by omega) (fun c_15 => ?_) (fun c_15 => ?_)
        · refine x_iconst dX1_compareNew_32 ?_
          exact x_ji (by unfold l_old; rw [if_neg (by omega)]) J33
        · refine x_aload_n dX1_compareNew_18 rfl ?_
          refine m_get_letters hM dX1_compareNew_19 ?_
          refine x_bipush dX1_compareNew_22 ?_
          refine x_iload_n dX1_compareNew_24 rfl ?_
          refine x_imul dX1_compareNew_25 ?_
          refine x_iload_n dX1_compareNew_26 rfl ?_
          refine x_iadd dX1_compareNew_27 ?_
          refine m_ald hM (N := 112) rfl (by omega) (by decide) dX1_compareNew_28 ?_
          refine x_goto 33 dX1_compareNew_29 rfl ?_
          exact x_ji (by unfold l_old; rw [if_pos (by omega)]) J33
  exact L2 (9) (0) (by decide) (by omega) (rfl)
theorem k_X1_compareNew {G : Gw} {X : Cx} {cc : ByteArray} {nL : Nat} {y : MethodName} {ret : Option FieldType} {dp : Nat} {P : Option Value → Hp → Prop} {mc ms pc : Nat} {lv : List (Nat × Value)} {st : List Value} {kc ks : Nat} {M : Mg} {B : Hp} {S : Ms} {a : Int} {r : Int} (hM : MOk M) (hd : decode cc pc = .ok (.invokevirtual 112, 3)) (hp0 : OE S a) (hp1 : NE S r) (hp2 : 0 ≤ a ∧ a < 14) (hp3 : 0 ≤ r ∧ r < 14) (kk : V G X cc nL y ret dp P mc ms (pc + 3) lv (iv (f_cmp S a r) :: st) (mh G M B (S)) kc ks) (hy : y.cls = RX1 := by rfl) (hdp : 0 + 1 ≤ dp := by decide) (hrs : (st.map fun v => v.category).sum ≤ 8 := by first | decide | (simp [Value.category, iv, jv]; done)) : V G X cc nL y ret dp P mc ms pc lv (iv (r) :: iv (a) :: .ref M.1 :: st) (mh G M B S) kc ks := by
  refine x_callV (ci := 1) (T := TX1) (N := 33) (As := [iv (a), iv (r)]) 2 (fun l => c_X1_compareNew l G M B S a r hM hp0 hp1 hp2 hp3) (by rw [hy]; exact q2975) q2977 qs81 q173 q2978 (by decide +kernel) hdp (by decide) (mh_o hM) rfl rfl rfl hrs hd (Nat.zero_le _) (Nat.zero_le _) (fun v h hv => ?_)
  obtain ⟨rfl, rfl⟩ := hv
  exact kk
abbrev q_X1_isThere (G : Gw) (M : Mg) (B : Hp) (S : Ms) (r : Int) : Option Value → Hp → Prop := fun v_ h_ => v_ = some (iv (bI (f_there S r))) ∧ h_ = mh G M B (S)
set_option maxHeartbeats 4000000 in
theorem c_X1_isThere (l : Launch) (G : Gw) (M : Mg) (B : Hp) (S : Ms) (r : Int) (hM : MOk M) (hp0 : Wf S) (hp1 : NE S r) (hp2 : 0 ≤ r ∧ r < 14) : Mt l G yX1_isThere cX1_isThere 4 (some .boolean) 1 [.ref (M.1), iv (r)] (mh G M B S) (q_X1_isThere G M B S r) (0) (0) := by
  refine Mt.of (lv := [(0, .ref (M.1)), (1, iv (r))]) (by decide) (Nat.le_of_ble_eq_true rfl) rfl (fun X => ?_)
  have h2 := hp0.nm
  have hoe : ∀ k : Int, 0 ≤ k → k < S.1 2 → OE S k := fun k k0 k1 => ⟨hp0.len ⟨k0, k1⟩, fun i i0 i1 => hp0.let ⟨k0, k1⟩ ⟨i0, i1⟩⟩
  refine x_iconst dX1_isThere_0 ?_
  refine x_istore_n (lv' := [(0, _), (1, _), (2, _)]) dX1_isThere_1 rfl (by decide) ?_
  refine x_iconst dX1_isThere_2 ?_
  refine x_istore_n (lv' := [(0, _), (1, _), (2, _), (3, _)]) dX1_isThere_3 rfl (by decide) ?_
  have L4 : ∀ (n4 : Nat) (k : Nat) (is : Bool), (S.1 2 - k) < (n4 : Int) → ((k : Int) ≤ S.1 2) → (is = anyB (fun k => decide (f_cmp S k r = 0)) k) → V G X cX1_isThere 4 yX1_isThere (some .boolean) 1 (q_X1_isThere G M B S r) (0) (0) 4 [(0, .ref (M.1)), (1, iv (r)), (2, iv (bI (is))), (3, iv (k))] [] (mh G M B S) (0) (0) := by
    intro n4
    induction n4 with
    | zero =>
      intro k is hm hk hi
      exact absurd hm (by omega)
    | succ n4 ih4 =>
      intro k is hm4 hk hi
      refine x_iload_n dX1_isThere_4 rfl ?_
      refine x_aload_n dX1_isThere_5 rfl ?_
      refine m_get_names hM dX1_isThere_6 ?_
      refine x_icmp_ge 37 dX1_isThere_9 rfl (by omega) (by omega) (fun c_9 => ?_) (fun c_9 => ?_)
      · refine x_iload_n dX1_isThere_37 rfl ?_
        exact x_zret rfl (nar_b _) ⟨congrArg (fun b => some (iv (bI b))) (by rw [hi, f_there, show (S.1 2).toNat = k by omega]), rfl⟩ dX1_isThere_38
      · have J30 : V G X cX1_isThere 4 yX1_isThere (some .boolean) 1 (q_X1_isThere G M B S r) (0) (0) 30 [(0, .ref (M.1)), (1, iv (r)), (2, iv (bI (is))), (3, iv (k))] [iv (bI (is || decide (f_cmp S k r = 0)))] (mh G M B S) (0) (0) := by
          refine x_istore_n (lv' := [(0, _), (1, _), (2, _), (3, _)]) dX1_isThere_30 rfl (by decide) ?_
          refine x_iinc (lv' := [(0, _), (1, _), (2, _), (3, _)]) dX1_isThere_31 rfl rfl (by decide) ?_
          refine x_goto 4 dX1_isThere_34 rfl ?_
          exact ih4 (k + 1) (_) (by omega) (by omega) (by rw [hi, anyB])
        refine x_iload_n dX1_isThere_12 rfl ?_
        refine x_ifb_ne 25 dX1_isThere_13 rfl (fun c_13 => ?_) (fun c_13 => ?_)
        · refine x_iconst dX1_isThere_25 ?_
          refine x_goto 30 dX1_isThere_26 rfl ?_
          exact x_jt (by simp [c_13]) J30
        · refine x_aload_n dX1_isThere_16 rfl ?_
          refine x_iload_n dX1_isThere_17 rfl ?_
          refine x_iload_n dX1_isThere_18 rfl ?_
          refine k_X1_compareNew (a := k) (r := r) hM dX1_isThere_19 (hoe k (by omega) (by omega)) (hp1) (by omega) (hp2) ?_
          refine x_if_ne 29 dX1_isThere_22 rfl (by have := cmpF_R (l_old S k) (l_new S r) 8 0; unfold f_cmp; omega) (fun c_22 => ?_) (fun c_22 => ?_)
          · refine x_iconst dX1_isThere_29 ?_
            exact x_jf (by simp [c_13, c_22]) J30
          · refine x_iconst dX1_isThere_25 ?_
            refine x_goto 30 dX1_isThere_26 rfl ?_
            exact x_jt (by simp [c_22]) J30
  exact L4 ((S.1 2).toNat + 1) (0) (false) (by omega) (by omega) (rfl)
theorem k_X1_isThere {G : Gw} {X : Cx} {cc : ByteArray} {nL : Nat} {y : MethodName} {ret : Option FieldType} {dp : Nat} {P : Option Value → Hp → Prop} {mc ms pc : Nat} {lv : List (Nat × Value)} {st : List Value} {kc ks : Nat} {M : Mg} {B : Hp} {S : Ms} {r : Int} (hM : MOk M) (hd : decode cc pc = .ok (.invokevirtual 120, 3)) (hp0 : Wf S) (hp1 : NE S r) (hp2 : 0 ≤ r ∧ r < 14) (kk : V G X cc nL y ret dp P mc ms (pc + 3) lv (iv (bI (f_there S r)) :: st) (mh G M B (S)) kc ks) (hy : y.cls = RX1 := by rfl) (hdp : 1 + 1 ≤ dp := by decide) (hrs : (st.map fun v => v.category).sum ≤ 8 := by first | decide | (simp [Value.category, iv, jv]; done)) : V G X cc nL y ret dp P mc ms pc lv (iv (r) :: .ref M.1 :: st) (mh G M B S) kc ks := by
  refine x_callV (ci := 1) (T := TX1) (N := 33) (As := [iv (r)]) 1 (fun l => c_X1_isThere l G M B S r hM hp0 hp1 hp2) (by rw [hy]; exact q2971) q2973 qs80 q173 q2974 (by decide +kernel) hdp (by decide) (mh_o hM) rfl rfl rfl hrs hd (Nat.zero_le _) (Nat.zero_le _) (fun v h hv => ?_)
  obtain ⟨rfl, rfl⟩ := hv
  exact kk
abbrev q_X1_comes (G : Gw) (M : Mg) (B : Hp) (S : Ms) (r : Int) : Option Value → Hp → Prop := fun v_ h_ => v_ = none ∧ h_ = mh G M B (s_come S r)
set_option maxHeartbeats 4000000 in
theorem c_X1_comes (l : Launch) (G : Gw) (M : Mg) (B : Hp) (S : Ms) (r : Int) (hM : MOk M) (hp0 : 0 ≤ S.1 2 ∧ S.1 2 < 14) (hp1 : ∀ a : Int, 0 ≤ a → a < S.1 2 → OE S a) (hp2 : NE S r) (hp3 : 0 ≤ r ∧ r < 14) : Mt l G yX1_comes cX1_comes 4 none 1 [.ref (M.1), iv (r)] (mh G M B S) (q_X1_comes G M B S r) (0) (0) := by
  refine Mt.of (lv := [(0, .ref (M.1)), (1, iv (r))]) (by decide) (Nat.le_of_ble_eq_true rfl) rfl (fun X => ?_)
  refine x_aload_n dX1_comes_0 rfl ?_
  refine m_get_names hM dX1_comes_1 ?_
  refine x_istore_n (lv' := [(0, _), (1, _), (2, _)]) dX1_comes_4 rfl (by decide) ?_
  have L5 : ∀ (n5 : Nat) (x : Int) (n : Nat), (x) < (n5 : Int) → (x = n) → (x ≤ S.1 2) → (ip S r (S.1 2).toNat = ip S r n) → V G X cX1_comes 4 yX1_comes none 1 (q_X1_comes G M B S r) (0) (0) 5 [(0, .ref (M.1)), (1, iv (r)), (2, iv (x))] [] (mh G M B (sh S x (S.1 2))) (0) (0) := by
    intro n5
    induction n5 with
    | zero =>
      intro x n hm hx hn hp
      exact absurd hm (by omega)
    | succ n5 ih5 =>
      intro x n hm5 hx hn hp
      refine x_iload_n dX1_comes_5 rfl ?_
      refine x_if_le 34 dX1_comes_6 rfl (by omega) (fun c_6 => ?_) (fun c_6 => ?_)
      · have hat : ip S r (S.1 2).toNat = n := by rw [hp, show n = 0 by omega]; rfl
        refine x_aload_n dX1_comes_34 rfl ?_
        refine m_get_length hM dX1_comes_35 ?_
        refine x_iload_n dX1_comes_38 rfl ?_
        refine x_aload_n dX1_comes_39 rfl ?_
        refine m_get_newLength hM dX1_comes_40 ?_
        refine x_iload_n dX1_comes_43 rfl ?_
        refine m_ald hM (N := 14) rfl (by omega) (by decide) dX1_comes_44 ?_
        refine m_ast hM (N := 14) rfl (by omega) (by decide) dX1_comes_45 ?_
        refine x_aload_n dX1_comes_46 rfl ?_
        refine m_get_uses hM dX1_comes_47 ?_
        refine x_iload_n dX1_comes_50 rfl ?_
        refine x_aload_n dX1_comes_51 rfl ?_
        refine m_get_newUses hM dX1_comes_52 ?_
        refine x_iload_n dX1_comes_55 rfl ?_
        refine m_ald hM (N := 14) rfl (by omega) (by decide) dX1_comes_56 ?_
        refine m_ast hM (N := 14) rfl (by omega) (by decide) dX1_comes_57 ?_
        refine x_iconst dX1_comes_58 ?_
        refine x_istore_n (lv' := [(0, _), (1, _), (2, _), (3, _)]) dX1_comes_59 rfl (by decide) ?_
        have L60 : ∀ (n60 : Nat) (k : Nat), ((8 : Int) - k) < (n60 : Int) → ((k : Int) ≤ 8) → V G X cX1_comes 4 yX1_comes none 1 (q_X1_comes G M B S r) (0) (0) 60 [(0, .ref (M.1)), (1, iv (r)), (2, iv (x)), (3, iv (k))] [] (mh G M B (s_put (sh S x (S.1 2)) x r k)) (0) (0) := by
          intro n60
          induction n60 with
          | zero =>
            intro k hm hk
            exact absurd hm (by omega)
          | succ n60 ih60 =>
            intro k hm60 hk
            refine x_iload_n dX1_comes_60 rfl ?_
            refine x_bipush dX1_comes_61 ?_
            refine x_icmp_ge 94 dX1_comes_63 rfl (by omega) (by omega) (fun c_63 => ?_) (fun c_63 => ?_)
            · refine x_aload_n dX1_comes_94 rfl ?_
              refine x_dup dX1_comes_95 ?_
              refine m_get_names hM dX1_comes_96 ?_
              refine x_iconst dX1_comes_99 ?_
              refine x_iadd dX1_comes_100 ?_
              refine m_put_names hM dX1_comes_101 ?_
              exact x_vret rfl ⟨rfl, congrArg (mh G M B) (by rw [s_come, hat, ← hx, show (k : Int) = 8 by omega]; rfl)⟩ dX1_comes_104
            · refine x_aload_n dX1_comes_66 rfl ?_
              refine m_get_letters hM dX1_comes_67 ?_
              refine x_bipush dX1_comes_70 ?_
              refine x_iload_n dX1_comes_72 rfl ?_
              refine x_imul dX1_comes_73 ?_
              refine x_iload_n dX1_comes_74 rfl ?_
              refine x_iadd dX1_comes_75 ?_
              refine x_aload_n dX1_comes_76 rfl ?_
              refine m_get_newLetters hM dX1_comes_77 ?_
              refine x_bipush dX1_comes_80 ?_
              refine x_iload_n dX1_comes_82 rfl ?_
              refine x_imul dX1_comes_83 ?_
              refine x_iload_n dX1_comes_84 rfl ?_
              refine x_iadd dX1_comes_85 ?_
              refine m_ald hM (N := 112) rfl (by omega) (by decide) dX1_comes_86 ?_
              refine m_ast hM (N := 112) rfl (by omega) (by decide) dX1_comes_87 ?_
              refine x_iinc (lv' := [(0, _), (1, _), (2, _), (3, _)]) dX1_comes_88 rfl rfl (by decide) ?_
              refine x_goto 60 dX1_comes_91 rfl ?_
              refine x_h (congrArg (mh G M B) (put_s (sh S x (S.1 2)) k)) ?_
              exact ih60 (k + 1) (by omega) (by omega)
        refine x_h (congrArg (mh G M B) (put_0 (sh S x (S.1 2)) x r)) ?_
        exact L60 (9) (0) (by decide) (by omega)
      · have hlo := sh_low (S := S) (n := x) (N := S.1 2) (a := x - 1) (by omega)
        refine x_aload_n dX1_comes_9 rfl ?_
        refine x_iload_n dX1_comes_10 rfl ?_
        refine x_iconst dX1_comes_11 ?_
        refine x_isub dX1_comes_12 ?_
        refine x_iload_n dX1_comes_13 rfl ?_
        refine k_X1_compareNew (a := x - 1) (r := r) hM dX1_comes_14 ((hp1 (x - 1) (by omega) (by omega)).eq hlo.1 hlo.2) (by unfold NE; rw [sh_k (by decide) (by decide) (by decide), sh_k (by decide) (by decide) (by decide)]; exact hp2) (by omega) (hp3) ?_
        refine x_ji (show f_cmp (sh S x (S.1 2)) (x - 1) r = f_cmp S (x - 1) r from f_cmp_eq hlo.1 hlo.2 (sh_k (by decide) (by decide) (by decide)) (sh_k (by decide) (by decide) (by decide))) ?_
        refine x_if_le 34 dX1_comes_17 rfl (by have := cmpF_R (l_old S (x - 1)) (l_new S r) 8 0; unfold f_cmp; omega) (fun c_17 => ?_) (fun c_17 => ?_)
        · have hat : ip S r (S.1 2).toNat = n := by rw [hp]; obtain ⟨n0, rfl⟩ : ∃ n0, n = n0 + 1 := ⟨n - 1, by omega⟩; rw [ip, if_neg (by rw [show ((n0 : Nat) : Int) = x - 1 by omega]; omega)]
          refine x_aload_n dX1_comes_34 rfl ?_
          refine m_get_length hM dX1_comes_35 ?_
          refine x_iload_n dX1_comes_38 rfl ?_
          refine x_aload_n dX1_comes_39 rfl ?_
          refine m_get_newLength hM dX1_comes_40 ?_
          refine x_iload_n dX1_comes_43 rfl ?_
          refine m_ald hM (N := 14) rfl (by omega) (by decide) dX1_comes_44 ?_
          refine m_ast hM (N := 14) rfl (by omega) (by decide) dX1_comes_45 ?_
          refine x_aload_n dX1_comes_46 rfl ?_
          refine m_get_uses hM dX1_comes_47 ?_
          refine x_iload_n dX1_comes_50 rfl ?_
          refine x_aload_n dX1_comes_51 rfl ?_
          refine m_get_newUses hM dX1_comes_52 ?_
          refine x_iload_n dX1_comes_55 rfl ?_
          refine m_ald hM (N := 14) rfl (by omega) (by decide) dX1_comes_56 ?_
          refine m_ast hM (N := 14) rfl (by omega) (by decide) dX1_comes_57 ?_
          refine x_iconst dX1_comes_58 ?_
          refine x_istore_n (lv' := [(0, _), (1, _), (2, _), (3, _)]) dX1_comes_59 rfl (by decide) ?_
          have L60 : ∀ (n60 : Nat) (k : Nat), ((8 : Int) - k) < (n60 : Int) → ((k : Int) ≤ 8) → V G X cX1_comes 4 yX1_comes none 1 (q_X1_comes G M B S r) (0) (0) 60 [(0, .ref (M.1)), (1, iv (r)), (2, iv (x)), (3, iv (k))] [] (mh G M B (s_put (sh S x (S.1 2)) x r k)) (0) (0) := by
            intro n60
            induction n60 with
            | zero =>
              intro k hm hk
              exact absurd hm (by omega)
            | succ n60 ih60 =>
              intro k hm60 hk
              refine x_iload_n dX1_comes_60 rfl ?_
              refine x_bipush dX1_comes_61 ?_
              refine x_icmp_ge 94 dX1_comes_63 rfl (by omega) (by omega) (fun c_63 => ?_) (fun c_63 => ?_)
              · refine x_aload_n dX1_comes_94 rfl ?_
                refine x_dup dX1_comes_95 ?_
                refine m_get_names hM dX1_comes_96 ?_
                refine x_iconst dX1_comes_99 ?_
                refine x_iadd dX1_comes_100 ?_
                refine m_put_names hM dX1_comes_101 ?_
                exact x_vret rfl ⟨rfl, congrArg (mh G M B) (by rw [s_come, hat, ← hx, show (k : Int) = 8 by omega]; rfl)⟩ dX1_comes_104
              · refine x_aload_n dX1_comes_66 rfl ?_
                refine m_get_letters hM dX1_comes_67 ?_
                refine x_bipush dX1_comes_70 ?_
                refine x_iload_n dX1_comes_72 rfl ?_
                refine x_imul dX1_comes_73 ?_
                refine x_iload_n dX1_comes_74 rfl ?_
                refine x_iadd dX1_comes_75 ?_
                refine x_aload_n dX1_comes_76 rfl ?_
                refine m_get_newLetters hM dX1_comes_77 ?_
                refine x_bipush dX1_comes_80 ?_
                refine x_iload_n dX1_comes_82 rfl ?_
                refine x_imul dX1_comes_83 ?_
                refine x_iload_n dX1_comes_84 rfl ?_
                refine x_iadd dX1_comes_85 ?_
                refine m_ald hM (N := 112) rfl (by omega) (by decide) dX1_comes_86 ?_
                refine m_ast hM (N := 112) rfl (by omega) (by decide) dX1_comes_87 ?_
                refine x_iinc (lv' := [(0, _), (1, _), (2, _), (3, _)]) dX1_comes_88 rfl rfl (by decide) ?_
                refine x_goto 60 dX1_comes_91 rfl ?_
                refine x_h (congrArg (mh G M B) (put_s (sh S x (S.1 2)) k)) ?_
                exact ih60 (k + 1) (by omega) (by omega)
          refine x_h (congrArg (mh G M B) (put_0 (sh S x (S.1 2)) x r)) ?_
          exact L60 (9) (0) (by decide) (by omega)
        · refine x_aload_n dX1_comes_20 rfl ?_
          refine x_iload_n dX1_comes_21 rfl ?_
          refine x_iconst dX1_comes_22 ?_
          refine x_isub dX1_comes_23 ?_
          refine x_iload_n dX1_comes_24 rfl ?_
          refine k_X1_moveName (a := x - 1) (b := x) hM dX1_comes_25 (by omega) (by omega) (by omega) ?_
          refine x_iinc (lv' := [(0, _), (1, _), (2, _)]) dX1_comes_28 rfl rfl (by decide) ?_
          refine x_goto 5 dX1_comes_31 rfl ?_
          refine x_h (congrArg (mh G M B) (show _ = sh S (x + -1) (S.1 2) from by rw [show x + -1 = x - 1 by omega]; exact sh_s hn)) ?_
          exact ih5 (x + -1) (n - 1) (by omega) (by omega) (by omega) (by rw [hp]; obtain ⟨n0, rfl⟩ : ∃ n0, n = n0 + 1 := ⟨n - 1, by omega⟩; rw [ip, if_pos (by rw [show ((n0 : Nat) : Int) = x - 1 by omega]; omega)]; rfl)
  refine x_h (congrArg (mh G M B) (sh_0 S (S.1 2))) ?_
  exact L5 (15) (S.1 2) ((S.1 2).toNat) (by omega) (by omega) (by omega) (rfl)
theorem k_X1_comes {G : Gw} {X : Cx} {cc : ByteArray} {nL : Nat} {y : MethodName} {ret : Option FieldType} {dp : Nat} {P : Option Value → Hp → Prop} {mc ms pc : Nat} {lv : List (Nat × Value)} {st : List Value} {kc ks : Nat} {M : Mg} {B : Hp} {S : Ms} {r : Int} (hM : MOk M) (hd : decode cc pc = .ok (.invokevirtual 123, 3)) (hp0 : 0 ≤ S.1 2 ∧ S.1 2 < 14) (hp1 : ∀ a : Int, 0 ≤ a → a < S.1 2 → OE S a) (hp2 : NE S r) (hp3 : 0 ≤ r ∧ r < 14) (kk : V G X cc nL y ret dp P mc ms (pc + 3) lv (st) (mh G M B (s_come S r)) kc ks) (hy : y.cls = RX1 := by rfl) (hdp : 1 + 1 ≤ dp := by decide) (hrs : (st.map fun v => v.category).sum ≤ 8 := by first | decide | (simp [Value.category, iv, jv]; done)) : V G X cc nL y ret dp P mc ms pc lv (iv (r) :: .ref M.1 :: st) (mh G M B S) kc ks := by
  refine x_callV (ci := 1) (T := TX1) (N := 33) (As := [iv (r)]) 1 (fun l => c_X1_comes l G M B S r hM hp0 hp1 hp2 hp3) (by rw [hy]; exact q2979) q2981 qs82 q173 q2982 (by decide +kernel) hdp (by decide) (mh_o hM) rfl rfl rfl hrs hd (Nat.zero_le _) (Nat.zero_le _) (fun v h hv => ?_)
  obtain ⟨rfl, rfl⟩ := hv
  exact kk
abbrev q_X1_names (G : Gw) (M : Mg) (B : Hp) (S : Ms)  : Option Value → Hp → Prop := fun v_ h_ => v_ = some (iv (f_names S)) ∧ h_ = mh G M B (s_names S)
set_option maxHeartbeats 4000000 in
theorem c_X1_names (l : Launch) (G : Gw) (M : Mg) (B : Hp) (S : Ms)  (hM : MOk M) (hp0 : Wf S) (hp1 : Wp S) : Mt l G yX1_names cX1_names 3 (some .int) 4 [.ref (M.1)] (mh G M B S) (q_X1_names G M B S ) (0) (0) := by
  refine Mt.of (lv := [(0, .ref (M.1))]) (by decide) (Nat.le_of_ble_eq_true rfl) rfl (fun X => ?_)
  have h2 := hp0.nm
  have h0 := hp1.1
  have hcs : Cs S (s_read S) := rd_cs S _
  have hw := hp0.cs hcs
  have e0 : (s_read S).1 0 = S.1 0 := hcs.1 0 rfl
  have e2 : (s_read S).1 2 = S.1 2 := hcs.1 2 rfl
  have e6 : (s_read S).1 6 = S.1 6 := hcs.1 6 rfl
  have hfr : 0 ≤ f_read S ∧ f_read S ≤ 50 := read_R hp1
  have hst := read_st S
  refine x_aload_n dX1_names_0 rfl ?_
  refine k_X1_read  hM dX1_names_1 (hp1) ?_
  have J24 : V G X cX1_names 3 yX1_names (some .int) 4 (q_X1_names G M B S ) (0) (0) 24 [(0, .ref (M.1))] [iv (bI (decide (f_read S = S.1 0) && decide (2 < (s_read S).1 16)))] (mh G M B (s_read S)) (0) (0) := by
    refine x_istore_n (lv' := [(0, _), (1, _)]) dX1_names_24 rfl (by decide) ?_
    refine x_iconst dX1_names_25 ?_
    refine x_istore_n (lv' := [(0, _), (1, _), (2, _)]) dX1_names_26 rfl (by decide) ?_
    have L27 : ∀ (n27 : Nat) (k : Nat) (is : Bool), ((s_read S).1 17 - k) < (n27 : Int) → ((k : Int) ≤ (s_read S).1 17) → (is = ((decide (f_read S = S.1 0) && decide (2 < (s_read S).1 16)) && allB (fun k => !f_there (s_read S) k) k)) → V G X cX1_names 3 yX1_names (some .int) 4 (q_X1_names G M B S ) (0) (0) 27 [(0, .ref (M.1)), (1, iv (bI (is))), (2, iv (k))] [] (mh G M B (s_read S)) (0) (0) := by
      intro n27
      induction n27 with
      | zero =>
        intro k is hm hk hi
        exact absurd hm (by omega)
      | succ n27 ih27 =>
        intro k is hm27 hk hi
        refine x_iload_n dX1_names_27 rfl ?_
        refine x_aload_n dX1_names_28 rfl ?_
        refine m_get_newNames hM dX1_names_29 ?_
        refine x_icmp_ge 59 dX1_names_32 rfl (by omega) (by omega) (fun c_32 => ?_) (fun c_32 => ?_)
        · have hx27 : (s_read S).1 17 ≤ (k : Int) ∨ (is = false ∧ (k : Int) < (s_read S).1 17) := Or.inl c_32
          refine x_iload_n dX1_names_59 rfl ?_
          refine x_ifb_ne 66 dX1_names_60 rfl (fun c_60 => ?_) (fun c_60 => ?_)
          · have hbn : b_names S = true := by unfold b_names; rcases hx27 with h | ⟨h1, h2⟩; (rw [show ((s_read S).1 17).toNat = k by omega, ← hi]; exact c_60); (rw [h1] at c_60; cases c_60)
            have hri := read_RI (S := S) (b_names_1 hbn)
            obtain ⟨q1, q2, q3, q4, q5, q6, q7⟩ := hri
            have hri : 0 ≤ (s_read S).1 17 ∧ (s_read S).1 17 ≤ 14 := q2
            refine x_aload_n dX1_names_66 rfl ?_
            refine m_get_names hM dX1_names_67 ?_
            refine x_aload_n dX1_names_70 rfl ?_
            refine m_get_newNames hM dX1_names_71 ?_
            refine x_iadd dX1_names_74 ?_
            refine x_bipush dX1_names_75 ?_
            refine x_icmp_le 83 dX1_names_77 rfl (by rw [e2]; have := hri; omega) (by decide) (fun c_77 => ?_) (fun c_77 => ?_)
            · refine x_iconst dX1_names_83 ?_
              refine x_istore_n (lv' := [(0, _), (1, _), (2, _)]) dX1_names_84 rfl (by decide) ?_
              have L85 : ∀ (n85 : Nat) (g : Nat), ((s_read S).1 17 - g) < (n85 : Int) → ((g : Int) ≤ (s_read S).1 17) → V G X cX1_names 3 yX1_names (some .int) 4 (q_X1_names G M B S ) (0) (0) 85 [(0, .ref (M.1)), (1, iv (bI (is))), (2, iv (g))] [] (mh G M B (s_comes (s_read S) g)) (0) (0) := by
                intro n85
                induction n85 with
                | zero =>
                  intro g hm hg
                  exact absurd hm (by omega)
                | succ n85 ih85 =>
                  intro g hm85 hg
                  have e17 : (s_comes (s_read S) g).1 17 = (s_read S).1 17 := comes_1 _ _ (by decide)
                  have en := comes_n (s_read S) g
                  refine x_iload_n dX1_names_85 rfl ?_
                  refine x_aload_n dX1_names_86 rfl ?_
                  refine m_get_newNames hM dX1_names_87 ?_
                  refine x_icmp_ge 104 dX1_names_90 rfl (by omega) (by omega) (fun c_90 => ?_) (fun c_90 => ?_)
                  · rw [e17] at c_90
                    have eg : ((s_read S).1 17).toNat = g := by omega
                    refine x_aload_n dX1_names_104 rfl ?_
                    refine x_dup dX1_names_105 ?_
                    refine m_get_listsRead hM dX1_names_106 ?_
                    refine x_iconst dX1_names_109 ?_
                    refine x_iadd dX1_names_110 ?_
                    refine m_put_listsRead hM dX1_names_111 ?_
                    refine x_aload_n dX1_names_114 rfl ?_
                    refine x_iconst dX1_names_115 ?_
                    refine m_put_width hM dX1_names_116 ?_
                    refine x_aload_n dX1_names_119 rfl ?_
                    refine x_iconst dX1_names_120 ?_
                    refine m_put_pageLength hM dX1_names_121 ?_
                    refine x_aload_n dX1_names_124 rfl ?_
                    refine m_get_newNames hM dX1_names_125 ?_
                    exact x_iret rfl ⟨ri (by rw [f_names, if_pos hbn, if_pos (by omega)]; exact e17), congrArg (mh G M B) (by rw [s_names, if_pos hbn, if_pos (by omega), eg, ← e6, ← comes_1 (s_read S) g (k := 6) (by decide)])⟩ dX1_names_128
                  · rw [e17] at c_90
                    refine x_aload_n dX1_names_93 rfl ?_
                    refine x_iload_n dX1_names_94 rfl ?_
                    refine k_X1_comes (r := g) hM dX1_names_95 (by rw [en]; rw [e2] at *; omega) (fun a a0 a1 => comes_OE (by omega) (fun a b c => ⟨hw.len ⟨b, c⟩, fun i i0 i1 => hw.let ⟨b, c⟩ ⟨i0, i1⟩⟩) g (fun r r0 r1 => ⟨(q5 r r0 (by omega)).1, (q5 r r0 (by omega)).2.2⟩) a a0 (by omega)) (by unfold NE; rw [comes_2 _ _ (by decide) (by decide) (by decide), comes_2 _ _ (by decide) (by decide) (by decide)]; exact ⟨(q5 g (by omega) (by omega)).1, (q5 g (by omega) (by omega)).2.2⟩) (by omega) ?_
                    refine x_iinc (lv' := [(0, _), (1, _), (2, _)]) dX1_names_98 rfl rfl (by decide) ?_
                    refine x_goto 85 dX1_names_101 rfl ?_
                    exact ih85 (g + 1) (by omega) (by omega)
              exact L85 (((s_read S).1 17).toNat + 1) (0) (by omega) (by omega)
            · refine x_bipush dX1_names_80 ?_
              exact x_iret rfl ⟨ri (by rw [f_names, if_pos hbn, if_neg (by omega)]), congrArg (mh G M B) (by rw [s_names, if_pos hbn, if_neg (by omega)])⟩ dX1_names_82
          · have hbn : b_names S = false := by unfold b_names; rcases hx27 with h | ⟨h1, h2⟩; (rw [show ((s_read S).1 17).toNat = k by omega, ← hi]; exact c_60); (rw [h1] at hi; have hi := hi.symm; cases h9 : (decide (f_read S = S.1 0) && decide (2 < (s_read S).1 16)) with | false => rfl | true => (rw [h9, Bool.true_and] at hi; rw [allB_f k (by omega) hi]; rfl))
            refine x_bipush dX1_names_63 ?_
            exact x_iret rfl ⟨ri (by rw [f_names, if_neg (bf hbn)]), congrArg (mh G M B) (by rw [s_names, if_neg (bf hbn)])⟩ dX1_names_65
        · refine x_iload_n dX1_names_35 rfl ?_
          refine x_ifb_eq 59 dX1_names_36 rfl (fun c_36 => ?_) (fun c_36 => ?_)
          · have hx27 : (s_read S).1 17 ≤ (k : Int) ∨ (is = false ∧ (k : Int) < (s_read S).1 17) := Or.inr ⟨c_36, by omega⟩
            refine x_iload_n dX1_names_59 rfl ?_
            refine x_ifb_ne 66 dX1_names_60 rfl (fun c_60 => ?_) (fun c_60 => ?_)
            · have hbn : b_names S = true := by unfold b_names; rcases hx27 with h | ⟨h1, h2⟩; (rw [show ((s_read S).1 17).toNat = k by omega, ← hi]; exact c_60); (rw [h1] at c_60; cases c_60)
              have hri := read_RI (S := S) (b_names_1 hbn)
              obtain ⟨q1, q2, q3, q4, q5, q6, q7⟩ := hri
              have hri : 0 ≤ (s_read S).1 17 ∧ (s_read S).1 17 ≤ 14 := q2
              refine x_aload_n dX1_names_66 rfl ?_
              refine m_get_names hM dX1_names_67 ?_
              refine x_aload_n dX1_names_70 rfl ?_
              refine m_get_newNames hM dX1_names_71 ?_
              refine x_iadd dX1_names_74 ?_
              refine x_bipush dX1_names_75 ?_
              refine x_icmp_le 83 dX1_names_77 rfl (by rw [e2]; have := hri; omega) (by decide) (fun c_77 => ?_) (fun c_77 => ?_)
              · refine x_iconst dX1_names_83 ?_
                refine x_istore_n (lv' := [(0, _), (1, _), (2, _)]) dX1_names_84 rfl (by decide) ?_
                have L85 : ∀ (n85 : Nat) (g : Nat), ((s_read S).1 17 - g) < (n85 : Int) → ((g : Int) ≤ (s_read S).1 17) → V G X cX1_names 3 yX1_names (some .int) 4 (q_X1_names G M B S ) (0) (0) 85 [(0, .ref (M.1)), (1, iv (bI (is))), (2, iv (g))] [] (mh G M B (s_comes (s_read S) g)) (0) (0) := by
                  intro n85
                  induction n85 with
                  | zero =>
                    intro g hm hg
                    exact absurd hm (by omega)
                  | succ n85 ih85 =>
                    intro g hm85 hg
                    have e17 : (s_comes (s_read S) g).1 17 = (s_read S).1 17 := comes_1 _ _ (by decide)
                    have en := comes_n (s_read S) g
                    refine x_iload_n dX1_names_85 rfl ?_
                    refine x_aload_n dX1_names_86 rfl ?_
                    refine m_get_newNames hM dX1_names_87 ?_
                    refine x_icmp_ge 104 dX1_names_90 rfl (by omega) (by omega) (fun c_90 => ?_) (fun c_90 => ?_)
                    · rw [e17] at c_90
                      have eg : ((s_read S).1 17).toNat = g := by omega
                      refine x_aload_n dX1_names_104 rfl ?_
                      refine x_dup dX1_names_105 ?_
                      refine m_get_listsRead hM dX1_names_106 ?_
                      refine x_iconst dX1_names_109 ?_
                      refine x_iadd dX1_names_110 ?_
                      refine m_put_listsRead hM dX1_names_111 ?_
                      refine x_aload_n dX1_names_114 rfl ?_
                      refine x_iconst dX1_names_115 ?_
                      refine m_put_width hM dX1_names_116 ?_
                      refine x_aload_n dX1_names_119 rfl ?_
                      refine x_iconst dX1_names_120 ?_
                      refine m_put_pageLength hM dX1_names_121 ?_
                      refine x_aload_n dX1_names_124 rfl ?_
                      refine m_get_newNames hM dX1_names_125 ?_
                      exact x_iret rfl ⟨ri (by rw [f_names, if_pos hbn, if_pos (by omega)]; exact e17), congrArg (mh G M B) (by rw [s_names, if_pos hbn, if_pos (by omega), eg, ← e6, ← comes_1 (s_read S) g (k := 6) (by decide)])⟩ dX1_names_128
                    · rw [e17] at c_90
                      refine x_aload_n dX1_names_93 rfl ?_
                      refine x_iload_n dX1_names_94 rfl ?_
                      refine k_X1_comes (r := g) hM dX1_names_95 (by rw [en]; rw [e2] at *; omega) (fun a a0 a1 => comes_OE (by omega) (fun a b c => ⟨hw.len ⟨b, c⟩, fun i i0 i1 => hw.let ⟨b, c⟩ ⟨i0, i1⟩⟩) g (fun r r0 r1 => ⟨(q5 r r0 (by omega)).1, (q5 r r0 (by omega)).2.2⟩) a a0 (by omega)) (by unfold NE; rw [comes_2 _ _ (by decide) (by decide) (by decide), comes_2 _ _ (by decide) (by decide) (by decide)]; exact ⟨(q5 g (by omega) (by omega)).1, (q5 g (by omega) (by omega)).2.2⟩) (by omega) ?_
                      refine x_iinc (lv' := [(0, _), (1, _), (2, _)]) dX1_names_98 rfl rfl (by decide) ?_
                      refine x_goto 85 dX1_names_101 rfl ?_
                      exact ih85 (g + 1) (by omega) (by omega)
                exact L85 (((s_read S).1 17).toNat + 1) (0) (by omega) (by omega)
              · refine x_bipush dX1_names_80 ?_
                exact x_iret rfl ⟨ri (by rw [f_names, if_pos hbn, if_neg (by omega)]), congrArg (mh G M B) (by rw [s_names, if_pos hbn, if_neg (by omega)])⟩ dX1_names_82
            · have hbn : b_names S = false := by unfold b_names; rcases hx27 with h | ⟨h1, h2⟩; (rw [show ((s_read S).1 17).toNat = k by omega, ← hi]; exact c_60); (rw [h1] at hi; have hi := hi.symm; cases h9 : (decide (f_read S = S.1 0) && decide (2 < (s_read S).1 16)) with | false => rfl | true => (rw [h9, Bool.true_and] at hi; rw [allB_f k (by omega) hi]; rfl))
              refine x_bipush dX1_names_63 ?_
              exact x_iret rfl ⟨ri (by rw [f_names, if_neg (bf hbn)]), congrArg (mh G M B) (by rw [s_names, if_neg (bf hbn)])⟩ dX1_names_65
          · have hri := read_RI (S := S) (by rw [c_36] at hi; have hi := hi.symm; rw [Bool.and_eq_true, Bool.and_eq_true, decide_eq_true_eq] at hi; exact hi.1.1)
            have J52 : V G X cX1_names 3 yX1_names (some .int) 4 (q_X1_names G M B S ) (0) (0) 52 [(0, .ref (M.1)), (1, iv (bI (is))), (2, iv (k))] [iv (bI (!f_there (s_read S) k))] (mh G M B (s_read S)) (0) (0) := by
              refine x_istore_n (lv' := [(0, _), (1, _), (2, _)]) dX1_names_52 rfl (by decide) ?_
              refine x_iinc (lv' := [(0, _), (1, _), (2, _)]) dX1_names_53 rfl rfl (by decide) ?_
              refine x_goto 27 dX1_names_56 rfl ?_
              exact ih27 (k + 1) (_) (by omega) (by omega) (by rw [c_36] at hi; have hi := hi.symm; rw [Bool.and_eq_true] at hi; rw [allB, hi.1, hi.2]; rfl)
            refine x_aload_n dX1_names_39 rfl ?_
            refine x_iload_n dX1_names_40 rfl ?_
            refine k_X1_isThere (r := k) hM dX1_names_41 (hw) (⟨(hri.2.2.2.2.1 k (by omega) (by omega)).1, (hri.2.2.2.2.1 k (by omega) (by omega)).2.2⟩) (by have := hri.2.1; omega) ?_
            refine x_ifb_ne 51 dX1_names_44 rfl (fun c_44 => ?_) (fun c_44 => ?_)
            · refine x_iconst dX1_names_51 ?_
              exact x_jf (by first | (simp_all; done) | (simp; omega) | (simp_all; omega)) J52
            · refine x_iconst dX1_names_47 ?_
              refine x_goto 52 dX1_names_48 rfl ?_
              exact x_jt (by first | (simp_all; done) | (simp; omega) | (simp_all; omega)) J52
    exact L27 (((s_read S).1 17).toNat + 1) (0) (_) (by omega) (by omega) (by simp [allB])
  refine x_aload_n dX1_names_4 rfl ?_
  refine m_get_pageLength hM dX1_names_5 ?_
  refine x_icmp_ne 23 dX1_names_8 rfl (by omega) (by rw [e0]; omega) (fun c_8 => ?_) (fun c_8 => ?_)
  · refine x_iconst dX1_names_23 ?_
    exact x_jf (by rw [e0] at c_8; rw [decide_eq_false c_8]; rfl) J24
  · refine x_aload_n dX1_names_11 rfl ?_
    refine m_get_stage hM dX1_names_12 ?_
    refine x_iconst dX1_names_15 ?_
    refine x_icmp_le 23 dX1_names_16 rfl (by omega) (by decide) (fun c_16 => ?_) (fun c_16 => ?_)
    · refine x_iconst dX1_names_23 ?_
      exact x_jf (by rw [decide_eq_false (show ¬ 2 < (s_read S).1 16 by omega)]; simp) J24
    · refine x_iconst dX1_names_19 ?_
      refine x_goto 24 dX1_names_20 rfl ?_
      exact x_jt (by rw [e0] at c_8; rw [decide_eq_true c_8, decide_eq_true (show 2 < (s_read S).1 16 by omega)]; rfl) J24
