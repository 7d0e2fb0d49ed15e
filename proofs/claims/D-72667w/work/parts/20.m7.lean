/-! MODEL 7: the table of costs -/
set_option maxRecDepth 100000
abbrev q_X1_layCosts (G : Gw) (M : Mg) (B : Hp) (S : Ms) (b : Int) : Option Value → Hp → Prop := fun v_ h_ => ∃ T : Ms, v_ = none ∧ h_ = mh G M B T ∧ (LCi S b (fun _ _ => True) T)
set_option maxHeartbeats 4000000 in
theorem c_X1_layCosts (l : Launch) (G : Gw) (M : Mg) (B : Hp) (S : Ms) (b : Int) (hM : MOk M) (hp0 : Wf S) (hp1 : 2 ≤ b ∧ b ≤ 4) : Mt l G yX1_layCosts cX1_layCosts 4 none 3 [.ref (M.1), iv (b)] (mh G M B S) (q_X1_layCosts G M B S b) (0) (0) := by
  refine Mt.of (lv := [(0, .ref (M.1)), (1, iv (b))]) (by decide) (Nat.le_of_ble_eq_true rfl) rfl (fun X => ?_)
  have h2 := hp0.nm
  refine x_iconst dX1_layCosts_0 ?_
  refine x_istore_n (lv' := [(0, _), (1, _), (2, _)]) dX1_layCosts_1 rfl (by decide) ?_
  have L2 : ∀ (n2 : Nat) (n : Int) (T : Ms), (S.1 2 + 1 - n) < (n2 : Int) → 1 ≤ n ∧ n ≤ S.1 2 + 1 → LCi S b (fun f t => t - f < n) T → V G X cX1_layCosts 4 yX1_layCosts none 3 (q_X1_layCosts G M B S b) (0) (0) 2 [(0, .ref (M.1)), (1, iv (b)), (2, iv (n))] [] (mh G M B T) (0) (0) := by
    intro n2
    induction n2 with
    | zero =>
      intro n T hm hn hT
      exact absurd hm (by omega)
    | succ n2 ih2 =>
      intro n T hm2 hn hT
      have e2 : T.1 2 = S.1 2 := congrFun hT.1 2
      refine x_iload_n dX1_layCosts_2 rfl ?_
      refine x_aload_n dX1_layCosts_3 rfl ?_
      refine m_get_names hM dX1_layCosts_4 ?_
      refine x_icmp_gt 43 dX1_layCosts_7 rfl (by omega) (by omega) (fun c_7 => ?_) (fun c_7 => ?_)
      · exact x_vret rfl ⟨_, rfl, rfl, hT.mono (fun f t _ _ _ _ => by omega)⟩ dX1_layCosts_43
      · refine x_iconst dX1_layCosts_10 ?_
        refine x_istore_n (lv' := [(0, _), (1, _), (2, _), (3, _)]) dX1_layCosts_11 rfl (by decide) ?_
        have L12 : ∀ (n12 : Nat) (k : Int) (T2 : Ms), (S.1 2 + 1 - n - k) < (n12 : Int) → 0 ≤ k ∧ k ≤ S.1 2 + 1 - n → LCi S b (fun f t => t - f < n ∨ (t - f = n ∧ f < k)) T2 → V G X cX1_layCosts 4 yX1_layCosts none 3 (q_X1_layCosts G M B S b) (0) (0) 12 [(0, .ref (M.1)), (1, iv (b)), (2, iv (n)), (3, iv (k))] [] (mh G M B T2) (0) (0) := by
          intro n12
          induction n12 with
          | zero =>
            intro k T2 hm hk hT2
            exact absurd hm (by omega)
          | succ n12 ih12 =>
            intro k T2 hm12 hk hT2
            have e3 : T2.1 2 = S.1 2 := congrFun hT2.1 2
            refine x_iload_n dX1_layCosts_12 rfl ?_
            refine x_iload_n dX1_layCosts_13 rfl ?_
            refine x_iadd dX1_layCosts_14 ?_
            refine x_aload_n dX1_layCosts_15 rfl ?_
            refine m_get_names hM dX1_layCosts_16 ?_
            refine x_icmp_gt 37 dX1_layCosts_19 rfl (by omega) (by omega) (fun c_19 => ?_) (fun c_19 => ?_)
            · refine x_iinc (lv' := [(0, _), (1, _), (2, _), (3, _)]) dX1_layCosts_37 rfl rfl (by decide) ?_
              refine x_goto 2 dX1_layCosts_40 rfl ?_
              refine x_lvp [0, 1, 2] (lv' := [(0, _), (1, _), (2, _)]) rfl ?_
              exact ih2 (n + 1) (T2) (by omega) (by omega) (hT2.mono (fun f t _ _ _ _ => by omega))
            · refine x_aload_n dX1_layCosts_22 rfl ?_
              refine x_iload_n dX1_layCosts_23 rfl ?_
              refine x_iload_n dX1_layCosts_24 rfl ?_
              refine x_iload_n dX1_layCosts_25 rfl ?_
              refine x_iload_n dX1_layCosts_26 rfl ?_
              refine x_iadd dX1_layCosts_27 ?_
              refine k_X1_layStretch (b := b) (f := k) (t := k + n) hM dX1_layCosts_28 (hp0.cs hT2.cs) (by omega) (hp1) (LCi.bd hp0 hT2 (by omega) (by omega) (by intro f' t' _ _ _ _; omega)) ?_
              refine x_iinc (lv' := [(0, _), (1, _), (2, _), (3, _)]) dX1_layCosts_31 rfl rfl (by decide) ?_
              refine x_goto 12 dX1_layCosts_34 rfl ?_
              exact ih12 (k + 1) (s_str T2 b k (k + n)) (by omega) (by omega) ((LCi.str hp0 hT2 hp1 (by omega) (by omega) (by omega) (by intro f' t' _ _ _ _; omega)).mono (fun f t _ _ _ _ => by omega))
        exact L12 ((S.1 2).toNat + 2) (0) (T) (by omega) (by omega) (hT.mono (fun f t _ _ _ _ => by omega))
  exact L2 ((S.1 2).toNat + 1) (1) (S) (by omega) (by omega) (⟨rfl, fun _ _ _ => rfl, fun f t _ _ _ _ => by omega⟩)
theorem k_X1_layCosts {G : Gw} {X : Cx} {cc : ByteArray} {nL : Nat} {y : MethodName} {ret : Option FieldType} {dp : Nat} {P : Option Value → Hp → Prop} {mc ms pc : Nat} {lv : List (Nat × Value)} {st : List Value} {kc ks : Nat} {M : Mg} {B : Hp} {S : Ms} {b : Int} (hM : MOk M) (hd : decode cc pc = .ok (.invokevirtual 250, 3)) (hp0 : Wf S) (hp1 : 2 ≤ b ∧ b ≤ 4) (kk : ∀ T : Ms, (LCi S b (fun _ _ => True) T) → V G X cc nL y ret dp P mc ms (pc + 3) lv (st) (mh G M B T) kc ks) (hy : y.cls = RX1 := by rfl) (hdp : 3 + 1 ≤ dp := by decide) (hrs : (st.map fun v => v.category).sum ≤ 8 := by first | decide | (simp [Value.category, iv, jv]; done)) : V G X cc nL y ret dp P mc ms pc lv (iv (b) :: .ref M.1 :: st) (mh G M B S) kc ks := by
  refine x_callV (ci := 1) (T := TX1) (N := 33) (As := [iv (b)]) 1 (fun l => c_X1_layCosts l G M B S b hM hp0 hp1) (by rw [hy]; exact q3052) q3054 qs96 q173 q3055 (by decide +kernel) hdp (by decide) (mh_o hM) rfl rfl rfl hrs hd (Nat.zero_le _) (Nat.zero_le _) (fun v h hv => ?_)
  obtain ⟨T, rfl, rfl, hv⟩ := hv
  exact kk T hv
