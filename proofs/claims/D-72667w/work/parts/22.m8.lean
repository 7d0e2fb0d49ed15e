/-! MODEL 8: paths of the least menu -/
set_option maxRecDepth 100000
abbrev q_X1_partsOf (G : Gw) (M : Mg) (B : Hp) (S : Ms) (b : Int) (f : Int) (t : Int) : Option Value → Hp → Prop := fun v_ h_ => v_ = some (iv (t_of (sP S) b f t)) ∧ h_ = mh G M B (S)
set_option maxHeartbeats 4000000 in
theorem c_X1_partsOf (l : Launch) (G : Gw) (M : Mg) (B : Hp) (S : Ms) (b : Int) (f : Int) (t : Int) (hM : MOk M) (hp0 : 2 ≤ b ∧ b ≤ 4) (hp1 : S.1 2 ≤ 14) (hp2 : 0 ≤ f ∧ f < t ∧ t ≤ S.1 2) (hp3 : Gt (sC S) (sP S) (S.1 2) b) : Mt l G yX1_partsOf cX1_partsOf 6 (some .int) 1 [.ref (M.1), iv (b), iv (f), iv (t)] (mh G M B S) (q_X1_partsOf G M B S b f t) (0) (0) := by
  refine Mt.of (lv := [(0, .ref (M.1)), (1, iv (b)), (2, iv (f)), (3, iv (t))]) (by decide) (Nat.le_of_ble_eq_true rfl) rfl (fun X => ?_)
  have hb : ∀ m : Int, 1 ≤ m → m ≤ b → bnd (sP S m f t) := fun m m1 m2 => (hp3 f t hp2.1 hp2.2.1 hp2.2.2).2.1 m m1 m2
  unfold bnd at hb
  refine x_iconst dX1_partsOf_0 ?_
  refine x_istore (lv' := [(0, _), (1, _), (2, _), (3, _), (4, _)]) dX1_partsOf_1 rfl (by decide) ?_
  refine x_iconst dX1_partsOf_3 ?_
  refine x_istore (lv' := [(0, _), (1, _), (2, _), (3, _), (4, _), (5, _)]) dX1_partsOf_4 rfl (by decide) ?_
  have L6 : ∀ (n6 : Nat) (m : Int) (j : Nat), (b + 1 - m) < (n6 : Int) → (m = 3 + j) → (m ≤ b + 1) → V G X cX1_partsOf 6 yX1_partsOf (some .int) 1 (q_X1_partsOf G M B S b f t) (0) (0) 6 [(0, .ref (M.1)), (1, iv (b)), (2, iv (f)), (3, iv (t)), (4, iv (amin (fun m => sP S m f t) j)), (5, iv (m))] [] (mh G M B S) (0) (0) := by
    intro n6
    induction n6 with
    | zero =>
      intro m j hm hm hj
      exact absurd hm (by omega)
    | succ n6 ih6 =>
      intro m j hm6 hm hj
      have ha := amin_R (fun m => sP S m f t) j
      refine x_iload dX1_partsOf_6 rfl ?_
      refine x_iload_n dX1_partsOf_8 rfl ?_
      refine x_icmp_gt 46 dX1_partsOf_9 rfl (by omega) (by omega) (fun c_9 => ?_) (fun c_9 => ?_)
      · refine x_iload dX1_partsOf_46 rfl ?_
        exact x_iret rfl ⟨ri (by rw [t_of, show (b - 2).toNat = j by omega]), rfl⟩ dX1_partsOf_48
      · have J38 : V G X cX1_partsOf 6 yX1_partsOf (some .int) 1 (q_X1_partsOf G M B S b f t) (0) (0) 38 [(0, .ref (M.1)), (1, iv (b)), (2, iv (f)), (3, iv (t)), (4, iv (amin (fun m => sP S m f t) j)), (5, iv (m))] [iv (amin (fun m => sP S m f t) (j + 1))] (mh G M B S) (0) (0) := by
          refine x_istore (lv' := [(0, _), (1, _), (2, _), (3, _), (4, _), (5, _)]) dX1_partsOf_38 rfl (by decide) ?_
          refine x_iinc (lv' := [(0, _), (1, _), (2, _), (3, _), (4, _), (5, _)]) dX1_partsOf_40 rfl rfl (by decide) ?_
          refine x_goto 6 dX1_partsOf_43 rfl ?_
          exact ih6 (m + 1) (j + 1) (by omega) (by omega) (by omega)
        refine x_aload_n dX1_partsOf_12 rfl ?_
        refine x_iload dX1_partsOf_13 rfl ?_
        refine x_iload_n dX1_partsOf_15 rfl ?_
        refine x_iload_n dX1_partsOf_16 rfl ?_
        refine k_X1_partsAt (m := m) (f := f) (t := t) hM dX1_partsOf_17 (by omega) (by omega) (by omega) ?_
        refine x_ji (show S.2 27 (225 * m + 15 * f + t) = sP S m f t from rfl) ?_
        refine x_aload_n dX1_partsOf_20 rfl ?_
        refine x_iload dX1_partsOf_21 rfl ?_
        refine x_iload_n dX1_partsOf_23 rfl ?_
        refine x_iload_n dX1_partsOf_24 rfl ?_
        refine k_X1_partsAt (m := amin (fun m => sP S m f t) j) (f := f) (t := t) hM dX1_partsOf_25 (by omega) (by omega) (by omega) ?_
        refine x_ji (show S.2 27 (225 * (amin (fun m => sP S m f t) j) + 15 * f + t) = sP S (amin (fun m => sP S m f t) j) f t from rfl) ?_
        refine x_icmp_ge 36 dX1_partsOf_28 rfl (hb m (by omega) (by omega) |> fun z => ⟨by omega, by omega⟩) (hb (amin (fun m => sP S m f t) j) (by omega) (by omega) |> fun z => ⟨by omega, by omega⟩) (fun c_28 => ?_) (fun c_28 => ?_)
        · refine x_iload dX1_partsOf_36 rfl ?_
          exact x_ji (by rw [amin, ← hm, if_neg (Int.not_lt.mpr c_28)]) J38
        · refine x_iload dX1_partsOf_31 rfl ?_
          refine x_goto 38 dX1_partsOf_33 rfl ?_
          exact x_ji (by rw [amin, ← hm, if_pos (Int.not_le.mp c_28)]) J38
  exact L6 (3) (3) (0) (by omega) (by omega) (by omega)
theorem k_X1_partsOf {G : Gw} {X : Cx} {cc : ByteArray} {nL : Nat} {y : MethodName} {ret : Option FieldType} {dp : Nat} {P : Option Value → Hp → Prop} {mc ms pc : Nat} {lv : List (Nat × Value)} {st : List Value} {kc ks : Nat} {M : Mg} {B : Hp} {S : Ms} {b : Int} {f : Int} {t : Int} (hM : MOk M) (hd : decode cc pc = .ok (.invokevirtual 244, 3)) (hp0 : 2 ≤ b ∧ b ≤ 4) (hp1 : S.1 2 ≤ 14) (hp2 : 0 ≤ f ∧ f < t ∧ t ≤ S.1 2) (hp3 : Gt (sC S) (sP S) (S.1 2) b) (kk : V G X cc nL y ret dp P mc ms (pc + 3) lv (iv (t_of (sP S) b f t) :: st) (mh G M B (S)) kc ks) (hy : y.cls = RX1 := by rfl) (hdp : 1 + 1 ≤ dp := by decide) (hrs : (st.map fun v => v.category).sum ≤ 8 := by first | decide | (simp [Value.category, iv, jv]; done)) : V G X cc nL y ret dp P mc ms pc lv (iv (t) :: iv (f) :: iv (b) :: .ref M.1 :: st) (mh G M B S) kc ks := by
  refine x_callV (ci := 1) (T := TX1) (N := 33) (As := [iv (b), iv (f), iv (t)]) 3 (fun l => c_X1_partsOf l G M B S b f t hM hp0 hp1 hp2 hp3) (by rw [hy]; exact q3080) q3082 qs103 q173 q3083 (by decide +kernel) hdp (by decide) (mh_o hM) rfl rfl rfl hrs hd (Nat.zero_le _) (Nat.zero_le _) (fun v h hv => ?_)
  obtain ⟨rfl, rfl⟩ := hv
  exact kk
abbrev q_X1_firstCut (G : Gw) (M : Mg) (B : Hp) (S : Ms) (b : Int) (m : Int) (f : Int) (t : Int) : Option Value → Hp → Prop := fun v_ h_ => v_ = some (iv (t_cut (sC S) (sP S) m f t)) ∧ h_ = mh G M B (S)
set_option maxHeartbeats 4000000 in
theorem c_X1_firstCut (l : Launch) (G : Gw) (M : Mg) (B : Hp) (S : Ms) (b : Int) (m : Int) (f : Int) (t : Int) (hM : MOk M) (hp0 : 1 ≤ m ∧ m ≤ b) (hp1 : S.1 2 ≤ 14) (hp2 : 0 ≤ f ∧ f < t ∧ t ≤ S.1 2) (hp3 : Gt (sC S) (sP S) (S.1 2) b) (hp4 : m ≠ 1 → sP S m f t ≠ 268435456) (hp5 : 2 ≤ b ∧ b ≤ 4) : Mt l G yX1_firstCut cX1_firstCut 5 (some .int) 1 [.ref (M.1), iv (m), iv (f), iv (t)] (mh G M B S) (q_X1_firstCut G M B S b m f t) (0) (0) := by
  refine Mt.of (lv := [(0, .ref (M.1)), (1, iv (m)), (2, iv (f)), (3, iv (t))]) (by decide) (Nat.le_of_ble_eq_true rfl) rfl (fun X => ?_)
  refine x_iload_n dX1_firstCut_0 rfl ?_
  refine x_iconst dX1_firstCut_1 ?_
  refine x_icmp_ne 7 dX1_firstCut_2 rfl (by omega) (by omega) (fun c_2 => ?_) (fun c_2 => ?_)
  · have hx := (hp3 f t hp2.1 hp2.2.1 hp2.2.2).2.2.2.2 m (by omega) (by omega) (hp4 c_2)
    have ht := (hp3 f t hp2.1 hp2.2.1 hp2.2.2).2.1 m (by omega) (by omega)
    refine x_iload_n dX1_firstCut_7 rfl ?_
    refine x_iconst dX1_firstCut_8 ?_
    refine x_iadd dX1_firstCut_9 ?_
    refine x_istore (lv' := [(0, _), (1, _), (2, _), (3, _), (4, _)]) dX1_firstCut_10 rfl (by decide) ?_
    have L12 : ∀ (n12 : Nat) (c : Int), (t - c) < (n12 : Int) → (f < c) → (∃ d : Int, c ≤ d ∧ d < t ∧ goodC (sC S) (sP S) m f t d = true) → (t_cut (sC S) (sP S) m f t = firstB (fun c => goodC (sC S) (sP S) m f t c) t (t - c).toNat c) → V G X cX1_firstCut 5 yX1_firstCut (some .int) 1 (q_X1_firstCut G M B S b m f t) (0) (0) 12 [(0, .ref (M.1)), (1, iv (m)), (2, iv (f)), (3, iv (t)), (4, iv (c))] [] (mh G M B S) (0) (0) := by
      intro n12
      induction n12 with
      | zero =>
        intro c hm hc hx hf
        exact absurd hm (by omega)
      | succ n12 ih12 =>
        intro c hm12 hc hx hf
        have hct : c < t := by obtain ⟨d, d1, d2, -⟩ := hx; omega
        have b1 := (hp3 c t (by omega) hct (by omega)).2.1 (m - 1) (by omega) (by omega)
        have b2 := (hp3 f c (by omega) hc (by omega)).1
        unfold bnd at b1 b2 ht
        refine x_aload_n dX1_firstCut_12 rfl ?_
        refine x_iload_n dX1_firstCut_13 rfl ?_
        refine x_iconst dX1_firstCut_14 ?_
        refine x_isub dX1_firstCut_15 ?_
        refine x_iload dX1_firstCut_16 rfl ?_
        refine x_iload_n dX1_firstCut_18 rfl ?_
        refine k_X1_partsAt (m := m - 1) (f := c) (t := t) hM dX1_firstCut_19 (by omega) (by omega) (by omega) ?_
        refine x_ji (show S.2 27 (225 * (m - 1) + 15 * c + t) = sP S (m - 1) c t from rfl) ?_
        refine x_ldc 268435456 q3039 dX1_firstCut_22 rfl ?_
        refine x_icmp_eq 55 dX1_firstCut_24 rfl ((show -2147483648 ≤ sP S (m - 1) c t ∧ sP S (m - 1) c t ≤ 2147483647 by omega)) (by decide) (fun c_24 => ?_) (fun c_24 => ?_)
        · have hbad : goodC (sC S) (sP S) m f t c = false := by unfold goodC; rw [show sP S (m - 1) c t = 268435456 from c_24]; simp
          refine x_iinc (lv' := [(0, _), (1, _), (2, _), (3, _), (4, _)]) dX1_firstCut_55 rfl rfl (by decide) ?_
          refine x_goto 12 dX1_firstCut_58 rfl ?_
          exact ih12 (c + 1) (by omega) (by omega) (by obtain ⟨d, d1, d2, d3⟩ := hx; exact ⟨d, by have : d ≠ c := (fun z => by rw [z, hbad] at d3; cases d3); omega, d2, d3⟩) (by rw [hf, firstB_s hbad (by omega)]; congr 1; omega)
        · refine x_aload_n dX1_firstCut_27 rfl ?_
          refine x_iload_n dX1_firstCut_28 rfl ?_
          refine x_iload dX1_firstCut_29 rfl ?_
          refine k_X1_costAt (f := f) (t := c) hM dX1_firstCut_31 (by omega) (by omega) ?_
          refine x_ji (show S.2 26 (15 * f + c) = sC S f c from rfl) ?_
          refine x_aload_n dX1_firstCut_34 rfl ?_
          refine x_iload_n dX1_firstCut_35 rfl ?_
          refine x_iconst dX1_firstCut_36 ?_
          refine x_isub dX1_firstCut_37 ?_
          refine x_iload dX1_firstCut_38 rfl ?_
          refine x_iload_n dX1_firstCut_40 rfl ?_
          refine k_X1_partsAt (m := m - 1) (f := c) (t := t) hM dX1_firstCut_41 (by omega) (by omega) (by omega) ?_
          refine x_ji (show S.2 27 (225 * (m - 1) + 15 * c + t) = sP S (m - 1) c t from rfl) ?_
          refine x_iadd dX1_firstCut_44 ?_
          refine x_aload_n dX1_firstCut_45 rfl ?_
          refine x_iload_n dX1_firstCut_46 rfl ?_
          refine x_iload_n dX1_firstCut_47 rfl ?_
          refine x_iload_n dX1_firstCut_48 rfl ?_
          refine k_X1_partsAt (m := m) (f := f) (t := t) hM dX1_firstCut_49 (by omega) (by omega) (by omega) ?_
          refine x_ji (show S.2 27 (225 * m + 15 * f + t) = sP S m f t from rfl) ?_
          refine x_icmp_eq 61 dX1_firstCut_52 rfl ((show -2147483648 ≤ sC S f c + sP S (m - 1) c t ∧ sC S f c + sP S (m - 1) c t ≤ 2147483647 by omega)) ((show -2147483648 ≤ sP S m f t ∧ sP S m f t ≤ 2147483647 by omega)) (fun c_52 => ?_) (fun c_52 => ?_)
          · have hgood : goodC (sC S) (sP S) m f t c = true := by unfold goodC; rw [decide_eq_true (show sC S f c + sP S (m - 1) c t = sP S m f t from c_52), decide_eq_false (show ¬ sP S (m - 1) c t = 268435456 from c_24)]; rfl
            refine x_iload dX1_firstCut_61 rfl ?_
            exact x_iret rfl ⟨ri (by rw [hf, firstB_t (hgood) (by omega)]), rfl⟩ dX1_firstCut_63
          · have hbad : goodC (sC S) (sP S) m f t c = false := by unfold goodC; rw [decide_eq_false (show ¬ sC S f c + sP S (m - 1) c t = sP S m f t from c_52)]; simp
            refine x_iinc (lv' := [(0, _), (1, _), (2, _), (3, _), (4, _)]) dX1_firstCut_55 rfl rfl (by decide) ?_
            refine x_goto 12 dX1_firstCut_58 rfl ?_
            exact ih12 (c + 1) (by omega) (by omega) (by obtain ⟨d, d1, d2, d3⟩ := hx; exact ⟨d, by have : d ≠ c := (fun z => by rw [z, hbad] at d3; cases d3); omega, d2, d3⟩) (by rw [hf, firstB_s hbad (by omega)]; congr 1; omega)
    exact L12 ((t - f).toNat + 1) (_) (by omega) (by omega) (by obtain ⟨d, d1, d2, d3⟩ := hx; exact ⟨d, by omega, d2, d3⟩) (by unfold t_cut; rw [if_neg c_2]; congr 1; omega)
  · refine x_iload_n dX1_firstCut_5 rfl ?_
    exact x_iret rfl ⟨ri (by unfold t_cut; rw [if_pos c_2]), rfl⟩ dX1_firstCut_6
theorem k_X1_firstCut {G : Gw} {X : Cx} {cc : ByteArray} {nL : Nat} {y : MethodName} {ret : Option FieldType} {dp : Nat} {P : Option Value → Hp → Prop} {mc ms pc : Nat} {lv : List (Nat × Value)} {st : List Value} {kc ks : Nat} {M : Mg} {B : Hp} {S : Ms} {b : Int} {m : Int} {f : Int} {t : Int} (hM : MOk M) (hd : decode cc pc = .ok (.invokevirtual 247, 3)) (hp0 : 1 ≤ m ∧ m ≤ b) (hp1 : S.1 2 ≤ 14) (hp2 : 0 ≤ f ∧ f < t ∧ t ≤ S.1 2) (hp3 : Gt (sC S) (sP S) (S.1 2) b) (hp4 : m ≠ 1 → sP S m f t ≠ 268435456) (hp5 : 2 ≤ b ∧ b ≤ 4) (kk : V G X cc nL y ret dp P mc ms (pc + 3) lv (iv (t_cut (sC S) (sP S) m f t) :: st) (mh G M B (S)) kc ks) (hy : y.cls = RX1 := by rfl) (hdp : 1 + 1 ≤ dp := by decide) (hrs : (st.map fun v => v.category).sum ≤ 8 := by first | decide | (simp [Value.category, iv, jv]; done)) : V G X cc nL y ret dp P mc ms pc lv (iv (t) :: iv (f) :: iv (m) :: .ref M.1 :: st) (mh G M B S) kc ks := by
  refine x_callV (ci := 1) (T := TX1) (N := 33) (As := [iv (m), iv (f), iv (t)]) 3 (fun l => c_X1_firstCut l G M B S b m f t hM hp0 hp1 hp2 hp3 hp4 hp5) (by rw [hy]; exact q3084) q3086 qs104 q173 q3087 (by decide +kernel) hdp (by decide) (mh_o hM) rfl rfl rfl hrs hd (Nat.zero_le _) (Nat.zero_le _) (fun v h hv => ?_)
  obtain ⟨rfl, rfl⟩ := hv
  exact kk
