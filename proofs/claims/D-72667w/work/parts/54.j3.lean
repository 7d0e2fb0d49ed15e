/-! JDK 3: the page: StringBuilder -/
theorem hup_hup (h : Hp) (a : Nat) (x y : Nat × va_E) : hup (hup h a x) a y = hup h a y := by
  funext q
  by_cases n : q = a
  · subst n; rw [hup_s, hup_s]
  · rw [hup_n n, hup_n n, hup_n n]
set_option maxRecDepth 100000
abbrev q_J30_canEncode (G : Gw) (h : Hp)  (c : Int) : Option Value → Hp → Prop := fun v_ h_ => v_ = some (iv (bI (true))) ∧ h_ = h
set_option maxHeartbeats 4000000 in
theorem c_J30_canEncode (l : Launch) (G : Gw) (h : Hp)  (c : Int)  (hp0 : 0 ≤ c ∧ c ≤ 127) : Mt l G yJ30_canEncode cJ30_canEncode 1 (some .boolean) 0 [iv (c)] (h) (q_J30_canEncode G h c) (0) (0) := by
  refine Mt.of (lv := [(0, iv (c))]) (by decide +kernel) (Nat.le_of_ble_eq_true rfl) rfl (fun X => ?_)
  refine x_iload_n dJ30_canEncode_0 rfl ?_
  refine x_sipush dJ30_canEncode_1 ?_
  refine x_icmp_gt 11 dJ30_canEncode_4 rfl (by omega) (by omega) (fun c_4 => ?_) (fun c_4 => ?_)
  · exact absurd c_4 (by omega)
  · refine x_iconst dJ30_canEncode_7 ?_
    refine x_goto 12 dJ30_canEncode_8 rfl ?_
    exact x_zret rfl (by decide) ⟨rb1 (by first | rfl | (simp_all; done) | (simp; omega) | (simp_all; omega)), rfl⟩ dJ30_canEncode_12
abbrev q_J10_charAt (G : Gw) (h : Hp) (r : Nat) (va : Nat) (ml : Int) (ct : Int) (rb : Nat) (n : Nat) (f : Nat → Int) (a : Nat) (i : Int) : Option Value → Hp → Prop := fun v_ h_ => v_ = some (iv (f i.toNat)) ∧ h_ = h
set_option maxHeartbeats 4000000 in
theorem c_J10_charAt (l : Launch) (G : Gw) (h : Hp) (r : Nat) (va : Nat) (ml : Int) (ct : Int) (rb : Nat) (n : Nat) (f : Nat → Int) (a : Nat) (i : Int) (hf0 : h a = some (r, ob 8 [.ref (va), iv (0), iv (ml), iv (ct)])) (hf1 : h va = some (rb, ba G n f)) (hp0 : 0 ≤ i ∧ i < ct) (hp1 : ct ≤ n ∧ n ≤ 2147483647) (hp2 : 0 ≤ f i.toNat ∧ f i.toNat ≤ 127) : Mt l G yJ10_charAt cJ10_charAt 5 (some .char) 2 [.ref (a), iv (i)] (h) (q_J10_charAt G h r va ml ct rb n f a i) (0) (0) := by
  refine Mt.of (lv := [(0, .ref (a)), (1, iv (i))]) (by decide +kernel) (Nat.le_of_ble_eq_true rfl) rfl (fun X => ?_)
  refine x_aload_n dJ10_charAt_0 rfl ?_
  refine x_get (C := RJ11) (T := TJ11) (N := 4) (ci := 8) 1 in_J11 rfl (by decide) q361 dJ10_charAt_1 hf0 rfl ?_
  refine x_istore_n (lv' := [(0, _), (1, _), (2, _)]) dJ10_charAt_4 rfl (by decide) ?_
  refine x_aload_n dJ10_charAt_5 rfl ?_
  refine x_get (C := RJ11) (T := TJ11) (N := 4) (ci := 8) 0 in_J11 rfl (by decide) q360 dJ10_charAt_6 hf0 rfl ?_
  refine x_astore_n (lv' := [(0, _), (1, _), (2, _), (3, _)]) dJ10_charAt_9 rfl (by decide) ?_
  refine x_aload_n dJ10_charAt_10 rfl ?_
  refine x_get (C := RJ11) (T := TJ11) (N := 4) (ci := 8) 3 in_J11 rfl (by decide) q364 dJ10_charAt_11 hf0 rfl ?_
  refine x_aload_n dJ10_charAt_14 rfl ?_
  refine x_alen (w := (_, _)) 1 rfl hf1 dJ10_charAt_15 ?_
  refine x_iload_n dJ10_charAt_16 rfl ?_
  refine x_ishr0 dJ10_charAt_17 ?_
  refine x_mmin q1199 (by omega) (by omega) (by decide) (by first | decide | (simp [Value.category, iv, jv, va_rf]; done)) dJ10_charAt_18 ?_
  refine x_istore (lv' := [(0, _), (1, _), (2, _), (3, _), (4, _)]) dJ10_charAt_21 rfl (by decide) ?_
  refine x_iload_n dJ10_charAt_23 rfl ?_
  refine x_iload dJ10_charAt_24 rfl ?_
  refine x_callS (As := [iv (i), iv (min ct ((n : Nat)))]) 2 (fun l => c_J12_checkIndex l G _  i (min ct ((n : Nat))) (by first | assumption | omega) (by first | assumption | omega)) q1200 q1007 q150 q1008 (by decide +kernel) (by decide) (by decide) rfl rfl (by first | decide | (simp [Value.category, iv, jv, va_rf]; done)) dJ10_charAt_26 (Nat.zero_le _) (Nat.zero_le _) (fun v_ h_ hv_ => ?_)
  obtain ⟨rfl, rfl⟩ := hv_
  refine x_iload_n dJ10_charAt_29 rfl ?_
  refine x_if_ne 42 dJ10_charAt_30 rfl (by decide) (fun c_30 => absurd c_30 (by decide)) (fun c_30 => ?_)
  refine x_aload_n dJ10_charAt_33 rfl ?_
  refine x_iload_n dJ10_charAt_34 rfl ?_
  refine x_bald hf1 (by omega) (by omega) dJ10_charAt_35 ?_
  refine x_sipush dJ10_charAt_36 ?_
  refine x_iand255 (by omega) dJ10_charAt_39 ?_
  refine x_i2c (by omega) dJ10_charAt_40 ?_
  exact x_zret rfl (nar_c (by omega)) ⟨ri (by first | rfl | (simp_all; done) | (simp; omega) | (simp_all; omega)), rfl⟩ dJ10_charAt_41
abbrev q_J11_charAt (G : Gw) (h : Hp) (r : Nat) (va : Nat) (ml : Int) (ct : Int) (rb : Nat) (n : Nat) (f : Nat → Int) (a : Nat) (i : Int) : Option Value → Hp → Prop := fun v_ h_ => v_ = some (iv (f i.toNat)) ∧ h_ = h
set_option maxHeartbeats 4000000 in
theorem c_J11_charAt (l : Launch) (G : Gw) (h : Hp) (r : Nat) (va : Nat) (ml : Int) (ct : Int) (rb : Nat) (n : Nat) (f : Nat → Int) (a : Nat) (i : Int) (hf0 : h a = some (r, ob 8 [.ref (va), iv (0), iv (ml), iv (ct)])) (hf1 : h va = some (rb, ba G n f)) (hp0 : 0 ≤ i ∧ i < ct) (hp1 : ct ≤ n ∧ n ≤ 2147483647) (hp2 : 0 ≤ f i.toNat ∧ f i.toNat ≤ 127) : Mt l G yJ11_charAt cJ11_charAt 2 (some .char) 3 [.ref (a), iv (i)] (h) (q_J11_charAt G h r va ml ct rb n f a i) (0) (0) := by
  refine Mt.of (lv := [(0, .ref (a)), (1, iv (i))]) (by decide +kernel) (Nat.le_of_ble_eq_true rfl) rfl (fun X => ?_)
  refine x_aload_n dJ11_charAt_0 rfl ?_
  refine x_iload_n dJ11_charAt_1 rfl ?_
  refine x_callSU (ci := 8) (T := TJ11) (N := 4) (As := [iv (i)]) 1 (fun l => c_J10_charAt l G _ r va ml ct rb n f a i hf0 hf1 (by first | assumption | omega) (by first | assumption | omega) (by first | assumption | omega)) q1196 q3300 q373 q1197 q148 q1198 (by decide +kernel) (by decide) (by decide) hf0 rfl rfl rfl (by first | decide | (simp [Value.category, iv, jv, va_rf]; done)) dJ11_charAt_2 (Nat.zero_le _) (Nat.zero_le _) (fun v_ h_ hv_ => ?_)
  obtain ⟨rfl, rfl⟩ := hv_
  exact x_zret rfl (nar_c (by omega)) ⟨ri (by first | rfl | (simp_all; done) | (simp; omega) | (simp_all; omega)), rfl⟩ dJ11_charAt_5
abbrev q_J10_ensureCapacityInternal (G : Gw) (h : Hp) (r : Nat) (va : Nat) (ml : Int) (ct : Int) (rb : Nat) (n : Nat) (f : Nat → Int) (a : Nat) (m : Int) : Option Value → Hp → Prop := fun v_ h_ => v_ = none ∧ h_ = h
set_option maxHeartbeats 4000000 in
theorem c_J10_ensureCapacityInternal (l : Launch) (G : Gw) (h : Hp) (r : Nat) (va : Nat) (ml : Int) (ct : Int) (rb : Nat) (n : Nat) (f : Nat → Int) (a : Nat) (m : Int) (hf0 : h a = some (r, ob 8 [.ref (va), iv (0), iv (ml), iv (ct)])) (hf1 : h va = some (rb, ba G n f)) (hp0 : 0 ≤ m ∧ m ≤ n) (hp1 : n ≤ 2147483647) : Mt l G yJ10_ensureCapacityInternal cJ10_ensureCapacityInternal 3 none 0 [.ref (a), iv (m)] (h) (q_J10_ensureCapacityInternal G h r va ml ct rb n f a m) (0) (0) := by
  refine Mt.of (lv := [(0, .ref (a)), (1, iv (m))]) (by decide +kernel) (Nat.le_of_ble_eq_true rfl) rfl (fun X => ?_)
  refine x_aload_n dJ10_ensureCapacityInternal_0 rfl ?_
  refine x_get (C := RJ11) (T := TJ11) (N := 4) (ci := 8) 0 in_J11 rfl (by decide) q360 dJ10_ensureCapacityInternal_1 hf0 rfl ?_
  refine x_alen (w := (_, _)) 1 rfl hf1 dJ10_ensureCapacityInternal_4 ?_
  refine x_aload_n dJ10_ensureCapacityInternal_5 rfl ?_
  refine x_get (C := RJ11) (T := TJ11) (N := 4) (ci := 8) 1 in_J11 rfl (by decide) q361 dJ10_ensureCapacityInternal_6 hf0 rfl ?_
  refine x_ishr0 dJ10_ensureCapacityInternal_9 ?_
  refine x_istore_n (lv' := [(0, _), (1, _), (2, _)]) dJ10_ensureCapacityInternal_10 rfl (by decide) ?_
  refine x_iload_n dJ10_ensureCapacityInternal_11 rfl ?_
  refine x_iload_n dJ10_ensureCapacityInternal_12 rfl ?_
  refine x_isub dJ10_ensureCapacityInternal_13 ?_
  refine x_if_le 38 dJ10_ensureCapacityInternal_14 rfl (by omega) (fun c_14 => ?_) (fun c_14 => ?_)
  · exact x_vret rfl ⟨rfl, rfl⟩ dJ10_ensureCapacityInternal_38
  · exact absurd c_14 (by omega)
abbrev q_J10_append_2 (G : Gw) (h : Hp) (r : Nat) (va : Nat) (ml : Int) (ct : Int) (rb : Nat) (n : Nat) (f : Nat → Int) (a : Nat) (c : Int) : Option Value → Hp → Prop := fun v_ h_ => v_ = some (.ref (a)) ∧ h_ = hup (hup (h) a (r, ob 8 [.ref (va), iv (0), iv (ml), iv (ct + 1)])) va (rb, ba G n (fup f ct.toNat c))
set_option maxHeartbeats 4000000 in
theorem c_J10_append_2 (l : Launch) (G : Gw) (h : Hp) (r : Nat) (va : Nat) (ml : Int) (ct : Int) (rb : Nat) (n : Nat) (f : Nat → Int) (a : Nat) (c : Int) (hf0 : h a = some (r, ob 8 [.ref (va), iv (0), iv (ml), iv (ct)])) (hf1 : h va = some (rb, ba G n f)) (hp0 : r ≠ 0) (hp1 : rb ≠ 0) (hp2 : 0 ≤ ct ∧ ct < n) (hp3 : n ≤ 65536) (hp4 : 0 ≤ c ∧ c ≤ 127) : Mt l G yJ10_append_2 cJ10_append_2 2 (some (.object "java/lang/AbstractStringBuilder")) 1 [.ref (a), iv (c)] (h) (q_J10_append_2 G h r va ml ct rb n f a c) (0) (0) := by
  refine Mt.of (lv := [(0, .ref (a)), (1, iv (c))]) (by decide +kernel) (Nat.le_of_ble_eq_true rfl) rfl (fun X => ?_)
  refine x_aload_n dJ10_append_2_0 rfl ?_
  refine x_aload_n dJ10_append_2_1 rfl ?_
  refine x_get (C := RJ11) (T := TJ11) (N := 4) (ci := 8) 3 in_J11 rfl (by decide) q364 dJ10_append_2_2 hf0 rfl ?_
  refine x_iconst dJ10_append_2_5 ?_
  refine x_iadd dJ10_append_2_6 ?_
  refine x_callP (ci := 8) (T := TJ11) (N := 4) (As := [iv (ct + 1)]) 1 (fun l => c_J10_ensureCapacityInternal l G _ r va ml ct rb n f a (ct + 1) hf0 hf1 (by first | assumption | omega) (by first | assumption | omega)) q726 q3291 q727 q728 q148 q729 (by decide +kernel) (by decide) (by decide) hf0 rfl rfl rfl (by first | decide | (simp [Value.category, iv, jv, va_rf]; done)) dJ10_append_2_7 (Nat.zero_le _) (Nat.zero_le _) (fun v_ h_ hv_ => ?_)
  obtain ⟨rfl, rfl⟩ := hv_
  refine x_aload_n dJ10_append_2_10 rfl ?_
  refine x_callU (ci := 8) (T := TJ11) (N := 4) (owner := "java/lang/AbstractStringBuilder") (x1 := ⟨"java/lang/AbstractStringBuilder", "isLatin1", "()Z"⟩) (As := []) 0 (fun l => c_J10_isLatin1 l G _ r va ml ct a hf0) q761 q763 q764 q762 q148 q765 (by rfl) (by decide +kernel) (by decide) (by decide) hf0 rfl rfl rfl (by first | decide | (simp [Value.category, iv, jv, va_rf]; done)) dJ10_append_2_11 (Nat.zero_le _) (Nat.zero_le _) (fun v_ h_ hv_ => ?_)
  obtain ⟨rfl, rfl⟩ := hv_
  refine x_ifb_eq 45 dJ10_append_2_14 rfl (fun c_14 => ?_) (fun c_14 => ?_)
  · exact absurd c_14 (by decide)
  · refine x_iload_n dJ10_append_2_17 rfl ?_
    refine x_callS (As := [iv (c)]) 1 (fun l => c_J30_canEncode l G _  c (by first | assumption | omega)) q1089 q1090 q169 q1091 (by decide +kernel) (by decide) (by decide) rfl rfl (by first | decide | (simp [Value.category, iv, jv, va_rf]; done)) dJ10_append_2_18 (Nat.zero_le _) (Nat.zero_le _) (fun v_ h_ hv_ => ?_)
    obtain ⟨rfl, rfl⟩ := hv_
    refine x_ifb_eq 45 dJ10_append_2_21 rfl (fun c_21 => ?_) (fun c_21 => ?_)
    · exact absurd c_21 (by decide)
    · refine x_aload_n dJ10_append_2_24 rfl ?_
      refine x_get (C := RJ11) (T := TJ11) (N := 4) (ci := 8) 0 in_J11 rfl (by decide) q360 dJ10_append_2_25 hf0 rfl ?_
      refine x_aload_n dJ10_append_2_28 rfl ?_
      refine x_dup dJ10_append_2_29 ?_
      refine x_get (C := RJ11) (T := TJ11) (N := 4) (ci := 8) 3 in_J11 rfl (by decide) q364 dJ10_append_2_30 hf0 rfl ?_
      refine x_dup_x1 dJ10_append_2_33 ?_
      refine x_iconst dJ10_append_2_34 ?_
      refine x_iadd dJ10_append_2_35 ?_
      refine x_put (C := RJ11) (T := TJ11) (N := 4) (ci := 8) 3 in_J11 tyJ11 tyJ11_ok nmJ11 rfl (by decide) rfl q364 dJ10_append_2_36 hf0 (hp0) (Nat.le_of_ble_eq_true rfl) rfl rfl rfl ?_
      refine x_iload_n dJ10_append_2_39 rfl ?_
      refine x_i2b (by omega) dJ10_append_2_40 ?_
      refine x_bast (hup_d hf1 (ne_k hf1 hf0 rfl)) (hp1) (by omega) (by omega) (by omega) dJ10_append_2_41 ?_
      refine x_goto 75 dJ10_append_2_42 rfl ?_
      refine x_aload_n dJ10_append_2_75 rfl ?_
      exact x_aretR rfl ⟨rfl, rfl⟩ dJ10_append_2_76
abbrev q_J11_append_2 (G : Gw) (h : Hp) (r : Nat) (va : Nat) (ml : Int) (ct : Int) (rb : Nat) (n : Nat) (f : Nat → Int) (a : Nat) (c : Int) : Option Value → Hp → Prop := fun v_ h_ => v_ = some (.ref (a)) ∧ h_ = hup (hup (h) a (r, ob 8 [.ref (va), iv (0), iv (ml), iv (ct + 1)])) va (rb, ba G n (fup f ct.toNat c))
set_option maxHeartbeats 4000000 in
theorem c_J11_append_2 (l : Launch) (G : Gw) (h : Hp) (r : Nat) (va : Nat) (ml : Int) (ct : Int) (rb : Nat) (n : Nat) (f : Nat → Int) (a : Nat) (c : Int) (hf0 : h a = some (r, ob 8 [.ref (va), iv (0), iv (ml), iv (ct)])) (hf1 : h va = some (rb, ba G n f)) (hp0 : r ≠ 0) (hp1 : rb ≠ 0) (hp2 : 0 ≤ ct ∧ ct < n) (hp3 : n ≤ 65536) (hp4 : 0 ≤ c ∧ c ≤ 127) : Mt l G yJ11_append_2 cJ11_append_2 2 (some (.object "java/lang/StringBuilder")) 2 [.ref (a), iv (c)] (h) (q_J11_append_2 G h r va ml ct rb n f a c) (0) (0) := by
  refine Mt.of (lv := [(0, .ref (a)), (1, iv (c))]) (by decide +kernel) (Nat.le_of_ble_eq_true rfl) rfl (fun X => ?_)
  refine x_aload_n dJ11_append_2_0 rfl ?_
  refine x_iload_n dJ11_append_2_1 rfl ?_
  refine x_callSU (ci := 8) (T := TJ11) (N := 4) (As := [iv (c)]) 1 (fun l => c_J10_append_2 l G _ r va ml ct rb n f a c hf0 hf1 (by first | assumption | omega) (by first | assumption | omega) (by first | assumption | omega) (by first | assumption | omega) (by first | assumption | omega)) q1086 q3298 q373 q1087 q148 q1088 (by decide +kernel) (by decide) (by decide) hf0 rfl rfl rfl (by first | decide | (simp [Value.category, iv, jv, va_rf]; done)) dJ11_append_2_2 (Nat.zero_le _) (Nat.zero_le _) (fun v_ h_ hv_ => ?_)
  obtain ⟨rfl, rfl⟩ := hv_
  refine x_pop dJ11_append_2_5 ?_
  refine x_aload_n dJ11_append_2_6 rfl ?_
  exact x_aretR rfl ⟨rfl, rfl⟩ dJ11_append_2_7
abbrev q_J10_setLength (G : Gw) (h : Hp) (r : Nat) (va : Nat) (ml : Int) (ct : Int) (rb : Nat) (n : Nat) (f : Nat → Int) (a : Nat) (z : Int) : Option Value → Hp → Prop := fun v_ h_ => v_ = none ∧ h_ = hup (h) a (r, ob 8 [.ref (va), iv (0), iv (if 0 < ct then 1 else ml), iv (z)])
set_option maxHeartbeats 4000000 in
theorem c_J10_setLength (l : Launch) (G : Gw) (h : Hp) (r : Nat) (va : Nat) (ml : Int) (ct : Int) (rb : Nat) (n : Nat) (f : Nat → Int) (a : Nat) (z : Int) (hf0 : h a = some (r, ob 8 [.ref (va), iv (0), iv (ml), iv (ct)])) (hf1 : h va = some (rb, ba G n f)) (hp0 : r ≠ 0) (hp1 : 0 ≤ ct ∧ ct ≤ n) (hp2 : n ≤ 65536) (hp3 : z = 0) : Mt l G yJ10_setLength cJ10_setLength 2 none 1 [.ref (a), iv (z)] (h) (q_J10_setLength G h r va ml ct rb n f a z) (0) (0) := by
  refine Mt.of (lv := [(0, .ref (a)), (1, iv (z))]) (by decide +kernel) (Nat.le_of_ble_eq_true rfl) rfl (fun X => ?_)
  refine x_iload_n dJ10_setLength_0 rfl ?_
  refine x_if_ge 13 dJ10_setLength_1 rfl (by omega) (fun c_1 => ?_) (fun c_1 => ?_)
  · refine x_aload_n dJ10_setLength_13 rfl ?_
    refine x_iload_n dJ10_setLength_14 rfl ?_
    refine x_callP (ci := 8) (T := TJ11) (N := 4) (As := [iv (z)]) 1 (fun l => c_J10_ensureCapacityInternal l G _ r va ml ct rb n f a z hf0 hf1 (by first | assumption | omega) (by first | assumption | omega)) q726 q3291 q727 q728 q148 q729 (by decide +kernel) (by decide) (by decide) hf0 rfl rfl rfl (by first | decide | (simp [Value.category, iv, jv, va_rf]; done)) dJ10_setLength_15 (Nat.zero_le _) (Nat.zero_le _) (fun v_ h_ hv_ => ?_)
    obtain ⟨rfl, rfl⟩ := hv_
    refine x_aload_n dJ10_setLength_18 rfl ?_
    refine x_get (C := RJ11) (T := TJ11) (N := 4) (ci := 8) 3 in_J11 rfl (by decide) q364 dJ10_setLength_19 hf0 rfl ?_
    refine x_iload_n dJ10_setLength_22 rfl ?_
    refine x_icmp_ge 63 dJ10_setLength_23 rfl (by omega) (by omega) (fun c_23 => ?_) (fun c_23 => ?_)
    · refine x_aload_n dJ10_setLength_63 rfl ?_
      refine x_get (C := RJ11) (T := TJ11) (N := 4) (ci := 8) 3 in_J11 rfl (by decide) q364 dJ10_setLength_64 hf0 rfl ?_
      refine x_iload_n dJ10_setLength_67 rfl ?_
      refine x_icmp_le 76 dJ10_setLength_68 rfl (by omega) (by omega) (fun c_68 => ?_) (fun c_68 => ?_)
      · refine x_aload_n dJ10_setLength_76 rfl ?_
        refine x_iload_n dJ10_setLength_77 rfl ?_
        refine x_put (C := RJ11) (T := TJ11) (N := 4) (ci := 8) 3 in_J11 tyJ11 tyJ11_ok nmJ11 rfl (by decide) rfl q364 dJ10_setLength_78 hf0 (hp0) (Nat.le_of_ble_eq_true rfl) rfl rfl rfl ?_
        exact x_vret rfl ⟨rfl, by first | (rw [hup_hup, if_pos (by omega)]; rfl) | (rw [if_neg (by omega)]; rfl)⟩ dJ10_setLength_81
      · refine x_aload_n dJ10_setLength_71 rfl ?_
        refine x_iconst dJ10_setLength_72 ?_
        refine x_put (C := RJ11) (T := TJ11) (N := 4) (ci := 8) 2 in_J11 tyJ11 tyJ11_ok nmJ11 rfl (by decide) rfl q362 dJ10_setLength_73 hf0 (hp0) (Nat.le_of_ble_eq_true rfl) rfl rfl rfl ?_
        refine x_aload_n dJ10_setLength_76 rfl ?_
        refine x_iload_n dJ10_setLength_77 rfl ?_
        refine x_put (C := RJ11) (T := TJ11) (N := 4) (ci := 8) 3 in_J11 tyJ11 tyJ11_ok nmJ11 rfl (by decide) rfl q364 dJ10_setLength_78 (hup_s _ _ _) (hp0) (Nat.le_of_ble_eq_true rfl) rfl rfl rfl ?_
        exact x_vret rfl ⟨rfl, by first | (rw [hup_hup, if_pos (by omega)]; rfl) | (rw [if_neg (by omega)]; rfl)⟩ dJ10_setLength_81
    · exact absurd c_23 (by omega)
  · exact absurd c_1 (by omega)
abbrev q_J11_setLength (G : Gw) (h : Hp) (r : Nat) (va : Nat) (ml : Int) (ct : Int) (rb : Nat) (n : Nat) (f : Nat → Int) (a : Nat) (z : Int) : Option Value → Hp → Prop := fun v_ h_ => v_ = none ∧ h_ = hup (h) a (r, ob 8 [.ref (va), iv (0), iv (if 0 < ct then 1 else ml), iv (z)])
set_option maxHeartbeats 4000000 in
theorem c_J11_setLength (l : Launch) (G : Gw) (h : Hp) (r : Nat) (va : Nat) (ml : Int) (ct : Int) (rb : Nat) (n : Nat) (f : Nat → Int) (a : Nat) (z : Int) (hf0 : h a = some (r, ob 8 [.ref (va), iv (0), iv (ml), iv (ct)])) (hf1 : h va = some (rb, ba G n f)) (hp0 : r ≠ 0) (hp1 : 0 ≤ ct ∧ ct ≤ n) (hp2 : n ≤ 65536) (hp3 : z = 0) : Mt l G yJ11_setLength cJ11_setLength 2 none 2 [.ref (a), iv (z)] (h) (q_J11_setLength G h r va ml ct rb n f a z) (0) (0) := by
  refine Mt.of (lv := [(0, .ref (a)), (1, iv (z))]) (by decide +kernel) (Nat.le_of_ble_eq_true rfl) rfl (fun X => ?_)
  refine x_aload_n dJ11_setLength_0 rfl ?_
  refine x_iload_n dJ11_setLength_1 rfl ?_
  refine x_callSU (ci := 8) (T := TJ11) (N := 4) (As := [iv (z)]) 1 (fun l => c_J10_setLength l G _ r va ml ct rb n f a z hf0 hf1 (by first | assumption | omega) (by first | assumption | omega) (by first | assumption | omega) (by first | assumption | omega)) q1103 q3299 q373 q1104 q148 q1105 (by decide +kernel) (by decide) (by decide) hf0 rfl rfl rfl (by first | decide | (simp [Value.category, iv, jv, va_rf]; done)) dJ11_setLength_2 (Nat.zero_le _) (Nat.zero_le _) (fun v_ h_ hv_ => ?_)
  obtain ⟨rfl, rfl⟩ := hv_
  exact x_vret rfl ⟨rfl, rfl⟩ dJ11_setLength_5
