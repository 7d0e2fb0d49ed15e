/-! JDK 1: ArrayList is asked -/
set_option maxRecDepth 100000
abbrev q_J22_checkIndex (G : Gw) (h : Hp)  (i : Int) (n : Int) : Option Value → Hp → Prop := fun v_ h_ => v_ = some (iv (i)) ∧ h_ = h
set_option maxHeartbeats 4000000 in
theorem c_J22_checkIndex (l : Launch) (G : Gw) (h : Hp)  (i : Int) (n : Int)  (hp0 : 0 ≤ i ∧ i < n) (hp1 : n ≤ 2147483647) : Mt l G yJ22_checkIndex cJ22_checkIndex 3 (some .int) 0 [iv (i), iv (n), .null] (h) (q_J22_checkIndex G h i n) (0) (0) := by
  refine Mt.of (lv := [(0, iv (i)), (1, iv (n)), (2, .null)]) (by decide +kernel) (Nat.le_of_ble_eq_true rfl) rfl (fun X => ?_)
  refine x_iload_n dJ22_checkIndex_0 rfl ?_
  refine x_if_lt 9 dJ22_checkIndex_1 rfl (by omega) (fun c_1 => ?_) (fun c_1 => ?_)
  · exact absurd c_1 (by omega)
  · refine x_iload_n dJ22_checkIndex_4 rfl ?_
    refine x_iload_n dJ22_checkIndex_5 rfl ?_
    refine x_icmp_lt 16 dJ22_checkIndex_6 rfl (by omega) (by omega) (fun c_6 => ?_) (fun c_6 => ?_)
    · refine x_iload_n dJ22_checkIndex_16 rfl ?_
      exact x_iret rfl ⟨ri (by first | rfl | (simp_all; done) | (simp; omega) | (simp_all; omega)), rfl⟩ dJ22_checkIndex_17
    · exact absurd c_6 (by omega)
abbrev q_J5_checkIndex (G : Gw) (h : Hp)  (i : Int) (n : Int) : Option Value → Hp → Prop := fun v_ h_ => v_ = some (iv (i)) ∧ h_ = h
set_option maxHeartbeats 4000000 in
theorem c_J5_checkIndex (l : Launch) (G : Gw) (h : Hp)  (i : Int) (n : Int)  (hp0 : 0 ≤ i ∧ i < n) (hp1 : n ≤ 2147483647) : Mt l G yJ5_checkIndex cJ5_checkIndex 2 (some .int) 1 [iv (i), iv (n)] (h) (q_J5_checkIndex G h i n) (0) (0) := by
  refine Mt.of (lv := [(0, iv (i)), (1, iv (n))]) (by decide +kernel) (Nat.le_of_ble_eq_true rfl) rfl (fun X => ?_)
  refine x_iload_n dJ5_checkIndex_0 rfl ?_
  refine x_iload_n dJ5_checkIndex_1 rfl ?_
  refine x_null dJ5_checkIndex_2 ?_
  refine x_callS (As := [iv (i), iv (n), .null]) 3 (fun l => c_J22_checkIndex l G _  i n (by first | assumption | omega) (by first | assumption | omega)) q617 q618 q160 q619 (by decide +kernel) (by decide) (by decide) rfl rfl (by first | decide | (simp [Value.category, iv, jv, va_rf]; done)) dJ5_checkIndex_3 (Nat.zero_le _) (Nat.zero_le _) (fun v_ h_ hv_ => ?_)
  obtain ⟨rfl, rfl⟩ := hv_
  exact x_iret rfl ⟨ri (by first | rfl | (simp_all; done) | (simp; omega) | (simp_all; omega)), rfl⟩ dJ5_checkIndex_6
abbrev q_J2_size (G : Gw) (h : Hp) (r : Nat) (mo : Int) (ea : Nat) (sz : Int) (a : Nat) : Option Value → Hp → Prop := fun v_ h_ => v_ = some (iv (sz)) ∧ h_ = h
set_option maxHeartbeats 4000000 in
theorem c_J2_size (l : Launch) (G : Gw) (h : Hp) (r : Nat) (mo : Int) (ea : Nat) (sz : Int) (a : Nat) (hf0 : h a = some (r, ob 6 [iv (mo), .ref (ea), iv (sz)]))  : Mt l G yJ2_size cJ2_size 1 (some .int) 0 [.ref (a)] (h) (q_J2_size G h r mo ea sz a) (0) (0) := by
  refine Mt.of (lv := [(0, .ref (a))]) (by decide +kernel) (Nat.le_of_ble_eq_true rfl) rfl (fun X => ?_)
  refine x_aload_n dJ2_size_0 rfl ?_
  refine x_get (C := RJ2) (T := TJ2) (N := 3) (ci := 6) 2 in_J2 rfl (by decide) q226 dJ2_size_1 hf0 rfl ?_
  exact x_iret rfl ⟨ri (by first | rfl | (simp_all; done) | (simp; omega) | (simp_all; omega)), rfl⟩ dJ2_size_4
abbrev q_J2_isEmpty (G : Gw) (h : Hp) (r : Nat) (mo : Int) (ea : Nat) (sz : Int) (a : Nat) : Option Value → Hp → Prop := fun v_ h_ => v_ = some (iv (bI (decide (sz = 0)))) ∧ h_ = h
set_option maxHeartbeats 4000000 in
theorem c_J2_isEmpty (l : Launch) (G : Gw) (h : Hp) (r : Nat) (mo : Int) (ea : Nat) (sz : Int) (a : Nat) (hf0 : h a = some (r, ob 6 [iv (mo), .ref (ea), iv (sz)])) (hp0 : -2147483648 ≤ sz ∧ sz ≤ 2147483647) : Mt l G yJ2_isEmpty cJ2_isEmpty 1 (some .boolean) 0 [.ref (a)] (h) (q_J2_isEmpty G h r mo ea sz a) (0) (0) := by
  refine Mt.of (lv := [(0, .ref (a))]) (by decide +kernel) (Nat.le_of_ble_eq_true rfl) rfl (fun X => ?_)
  refine x_aload_n dJ2_isEmpty_0 rfl ?_
  refine x_get (C := RJ2) (T := TJ2) (N := 3) (ci := 6) 2 in_J2 rfl (by decide) q226 dJ2_isEmpty_1 hf0 rfl ?_
  refine x_if_ne 11 dJ2_isEmpty_4 rfl (by omega) (fun c_4 => ?_) (fun c_4 => ?_)
  · refine x_iconst dJ2_isEmpty_11 ?_
    exact x_zret rfl (by decide) ⟨rb0 (by first | rfl | (simp_all; done) | (simp; omega) | (simp_all; omega)), rfl⟩ dJ2_isEmpty_12
  · refine x_iconst dJ2_isEmpty_7 ?_
    refine x_goto 12 dJ2_isEmpty_8 rfl ?_
    exact x_zret rfl (by decide) ⟨rb1 (by first | rfl | (simp_all; done) | (simp; omega) | (simp_all; omega)), rfl⟩ dJ2_isEmpty_12
abbrev q_J2_elementData (G : Gw) (h : Hp) (r : Nat) (mo : Int) (ea : Nat) (sz : Int) (re : Nat) (cap : Nat) (f : Nat → Option Nat) (a : Nat) (i : Int) : Option Value → Hp → Prop := fun v_ h_ => v_ = some (va_rf (f i.toNat)) ∧ h_ = h
set_option maxHeartbeats 4000000 in
theorem c_J2_elementData (l : Launch) (G : Gw) (h : Hp) (r : Nat) (mo : Int) (ea : Nat) (sz : Int) (re : Nat) (cap : Nat) (f : Nat → Option Nat) (a : Nat) (i : Int) (hf0 : h a = some (r, ob 6 [iv (mo), .ref (ea), iv (sz)])) (hf1 : h ea = some (re, ra G cap f)) (hp0 : 0 ≤ i ∧ i < cap) (hp1 : cap ≤ 2147483647) : Mt l G yJ2_elementData cJ2_elementData 2 (some (.object "java/lang/Object")) 0 [.ref (a), iv (i)] (h) (q_J2_elementData G h r mo ea sz re cap f a i) (0) (0) := by
  refine Mt.of (lv := [(0, .ref (a)), (1, iv (i))]) (by decide +kernel) (Nat.le_of_ble_eq_true rfl) rfl (fun X => ?_)
  refine x_aload_n dJ2_elementData_0 rfl ?_
  refine x_get (C := RJ2) (T := TJ2) (N := 3) (ci := 6) 1 in_J2 rfl (by decide) q223 dJ2_elementData_1 hf0 rfl ?_
  refine x_iload_n dJ2_elementData_4 rfl ?_
  refine x_aald hf1 (by omega) (by omega) dJ2_elementData_5 ?_
  exact x_aretO rfl ⟨rfl, rfl⟩ dJ2_elementData_6
abbrev q_J2_get (G : Gw) (h : Hp) (r : Nat) (mo : Int) (ea : Nat) (sz : Int) (re : Nat) (cap : Nat) (f : Nat → Option Nat) (a : Nat) (i : Int) : Option Value → Hp → Prop := fun v_ h_ => v_ = some (va_rf (f i.toNat)) ∧ h_ = h
set_option maxHeartbeats 4000000 in
theorem c_J2_get (l : Launch) (G : Gw) (h : Hp) (r : Nat) (mo : Int) (ea : Nat) (sz : Int) (re : Nat) (cap : Nat) (f : Nat → Option Nat) (a : Nat) (i : Int) (hf0 : h a = some (r, ob 6 [iv (mo), .ref (ea), iv (sz)])) (hf1 : h ea = some (re, ra G cap f)) (hp0 : 0 ≤ i ∧ i < sz) (hp1 : sz ≤ cap ∧ cap ≤ 2147483647) : Mt l G yJ2_get cJ2_get 2 (some (.object "java/lang/Object")) 2 [.ref (a), iv (i)] (h) (q_J2_get G h r mo ea sz re cap f a i) (0) (0) := by
  refine Mt.of (lv := [(0, .ref (a)), (1, iv (i))]) (by decide +kernel) (Nat.le_of_ble_eq_true rfl) rfl (fun X => ?_)
  refine x_iload_n dJ2_get_0 rfl ?_
  refine x_aload_n dJ2_get_1 rfl ?_
  refine x_get (C := RJ2) (T := TJ2) (N := 3) (ci := 6) 2 in_J2 rfl (by decide) q226 dJ2_get_2 hf0 rfl ?_
  refine x_callS (As := [iv (i), iv (sz)]) 2 (fun l => c_J5_checkIndex l G _  i sz (by first | assumption | omega) (by first | assumption | omega)) q614 q615 q143 q616 (by decide +kernel) (by decide) (by decide) rfl rfl (by first | decide | (simp [Value.category, iv, jv, va_rf]; done)) dJ2_get_5 (Nat.zero_le _) (Nat.zero_le _) (fun v_ h_ hv_ => ?_)
  obtain ⟨rfl, rfl⟩ := hv_
  refine x_pop dJ2_get_8 ?_
  refine x_aload_n dJ2_get_9 rfl ?_
  refine x_iload_n dJ2_get_10 rfl ?_
  refine x_callV (ci := 6) (T := TJ2) (N := 3) (As := [iv (i)]) 1 (fun l => c_J2_elementData l G _ r mo ea sz re cap f a i hf0 hf1 (by first | assumption | omega) (by first | assumption | omega)) q620 q621 q622 q140 q623 (by decide +kernel) (by decide) (by decide) hf0 rfl rfl rfl (by first | decide | (simp [Value.category, iv, jv, va_rf]; done)) dJ2_get_11 (Nat.zero_le _) (Nat.zero_le _) (fun v_ h_ hv_ => ?_)
  obtain ⟨rfl, rfl⟩ := hv_
  exact x_aretO rfl ⟨rfl, rfl⟩ dJ2_get_14
