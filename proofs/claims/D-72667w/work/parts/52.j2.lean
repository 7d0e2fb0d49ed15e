/-! JDK 2: strings are asked -/
theorem nar_c {z : Int} (hz : 0 ≤ z ∧ z ≤ 255) : narrow .char (.int (Int32.ofInt z)) = .int (Int32.ofInt z) := by
  have k : ∀ n : Nat, n < 256 → narrow .char (.int (Int32.ofInt (n : Int))) = .int (Int32.ofInt (n : Int)) := by decide +kernel
  have e : z = ((z.toNat : Nat) : Int) := by omega
  rw [e]
  exact k _ (by omega)
section MM
variable {G : Gw} {X : Cx} {cc : ByteArray} {nL : Nat} {y : MethodName} {ret : Option FieldType} {dp : Nat} {P : Option Value → Hp → Prop} {mc ms pc : Nat} {lv : List (Nat × Value)} {st : List Value} {h : Hp} {kc ks : Nat}
theorem x_mmax {a b : Int} {i : Nat} (hl : Cond.methodLink y.cls i Lib.Math.max.name ∈ lw_all) (ha : -2147483648 ≤ a ∧ a ≤ 2147483647) (hb : -2147483648 ≤ b ∧ b ≤ 2147483647) (hdp : 1 ≤ dp) (hrs : (st.map fun v => v.category).sum ≤ 8) (hd : decode cc pc = .ok (.invokestatic i, 3)) (kk : V G X cc nL y ret dp P mc ms (pc + 3) lv (iv (max a b) :: st) h kc ks) : V G X cc nL y ret dp P mc ms pc lv (iv b :: iv a :: st) h kc ks := by
  obtain ⟨p, l, e, s, m, args, below, meth, c⟩ := X
  intro O H locs cells slots ls r1 r2 r3 r4 r5
  have kk := kk O H locs cells slots ls r1 r2 r3 r4 r5
  have hts := O.2.2.2.2.1
  refine va_mmax O.1 O.2.1 (O.2.2.1.trans r5.1.symm) O.2.2.2.1 (hts _ hl) (hts _ q738) (hts _ q166) (hts _ q739) hdp (by show _ + 13 ≤ 64 * dp; omega) (by show cells ≤ mc; omega) (by show slots ≤ ms; omega) hd ?_
  rw [show (if Int32.ofInt a < Int32.ofInt b then Int32.ofInt b else Int32.ofInt a) = Int32.ofInt (max a b) from by
    by_cases u : a < b
    · rw [if_pos (by rw [Int32.lt_iff_toInt_lt, ivT ha, ivT hb]; exact u)]; congr 1; omega
    · rw [if_neg (by rw [Int32.lt_iff_toInt_lt, ivT ha, ivT hb]; exact u)]; congr 1; omega]
  exact kk
theorem x_mmin {a b : Int} {i : Nat} (hl : Cond.methodLink y.cls i Lib.Math.min.name ∈ lw_all) (ha : -2147483648 ≤ a ∧ a ≤ 2147483647) (hb : -2147483648 ≤ b ∧ b ≤ 2147483647) (hdp : 1 ≤ dp) (hrs : (st.map fun v => v.category).sum ≤ 8) (hd : decode cc pc = .ok (.invokestatic i, 3)) (kk : V G X cc nL y ret dp P mc ms (pc + 3) lv (iv (min a b) :: st) h kc ks) : V G X cc nL y ret dp P mc ms pc lv (iv b :: iv a :: st) h kc ks := by
  obtain ⟨p, l, e, s, m, args, below, meth, c⟩ := X
  intro O H locs cells slots ls r1 r2 r3 r4 r5
  have kk := kk O H locs cells slots ls r1 r2 r3 r4 r5
  have hts := O.2.2.2.2.1
  refine va_mmin O.1 O.2.1 (O.2.2.1.trans r5.1.symm) O.2.2.2.1 (hts _ hl) (hts _ q756) (hts _ q166) (hts _ q757) hdp (by show _ + 13 ≤ 64 * dp; omega) (by show cells ≤ mc; omega) (by show slots ≤ ms; omega) hd ?_
  rw [show (if Int32.ofInt b < Int32.ofInt a then Int32.ofInt b else Int32.ofInt a) = Int32.ofInt (min a b) from by
    by_cases u : b < a
    · rw [if_pos (by rw [Int32.lt_iff_toInt_lt, ivT ha, ivT hb]; exact u)]; congr 1; omega
    · rw [if_neg (by rw [Int32.lt_iff_toInt_lt, ivT ha, ivT hb]; exact u)]; congr 1; omega]
  exact kk
end MM
set_option maxRecDepth 100000
abbrev q_J12_coder (G : Gw) (h : Hp) (r : Nat) (va : Nat) (hs : Int) (hz : Int) (a : Nat) : Option Value → Hp → Prop := fun v_ h_ => v_ = some (iv (0)) ∧ h_ = h
set_option maxHeartbeats 4000000 in
theorem c_J12_coder (l : Launch) (G : Gw) (h : Hp) (r : Nat) (va : Nat) (hs : Int) (hz : Int) (a : Nat) (hf0 : h a = some (r, ob 9 [.ref (va), iv (0), iv (hs), iv (hz)]))  : Mt l G yJ12_coder cJ12_coder 1 (some .byte) 0 [.ref (a)] (h) (q_J12_coder G h r va hs hz a) (0) (0) := by
  refine Mt.of (lv := [(0, .ref (a))]) (by decide +kernel) (Nat.le_of_ble_eq_true rfl) rfl (fun X => ?_)
  refine x_gets (v := iv (1)) z_compact q800 dJ12_coder_0 ?_
  refine x_if_eq 13 dJ12_coder_3 rfl (by decide) (fun c_3 => absurd c_3 (by decide)) (fun c_3 => ?_)
  refine x_aload_n dJ12_coder_6 rfl ?_
  refine x_get (C := RJ12) (T := TJ12) (N := 4) (ci := 9) 1 in_J12 rfl (by decide) q886 dJ12_coder_7 hf0 rfl ?_
  refine x_goto 14 dJ12_coder_10 rfl ?_
  exact x_zret rfl (by decide) ⟨ri (by first | rfl | (simp_all; done) | (simp; omega) | (simp_all; omega)), rfl⟩ dJ12_coder_14
abbrev q_J12_isLatin1 (G : Gw) (h : Hp) (r : Nat) (va : Nat) (hs : Int) (hz : Int) (a : Nat) : Option Value → Hp → Prop := fun v_ h_ => v_ = some (iv (bI (true))) ∧ h_ = h
set_option maxHeartbeats 4000000 in
theorem c_J12_isLatin1 (l : Launch) (G : Gw) (h : Hp) (r : Nat) (va : Nat) (hs : Int) (hz : Int) (a : Nat) (hf0 : h a = some (r, ob 9 [.ref (va), iv (0), iv (hs), iv (hz)]))  : Mt l G yJ12_isLatin1 cJ12_isLatin1 1 (some .boolean) 0 [.ref (a)] (h) (q_J12_isLatin1 G h r va hs hz a) (0) (0) := by
  refine Mt.of (lv := [(0, .ref (a))]) (by decide +kernel) (Nat.le_of_ble_eq_true rfl) rfl (fun X => ?_)
  refine x_gets (v := iv (1)) z_compact q800 dJ12_isLatin1_0 ?_
  refine x_if_eq 17 dJ12_isLatin1_3 rfl (by decide) (fun c_3 => absurd c_3 (by decide)) (fun c_3 => ?_)
  refine x_aload_n dJ12_isLatin1_6 rfl ?_
  refine x_get (C := RJ12) (T := TJ12) (N := 4) (ci := 9) 1 in_J12 rfl (by decide) q886 dJ12_isLatin1_7 hf0 rfl ?_
  refine x_if_ne 17 dJ12_isLatin1_10 rfl (by decide) (fun c_10 => absurd c_10 (by decide)) (fun c_10 => ?_)
  refine x_iconst dJ12_isLatin1_13 ?_
  refine x_goto 18 dJ12_isLatin1_14 rfl ?_
  exact x_zret rfl (by decide) ⟨rb1 (by first | rfl | (simp_all; done) | (simp; omega) | (simp_all; omega)), rfl⟩ dJ12_isLatin1_18
abbrev q_J12_length (G : Gw) (h : Hp) (r : Nat) (va : Nat) (hs : Int) (hz : Int) (rb : Nat) (n : Nat) (f : Nat → Int) (a : Nat) : Option Value → Hp → Prop := fun v_ h_ => v_ = some (iv ((n : Int))) ∧ h_ = h
set_option maxHeartbeats 4000000 in
theorem c_J12_length (l : Launch) (G : Gw) (h : Hp) (r : Nat) (va : Nat) (hs : Int) (hz : Int) (rb : Nat) (n : Nat) (f : Nat → Int) (a : Nat) (hf0 : h a = some (r, ob 9 [.ref (va), iv (0), iv (hs), iv (hz)])) (hf1 : h va = some (rb, ba G n f))  : Mt l G yJ12_length cJ12_length 1 (some .int) 1 [.ref (a)] (h) (q_J12_length G h r va hs hz rb n f a) (0) (0) := by
  refine Mt.of (lv := [(0, .ref (a))]) (by decide +kernel) (Nat.le_of_ble_eq_true rfl) rfl (fun X => ?_)
  refine x_aload_n dJ12_length_0 rfl ?_
  refine x_get (C := RJ12) (T := TJ12) (N := 4) (ci := 9) 0 in_J12 rfl (by decide) q885 dJ12_length_1 hf0 rfl ?_
  refine x_alen (w := (_, _)) 1 rfl hf1 dJ12_length_4 ?_
  refine x_aload_n dJ12_length_5 rfl ?_
  refine x_callV (ci := 9) (T := TJ12) (N := 4) (As := []) 0 (fun l => c_J12_coder l G _ r va hs hz a hf0) q796 q797 q798 q150 q799 (by decide +kernel) (by decide) (by decide) hf0 rfl rfl rfl (by first | decide | (simp [Value.category, iv, jv, va_rf]; done)) dJ12_length_6 (Nat.zero_le _) (Nat.zero_le _) (fun v_ h_ hv_ => ?_)
  obtain ⟨rfl, rfl⟩ := hv_
  refine x_ishr0 dJ12_length_9 ?_
  exact x_iret rfl ⟨ri (by first | rfl | (simp_all; done) | (simp; omega) | (simp_all; omega)), rfl⟩ dJ12_length_10
abbrev q_J22_checkIndexR (G : Gw) (h : Hp)  (i : Int) (n : Int) (z : Nat) : Option Value → Hp → Prop := fun v_ h_ => v_ = some (iv (i)) ∧ h_ = h
set_option maxHeartbeats 4000000 in
theorem c_J22_checkIndexR (l : Launch) (G : Gw) (h : Hp)  (i : Int) (n : Int) (z : Nat)  (hp0 : 0 ≤ i ∧ i < n) (hp1 : n ≤ 2147483647) : Mt l G yJ22_checkIndex cJ22_checkIndex 3 (some .int) 0 [iv (i), iv (n), .ref (z)] (h) (q_J22_checkIndexR G h i n z) (0) (0) := by
  refine Mt.of (lv := [(0, iv (i)), (1, iv (n)), (2, .ref (z))]) (by decide +kernel) (Nat.le_of_ble_eq_true rfl) rfl (fun X => ?_)
  refine x_iload_n dJ22_checkIndex_0 rfl ?_
  refine x_if_lt 9 dJ22_checkIndex_1 rfl (by omega) (fun c_1 => ?_) (fun c_1 => ?_)
  · exact absurd c_1 (by omega)
  · refine x_iload_n dJ22_checkIndex_4 rfl ?_
    refine x_iload_n dJ22_checkIndex_5 rfl ?_
    refine x_icmp_lt 16 dJ22_checkIndex_6 rfl (by omega) (by omega) (fun c_6 => ?_) (fun c_6 => ?_)
    · refine x_iload_n dJ22_checkIndex_16 rfl ?_
      exact x_iret rfl ⟨ri (by first | rfl | (simp_all; done) | (simp; omega) | (simp_all; omega)), rfl⟩ dJ22_checkIndex_17
    · exact absurd c_6 (by omega)
theorem c_J22_checkIndexO (l : Launch) (G : Gw) (h : Hp) (i : Int) (n : Int) (z : Option Nat) (hp0 : 0 ≤ i ∧ i < n) (hp1 : n ≤ 2147483647) : Mt l G yJ22_checkIndex cJ22_checkIndex 3 (some .int) 0 [iv i, iv n, va_rf z] h (fun v_ h_ => v_ = some (iv i) ∧ h_ = h) 0 0 := by
  cases z with
  | none => exact c_J22_checkIndex l G h i n hp0 hp1
  | some z => exact c_J22_checkIndexR l G h i n z hp0 hp1
abbrev q_J12_checkIndex (G : Gw) (h : Hp)  (i : Int) (n : Int) : Option Value → Hp → Prop := fun v_ h_ => v_ = none ∧ h_ = h
set_option maxHeartbeats 4000000 in
theorem c_J12_checkIndex (l : Launch) (G : Gw) (h : Hp)  (i : Int) (n : Int)  (hp0 : 0 ≤ i ∧ i < n) (hp1 : n ≤ 2147483647) : Mt l G yJ12_checkIndex cJ12_checkIndex 2 none 1 [iv (i), iv (n)] (h) (q_J12_checkIndex G h i n) (0) (0) := by
  refine Mt.of (lv := [(0, iv (i)), (1, iv (n))]) (by decide +kernel) (Nat.le_of_ble_eq_true rfl) rfl (fun X => ?_)
  refine x_iload_n dJ12_checkIndex_0 rfl ?_
  refine x_iload_n dJ12_checkIndex_1 rfl ?_
  refine x_getsQ z_siobe q778 dJ12_checkIndex_2 (fun sr2_1 => ?_)
  refine x_callS (As := [iv (i), iv (n), va_rf (sr2_1)]) 3 (fun l => c_J22_checkIndexO l G _  i n sr2_1 (by first | assumption | omega) (by first | assumption | omega)) q1009 q618 q160 q619 (by decide +kernel) (by decide) (by decide) rfl rfl (by first | decide | (simp [Value.category, iv, jv, va_rf]; done)) dJ12_checkIndex_5 (Nat.zero_le _) (Nat.zero_le _) (fun v_ h_ hv_ => ?_)
  obtain ⟨rfl, rfl⟩ := hv_
  refine x_pop dJ12_checkIndex_8 ?_
  exact x_vret rfl ⟨rfl, rfl⟩ dJ12_checkIndex_9
abbrev q_J30_charAt (G : Gw) (h : Hp) (rb : Nat) (n : Nat) (f : Nat → Int) (va : Nat) (i : Int) : Option Value → Hp → Prop := fun v_ h_ => v_ = some (iv (f i.toNat)) ∧ h_ = h
set_option maxHeartbeats 4000000 in
theorem c_J30_charAt (l : Launch) (G : Gw) (h : Hp) (rb : Nat) (n : Nat) (f : Nat → Int) (va : Nat) (i : Int) (hf0 : h va = some (rb, ba G n f)) (hp0 : 0 ≤ i ∧ i < n) (hp1 : n ≤ 2147483647) (hp2 : 0 ≤ f i.toNat ∧ f i.toNat ≤ 127) : Mt l G yJ30_charAt cJ30_charAt 2 (some .char) 2 [.ref (va), iv (i)] (h) (q_J30_charAt G h rb n f va i) (0) (0) := by
  refine Mt.of (lv := [(0, .ref (va)), (1, iv (i))]) (by decide +kernel) (Nat.le_of_ble_eq_true rfl) rfl (fun X => ?_)
  refine x_iload_n dJ30_charAt_0 rfl ?_
  refine x_aload_n dJ30_charAt_1 rfl ?_
  refine x_alen (w := (_, _)) 1 rfl hf0 dJ30_charAt_2 ?_
  refine x_callS (As := [iv (i), iv ((n : Nat))]) 2 (fun l => c_J12_checkIndex l G _  i ((n : Nat)) (by first | assumption | omega) (by first | assumption | omega)) q1006 q1007 q150 q1008 (by decide +kernel) (by decide) (by decide) rfl rfl (by first | decide | (simp [Value.category, iv, jv, va_rf]; done)) dJ30_charAt_3 (Nat.zero_le _) (Nat.zero_le _) (fun v_ h_ hv_ => ?_)
  obtain ⟨rfl, rfl⟩ := hv_
  refine x_aload_n dJ30_charAt_6 rfl ?_
  refine x_iload_n dJ30_charAt_7 rfl ?_
  refine x_bald hf0 (by omega) (by omega) dJ30_charAt_8 ?_
  refine x_sipush dJ30_charAt_9 ?_
  refine x_iand255 (by omega) dJ30_charAt_12 ?_
  refine x_i2c (by omega) dJ30_charAt_13 ?_
  exact x_zret rfl (nar_c (by omega)) ⟨ri (by first | rfl | (simp_all; done) | (simp; omega) | (simp_all; omega)), rfl⟩ dJ30_charAt_14
abbrev q_J12_charAt (G : Gw) (h : Hp) (r : Nat) (va : Nat) (hs : Int) (hz : Int) (rb : Nat) (n : Nat) (f : Nat → Int) (a : Nat) (i : Int) : Option Value → Hp → Prop := fun v_ h_ => v_ = some (iv (f i.toNat)) ∧ h_ = h
set_option maxHeartbeats 4000000 in
theorem c_J12_charAt (l : Launch) (G : Gw) (h : Hp) (r : Nat) (va : Nat) (hs : Int) (hz : Int) (rb : Nat) (n : Nat) (f : Nat → Int) (a : Nat) (i : Int) (hf0 : h a = some (r, ob 9 [.ref (va), iv (0), iv (hs), iv (hz)])) (hf1 : h va = some (rb, ba G n f)) (hp0 : 0 ≤ i ∧ i < n) (hp1 : n ≤ 2147483647) (hp2 : 0 ≤ f i.toNat ∧ f i.toNat ≤ 127) : Mt l G yJ12_charAt cJ12_charAt 2 (some .char) 3 [.ref (a), iv (i)] (h) (q_J12_charAt G h r va hs hz rb n f a i) (0) (0) := by
  refine Mt.of (lv := [(0, .ref (a)), (1, iv (i))]) (by decide +kernel) (Nat.le_of_ble_eq_true rfl) rfl (fun X => ?_)
  refine x_aload_n dJ12_charAt_0 rfl ?_
  refine x_callV (ci := 9) (T := TJ12) (N := 4) (As := []) 0 (fun l => c_J12_isLatin1 l G _ r va hs hz a hf0) q999 q1000 q1001 q150 q1002 (by decide +kernel) (by decide) (by decide) hf0 rfl rfl rfl (by first | decide | (simp [Value.category, iv, jv, va_rf]; done)) dJ12_charAt_1 (Nat.zero_le _) (Nat.zero_le _) (fun v_ h_ hv_ => ?_)
  obtain ⟨rfl, rfl⟩ := hv_
  refine x_ifb_eq 16 dJ12_charAt_4 rfl (fun c_4 => ?_) (fun c_4 => ?_)
  · exact absurd c_4 (by decide)
  · refine x_aload_n dJ12_charAt_7 rfl ?_
    refine x_get (C := RJ12) (T := TJ12) (N := 4) (ci := 9) 0 in_J12 rfl (by decide) q885 dJ12_charAt_8 hf0 rfl ?_
    refine x_iload_n dJ12_charAt_11 rfl ?_
    refine x_callS (As := [.ref (va), iv (i)]) 2 (fun l => c_J30_charAt l G _ rb n f va i hf1 (by first | assumption | omega) (by first | assumption | omega) (by first | assumption | omega)) q1003 q1004 q169 q1005 (by decide +kernel) (by decide) (by decide) rfl rfl (by first | decide | (simp [Value.category, iv, jv, va_rf]; done)) dJ12_charAt_12 (Nat.zero_le _) (Nat.zero_le _) (fun v_ h_ hv_ => ?_)
    obtain ⟨rfl, rfl⟩ := hv_
    exact x_zret rfl (nar_c (by omega)) ⟨ri (by first | rfl | (simp_all; done) | (simp; omega) | (simp_all; omega)), rfl⟩ dJ12_charAt_15
abbrev q_J10_length (G : Gw) (h : Hp) (r : Nat) (va : Nat) (ml : Int) (ct : Int) (a : Nat) : Option Value → Hp → Prop := fun v_ h_ => v_ = some (iv (ct)) ∧ h_ = h
set_option maxHeartbeats 4000000 in
theorem c_J10_length (l : Launch) (G : Gw) (h : Hp) (r : Nat) (va : Nat) (ml : Int) (ct : Int) (a : Nat) (hf0 : h a = some (r, ob 8 [.ref (va), iv (0), iv (ml), iv (ct)]))  : Mt l G yJ10_length cJ10_length 1 (some .int) 0 [.ref (a)] (h) (q_J10_length G h r va ml ct a) (0) (0) := by
  refine Mt.of (lv := [(0, .ref (a))]) (by decide +kernel) (Nat.le_of_ble_eq_true rfl) rfl (fun X => ?_)
  refine x_aload_n dJ10_length_0 rfl ?_
  refine x_get (C := RJ11) (T := TJ11) (N := 4) (ci := 8) 3 in_J11 rfl (by decide) q364 dJ10_length_1 hf0 rfl ?_
  exact x_iret rfl ⟨ri (by first | rfl | (simp_all; done) | (simp; omega) | (simp_all; omega)), rfl⟩ dJ10_length_4
abbrev q_J11_length (G : Gw) (h : Hp) (r : Nat) (va : Nat) (ml : Int) (ct : Int) (a : Nat) : Option Value → Hp → Prop := fun v_ h_ => v_ = some (iv (ct)) ∧ h_ = h
set_option maxHeartbeats 4000000 in
theorem c_J11_length (l : Launch) (G : Gw) (h : Hp) (r : Nat) (va : Nat) (ml : Int) (ct : Int) (a : Nat) (hf0 : h a = some (r, ob 8 [.ref (va), iv (0), iv (ml), iv (ct)]))  : Mt l G yJ11_length cJ11_length 1 (some .int) 1 [.ref (a)] (h) (q_J11_length G h r va ml ct a) (0) (0) := by
  refine Mt.of (lv := [(0, .ref (a))]) (by decide +kernel) (Nat.le_of_ble_eq_true rfl) rfl (fun X => ?_)
  refine x_aload_n dJ11_length_0 rfl ?_
  refine x_callSU (ci := 8) (T := TJ11) (N := 4) (As := []) 0 (fun l => c_J10_length l G _ r va ml ct a hf0) q860 q856 q373 q855 q148 q861 (by decide +kernel) (by decide) (by decide) hf0 rfl rfl rfl (by first | decide | (simp [Value.category, iv, jv, va_rf]; done)) dJ11_length_1 (Nat.zero_le _) (Nat.zero_le _) (fun v_ h_ hv_ => ?_)
  obtain ⟨rfl, rfl⟩ := hv_
  exact x_iret rfl ⟨ri (by first | rfl | (simp_all; done) | (simp; omega) | (simp_all; omega)), rfl⟩ dJ11_length_4
abbrev q_J10_isLatin1 (G : Gw) (h : Hp) (r : Nat) (va : Nat) (ml : Int) (ct : Int) (a : Nat) : Option Value → Hp → Prop := fun v_ h_ => v_ = some (iv (bI (true))) ∧ h_ = h
set_option maxHeartbeats 4000000 in
theorem c_J10_isLatin1 (l : Launch) (G : Gw) (h : Hp) (r : Nat) (va : Nat) (ml : Int) (ct : Int) (a : Nat) (hf0 : h a = some (r, ob 8 [.ref (va), iv (0), iv (ml), iv (ct)]))  : Mt l G yJ10_isLatin1 cJ10_isLatin1 1 (some .boolean) 0 [.ref (a)] (h) (q_J10_isLatin1 G h r va ml ct a) (0) (0) := by
  refine Mt.of (lv := [(0, .ref (a))]) (by decide +kernel) (Nat.le_of_ble_eq_true rfl) rfl (fun X => ?_)
  refine x_gets (v := iv (1)) z_compact q351 dJ10_isLatin1_0 ?_
  refine x_if_eq 17 dJ10_isLatin1_3 rfl (by decide) (fun c_3 => absurd c_3 (by decide)) (fun c_3 => ?_)
  refine x_aload_n dJ10_isLatin1_6 rfl ?_
  refine x_get (C := RJ11) (T := TJ11) (N := 4) (ci := 8) 1 in_J11 rfl (by decide) q361 dJ10_isLatin1_7 hf0 rfl ?_
  refine x_if_ne 17 dJ10_isLatin1_10 rfl (by decide) (fun c_10 => absurd c_10 (by decide)) (fun c_10 => ?_)
  refine x_iconst dJ10_isLatin1_13 ?_
  refine x_goto 18 dJ10_isLatin1_14 rfl ?_
  exact x_zret rfl (by decide) ⟨rb1 (by first | rfl | (simp_all; done) | (simp; omega) | (simp_all; omega)), rfl⟩ dJ10_isLatin1_18
