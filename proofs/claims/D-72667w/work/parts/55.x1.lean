/-! CLASS 1 -/
set_option maxRecDepth 100000
abbrev q_X0_in (G : Gw) (h : Hp)  (v : Int) (a : Int) (b : Int) : Option Value → Hp → Prop := fun v_ h_ => v_ = some (iv (bI (decide (a ≤ v) && decide (v ≤ b)))) ∧ h_ = h
set_option maxHeartbeats 4000000 in
theorem c_X0_in (l : Launch) (G : Gw) (h : Hp)  (v : Int) (a : Int) (b : Int)  (hp0 : -2147483648 ≤ v ∧ v ≤ 2147483647) (hp1 : -2147483648 ≤ a ∧ a ≤ 2147483647) (hp2 : -2147483648 ≤ b ∧ b ≤ 2147483647) : Mt l G yX0_in cX0_in 3 (some .boolean) 0 [iv (v), iv (a), iv (b)] (h) (q_X0_in G h v a b) (0) (0) := by
  refine Mt.of (lv := [(0, iv (v)), (1, iv (a)), (2, iv (b))]) (by decide +kernel) (Nat.le_of_ble_eq_true rfl) rfl (fun X => ?_)
  refine x_iload_n dX0_in_0 rfl ?_
  refine x_iload_n dX0_in_1 rfl ?_
  refine x_icmp_lt 14 dX0_in_2 rfl (by omega) (by omega) (fun c_2 => ?_) (fun c_2 => ?_)
  · refine x_iconst dX0_in_14 ?_
    exact x_zret rfl (by decide) ⟨rb0 (by first | rfl | (simp_all; done) | (simp; omega) | (simp_all; omega)), rfl⟩ dX0_in_15
  · refine x_iload_n dX0_in_5 rfl ?_
    refine x_iload_n dX0_in_6 rfl ?_
    refine x_icmp_gt 14 dX0_in_7 rfl (by omega) (by omega) (fun c_7 => ?_) (fun c_7 => ?_)
    · refine x_iconst dX0_in_14 ?_
      exact x_zret rfl (by decide) ⟨rb0 (by first | rfl | (simp_all; done) | (simp; omega) | (simp_all; omega)), rfl⟩ dX0_in_15
    · refine x_iconst dX0_in_10 ?_
      refine x_goto 15 dX0_in_11 rfl ?_
      exact x_zret rfl (by decide) ⟨rb1 (by first | rfl | (simp_all; done) | (simp; omega) | (simp_all; omega)), rfl⟩ dX0_in_15
abbrev q_X3_length (G : Gw) (h : Hp) (r3 : Nat) (tx : Nat) (us : Int) (o : Nat) (r : Nat) (va : Nat) (hs : Int) (hz : Int) (rb : Nat) (n : Nat) (f : Nat → Int) (a : Nat) : Option Value → Hp → Prop := fun v_ h_ => v_ = some (iv ((n : Int))) ∧ h_ = h
set_option maxHeartbeats 4000000 in
theorem c_X3_length (l : Launch) (G : Gw) (h : Hp) (r3 : Nat) (tx : Nat) (us : Int) (o : Nat) (r : Nat) (va : Nat) (hs : Int) (hz : Int) (rb : Nat) (n : Nat) (f : Nat → Int) (a : Nat) (hf0 : h a = some (r3, ob 3 [.ref (tx), iv (us), .ref (o)])) (hf1 : h tx = some (r, ob 9 [.ref (va), iv (0), iv (hs), iv (hz)])) (hf2 : h va = some (rb, ba G n f))  : Mt l G yX3_length cX3_length 1 (some .int) 2 [.ref (a)] (h) (q_X3_length G h r3 tx us o r va hs hz rb n f a) (0) (0) := by
  refine Mt.of (lv := [(0, .ref (a))]) (by decide +kernel) (Nat.le_of_ble_eq_true rfl) rfl (fun X => ?_)
  refine x_aload_n dX3_length_0 rfl ?_
  refine x_get (C := RX3) (T := TX3) (N := 3) (ci := 3) 0 in_X3 rfl (by decide) q1694 dX3_length_1 hf0 rfl ?_
  refine x_callV (ci := 9) (T := TJ12) (N := 4) (As := []) 0 (fun l => c_J12_length l G _ r va hs hz rb n f tx hf1 hf2) q2248 q793 q794 q150 q795 (by decide +kernel) (by decide) (by decide) hf1 rfl rfl rfl (by first | decide | (simp [Value.category, iv, jv, va_rf]; done)) dX3_length_4 (Nat.zero_le _) (Nat.zero_le _) (fun v_ h_ hv_ => ?_)
  obtain ⟨rfl, rfl⟩ := hv_
  exact x_iret rfl ⟨ri (by first | rfl | (simp_all; done) | (simp; omega) | (simp_all; omega)), rfl⟩ dX3_length_7
abbrev q_X3_digit (G : Gw) (h : Hp) (r3 : Nat) (tx : Nat) (us : Int) (o : Nat) (r : Nat) (va : Nat) (hs : Int) (hz : Int) (rb : Nat) (n : Nat) (f : Nat → Int) (ro : Nat) (D : Nat → Nat) (li : Int) (di : Int) (go : Int) (mn : Option Nat) (wi : Int) (bu : Int) (rd : Nat) (dg : Nat → Int) (a : Nat) (i : Int) : Option Value → Hp → Prop := fun v_ h_ => v_ = some (iv (dg (f i.toNat - 97).toNat)) ∧ h_ = h
set_option maxHeartbeats 4000000 in
theorem c_X3_digit (l : Launch) (G : Gw) (h : Hp) (r3 : Nat) (tx : Nat) (us : Int) (o : Nat) (r : Nat) (va : Nat) (hs : Int) (hz : Int) (rb : Nat) (n : Nat) (f : Nat → Int) (ro : Nat) (D : Nat → Nat) (li : Int) (di : Int) (go : Int) (mn : Option Nat) (wi : Int) (bu : Int) (rd : Nat) (dg : Nat → Int) (a : Nat) (i : Int) (hf0 : h a = some (r3, ob 3 [.ref (tx), iv (us), .ref (o)])) (hf1 : h tx = some (r, ob 9 [.ref (va), iv (0), iv (hs), iv (hz)])) (hf2 : h va = some (rb, ba G n f)) (hf3 : h o = some (ro, ob 0 [.ref (D 0), .ref (D 1), iv (li), iv (di), iv (go), .ref (D 5), .ref (D 6), .ref (D 7), .ref (D 8), .ref (D 9), .ref (D 10), .ref (D 11), .ref (D 12), va_rf (mn), iv (wi), iv (bu), .ref (D 16), .ref (D 17)])) (hf4 : h (D 0) = some (rd, ia G 26 dg)) (hp0 : 0 ≤ i ∧ i < n) (hp1 : n ≤ 65536) (hp2 : 97 ≤ f i.toNat ∧ f i.toNat ≤ 122) : Mt l G yX3_digit cX3_digit 2 (some .int) 4 [.ref (a), iv (i)] (h) (q_X3_digit G h r3 tx us o r va hs hz rb n f ro D li di go mn wi bu rd dg a i) (0) (0) := by
  refine Mt.of (lv := [(0, .ref (a)), (1, iv (i))]) (by decide +kernel) (Nat.le_of_ble_eq_true rfl) rfl (fun X => ?_)
  refine x_aload_n dX3_digit_0 rfl ?_
  refine x_get (C := RX3) (T := TX3) (N := 3) (ci := 3) 2 in_X3 rfl (by decide) q1698 dX3_digit_1 hf0 rfl ?_
  refine x_getN (C := RX0) (T := TX0) (N := 18) (ci := 0) 0 in_X0 rfl (by decide) q1018 dX3_digit_4 hf3 rfl ?_
  refine x_aload_n dX3_digit_7 rfl ?_
  refine x_get (C := RX3) (T := TX3) (N := 3) (ci := 3) 0 in_X3 rfl (by decide) q1694 dX3_digit_8 hf0 rfl ?_
  refine x_iload_n dX3_digit_11 rfl ?_
  refine x_callV (ci := 9) (T := TJ12) (N := 4) (As := [iv (i)]) 1 (fun l => c_J12_charAt l G _ r va hs hz rb n f tx i hf1 hf2 (by first | assumption | omega) (by first | assumption | omega) (by first | assumption | omega)) q2290 q996 q997 q150 q998 (by decide +kernel) (by decide) (by decide) hf1 rfl rfl rfl (by first | decide | (simp [Value.category, iv, jv, va_rf]; done)) dX3_digit_12 (Nat.zero_le _) (Nat.zero_le _) (fun v_ h_ hv_ => ?_)
  obtain ⟨rfl, rfl⟩ := hv_
  refine x_bipush dX3_digit_15 ?_
  refine x_isub dX3_digit_17 ?_
  refine x_iald hf4 (by omega) (by decide) dX3_digit_18 ?_
  exact x_iret rfl ⟨ri (by first | rfl | (simp_all; done) | (simp; omega) | (simp_all; omega)), rfl⟩ dX3_digit_19
abbrev q_X0_laid (G : Gw) (h : Hp) (ro : Nat) (D : Nat → Nat) (li : Int) (di : Int) (go : Int) (mn : Option Nat) (wi : Int) (bu : Int) (rd : Nat) (dg : Nat → Int) (o : Nat) (c : Int) : Option Value → Hp → Prop := fun v_ h_ => v_ = some (iv (if decide (97 ≤ c) && decide (c ≤ 122) then dg (c - 97).toNat else -102)) ∧ h_ = h
set_option maxHeartbeats 4000000 in
theorem c_X0_laid (l : Launch) (G : Gw) (h : Hp) (ro : Nat) (D : Nat → Nat) (li : Int) (di : Int) (go : Int) (mn : Option Nat) (wi : Int) (bu : Int) (rd : Nat) (dg : Nat → Int) (o : Nat) (c : Int) (hf0 : h o = some (ro, ob 0 [.ref (D 0), .ref (D 1), iv (li), iv (di), iv (go), .ref (D 5), .ref (D 6), .ref (D 7), .ref (D 8), .ref (D 9), .ref (D 10), .ref (D 11), .ref (D 12), va_rf (mn), iv (wi), iv (bu), .ref (D 16), .ref (D 17)])) (hf1 : h (D 0) = some (rd, ia G 26 dg)) (hp0 : -2147483648 ≤ c ∧ c ≤ 2147483647) : Mt l G yX0_laid cX0_laid 2 (some .int) 1 [.ref (o), iv (c)] (h) (q_X0_laid G h ro D li di go mn wi bu rd dg o c) (0) (0) := by
  refine Mt.of (lv := [(0, .ref (o)), (1, iv (c))]) (by decide +kernel) (Nat.le_of_ble_eq_true rfl) rfl (fun X => ?_)
  refine x_iload_n dX0_laid_0 rfl ?_
  refine x_bipush dX0_laid_1 ?_
  refine x_bipush dX0_laid_3 ?_
  refine x_callS (As := [iv (c), iv (97), iv (122)]) 3 (fun l => c_X0_in l G _  c 97 122 (by first | assumption | omega) (by first | assumption | omega) (by first | assumption | omega)) q1078 q1079 q137 q1080 (by decide +kernel) (by decide) (by decide) rfl rfl (by first | decide | (simp [Value.category, iv, jv, va_rf]; done)) dX0_laid_5 (Nat.zero_le _) (Nat.zero_le _) (fun v_ h_ hv_ => ?_)
  obtain ⟨rfl, rfl⟩ := hv_
  refine x_ifb_eq 23 dX0_laid_8 rfl (fun c_8 => ?_) (fun c_8 => ?_)
  · refine x_bipush dX0_laid_23 ?_
    exact x_iret rfl ⟨ri (by rw [c_8]; rfl), rfl⟩ dX0_laid_25
  · have h9 : 97 ≤ c ∧ c ≤ 122 := by simp at c_8; omega
    refine x_aload_n dX0_laid_11 rfl ?_
    refine x_get (C := RX0) (T := TX0) (N := 18) (ci := 0) 0 in_X0 rfl (by decide) q1017 dX0_laid_12 hf0 rfl ?_
    refine x_iload_n dX0_laid_15 rfl ?_
    refine x_bipush dX0_laid_16 ?_
    refine x_isub dX0_laid_18 ?_
    refine x_iald hf1 (by omega) (by decide) dX0_laid_19 ?_
    refine x_goto 25 dX0_laid_20 rfl ?_
    exact x_iret rfl ⟨ri (by rw [c_8]; rfl), rfl⟩ dX0_laid_25
abbrev q_X0_blank (G : Gw) (h : Hp) (ro : Nat) (D : Nat → Nat) (li : Int) (di : Int) (go : Int) (mn : Option Nat) (wi : Int) (bu : Int) (r : Nat) (va : Nat) (ml : Int) (ct : Int) (rb : Nat) (n : Nat) (f : Nat → Int) (o : Nat) : Option Value → Hp → Prop := fun v_ h_ => v_ = some (iv (ct)) ∧ h_ = hup (h) (D 6) (r, ob 8 [.ref (va), iv (0), iv (if 0 < ct then 1 else ml), iv (0)])
set_option maxHeartbeats 4000000 in
theorem c_X0_blank (l : Launch) (G : Gw) (h : Hp) (ro : Nat) (D : Nat → Nat) (li : Int) (di : Int) (go : Int) (mn : Option Nat) (wi : Int) (bu : Int) (r : Nat) (va : Nat) (ml : Int) (ct : Int) (rb : Nat) (n : Nat) (f : Nat → Int) (o : Nat) (hf0 : h o = some (ro, ob 0 [.ref (D 0), .ref (D 1), iv (li), iv (di), iv (go), .ref (D 5), .ref (D 6), .ref (D 7), .ref (D 8), .ref (D 9), .ref (D 10), .ref (D 11), .ref (D 12), va_rf (mn), iv (wi), iv (bu), .ref (D 16), .ref (D 17)])) (hf1 : h (D 6) = some (r, ob 8 [.ref (va), iv (0), iv (ml), iv (ct)])) (hf2 : h va = some (rb, ba G n f)) (hp0 : r ≠ 0) (hp1 : 0 ≤ ct ∧ ct ≤ n) (hp2 : n ≤ 65536) : Mt l G yX0_blank cX0_blank 2 (some .int) 3 [.ref (o)] (h) (q_X0_blank G h ro D li di go mn wi bu r va ml ct rb n f o) (0) (0) := by
  refine Mt.of (lv := [(0, .ref (o))]) (by decide +kernel) (Nat.le_of_ble_eq_true rfl) rfl (fun X => ?_)
  refine x_aload_n dX0_blank_0 rfl ?_
  refine x_get (C := RX0) (T := TX0) (N := 18) (ci := 0) 6 in_X0 rfl (by decide) q1025 dX0_blank_1 hf0 rfl ?_
  refine x_callV (ci := 8) (T := TJ11) (N := 4) (As := []) 0 (fun l => c_J11_length l G _ r va ml ct (D 6) hf1) q1081 q858 q3297 q149 q859 (by decide +kernel) (by decide) (by decide) hf1 rfl rfl rfl (by first | decide | (simp [Value.category, iv, jv, va_rf]; done)) dX0_blank_4 (Nat.zero_le _) (Nat.zero_le _) (fun v_ h_ hv_ => ?_)
  obtain ⟨rfl, rfl⟩ := hv_
  refine x_istore_n (lv' := [(0, _), (1, _)]) dX0_blank_7 rfl (by decide) ?_
  refine x_aload_n dX0_blank_8 rfl ?_
  refine x_get (C := RX0) (T := TX0) (N := 18) (ci := 0) 6 in_X0 rfl (by decide) q1025 dX0_blank_9 hf0 rfl ?_
  refine x_iconst dX0_blank_12 ?_
  refine x_callV (ci := 8) (T := TJ11) (N := 4) (As := [iv (0)]) 1 (fun l => c_J11_setLength l G _ r va ml ct rb n f (D 6) 0 hf1 hf2 (hp0) (hp1) (hp2) (rfl)) q1099 q1100 q1101 q149 q1102 (by decide +kernel) (by decide) (by decide) hf1 rfl rfl rfl (by first | decide | (simp [Value.category, iv, jv, va_rf]; done)) dX0_blank_13 (Nat.zero_le _) (Nat.zero_le _) (fun v_ h_ hv_ => ?_)
  obtain ⟨rfl, rfl⟩ := hv_
  refine x_iload_n dX0_blank_16 rfl ?_
  exact x_iret rfl ⟨ri (by first | rfl | (simp_all; done) | (simp; omega) | (simp_all; omega)), rfl⟩ dX0_blank_17
