/-! CLASS 3: names -/
/-- the names in the class's heap -/
def NP (G : Gw) (h : Hp) (o : Nat) (A Tx Va : Nat → Nat) (S : Ms) : Prop := ∀ k : Nat, (k : Int) < S.1 2 → h (A k) = some (2, ob 3 [.ref (Tx k), iv (S.2 5 (k : Nat)), .ref o]) ∧ h (Tx k) = some (2, ob 9 [.ref (Va k), iv 0, iv 0, iv 0]) ∧ h (Va k) = some (2, ba G (S.2 3 (k : Nat)).toNat (fun j => S.2 4 (8 * (k : Nat) + (j : Int))))
theorem np_b {S : Ms} (h : Wf S) {a i : Int} (h7 : 0 ≤ a ∧ a < S.1 2) (h9 : 0 ≤ i ∧ i < S.2 3 a) : 0 ≤ (fun j : Nat => S.2 4 (8 * a + (j : Int))) i.toNat ∧ (fun j : Nat => S.2 4 (8 * a + (j : Int))) i.toNat ≤ 127 := by
  have hL := h.let h7 h9
  have hi : ((i.toNat : Nat) : Int) = i := by omega
  show 0 ≤ S.2 4 (8 * a + _) ∧ S.2 4 (8 * a + _) ≤ 127
  rw [hi]; omega
theorem np_l {S : Ms} (h : Wf S) {a i : Int} (h7 : 0 ≤ a ∧ a < S.1 2) (h9 : 0 ≤ i ∧ i < S.2 3 a) : 97 ≤ (fun j : Nat => S.2 4 (8 * a + (j : Int))) i.toNat ∧ (fun j : Nat => S.2 4 (8 * a + (j : Int))) i.toNat ≤ 122 := by
  have hL := h.let h7 h9
  have hi : ((i.toNat : Nat) : Int) = i := by omega
  show 97 ≤ S.2 4 (8 * a + _) ∧ S.2 4 (8 * a + _) ≤ 122
  rw [hi]; omega
theorem np_d {S : Ms} (h : Wf S) {a i : Int} (h7 : 0 ≤ a ∧ a < S.1 2) (h9 : 0 ≤ i ∧ i < S.2 3 a) : (fun j : Nat => S.2 9 (j : Int)) ((fun j : Nat => S.2 4 (8 * a + (j : Int))) i.toNat - 97).toNat = f_code S a i := by
  have hL := h.let h7 h9
  have hi : ((i.toNat : Nat) : Int) = i := by omega
  show S.2 9 (((S.2 4 (8 * a + ((i.toNat : Nat) : Int)) - 97).toNat : Nat) : Int) = _
  rw [hi, f_code, show (((S.2 4 (8 * a + i) - 97).toNat : Nat) : Int) = S.2 4 (8 * a + i) - 97 by omega]
set_option maxRecDepth 100000
abbrev q_X0_sign (G : Gw) (h : Hp) (S : Ms) (D : Nat → Nat) (li : Int) (di : Int) (go : Int) (mn : Option Nat) (wi : Int) (bu : Int) (mo : Int) (ea : Nat) (cap : Nat) (fe : Nat → Option Nat) (A : Nat → Nat) (Tx : Nat → Nat) (Va : Nat → Nat) (o : Nat) (a : Int) (i : Int) : Option Value → Hp → Prop := fun v_ h_ => v_ = some (iv (if (decide (0 ≤ a) && decide (a ≤ S.1 2 - 1)) && (decide (0 ≤ i) && decide (i ≤ S.2 3 a - 1)) then S.2 4 (8 * a + i) else -101)) ∧ h_ = h
set_option maxHeartbeats 4000000 in
theorem c_X0_sign (l : Launch) (G : Gw) (h : Hp) (S : Ms) (D : Nat → Nat) (li : Int) (di : Int) (go : Int) (mn : Option Nat) (wi : Int) (bu : Int) (mo : Int) (ea : Nat) (cap : Nat) (fe : Nat → Option Nat) (A : Nat → Nat) (Tx : Nat → Nat) (Va : Nat → Nat) (o : Nat) (a : Int) (i : Int) (hf0 : h o = some (2, ob 0 [.ref (D 0), .ref (D 1), iv (li), iv (di), iv (go), .ref (D 5), .ref (D 6), .ref (D 7), .ref (D 8), .ref (D 9), .ref (D 10), .ref (D 11), .ref (D 12), va_rf (mn), iv (wi), iv (bu), .ref (D 16), .ref (D 17)])) (hf1 : h (D 1) = some (2, ob 6 [iv (mo), .ref (ea), iv (S.1 2)])) (hf2 : h ea = some (2, ra G cap fe)) (hp0 : Wf S) (hp1 : NP G h o A Tx Va S) (hp2 : ∀ k : Nat, (k : Int) < S.1 2 → fe k = some (A k)) (hp3 : S.1 2 ≤ cap ∧ cap ≤ 65536) (hp4 : -2147483648 ≤ a ∧ a ≤ 2147483647) (hp5 : -2147483648 ≤ i ∧ i ≤ 2147483647) : Mt l G yX0_sign cX0_sign 3 (some .int) 4 [.ref (o), iv (a), iv (i)] (h) (q_X0_sign G h S D li di go mn wi bu mo ea cap fe A Tx Va o a i) (0) (0) := by
  refine Mt.of (lv := [(0, .ref (o)), (1, iv (a)), (2, iv (i))]) (by decide +kernel) (Nat.le_of_ble_eq_true rfl) rfl (fun X => ?_)
  have h2 := hp0.nm
  refine x_aload_n dX0_sign_0 rfl ?_
  refine x_iload_n dX0_sign_1 rfl ?_
  refine x_callV (ci := 0) (T := TX0) (N := 18) (As := [iv (a)]) 1 (fun l => c_X0_isName l G _ 2 _ li di go mn wi bu 2 mo ea (S.1 2) o a hf0 hf1 (by first | assumption | omega) (by first | assumption | omega)) q2141 q2143 qs29 q137 q2144 (by decide +kernel) (by decide) (by decide) hf0 rfl rfl rfl (by first | decide | (simp [Value.category, iv, jv, va_rf]; done)) dX0_sign_2 (Nat.zero_le _) (Nat.zero_le _) (fun v_ h_ hv_ => ?_)
  obtain ⟨rfl, rfl⟩ := hv_
  refine x_ifb_eq 53 dX0_sign_5 rfl (fun c_5 => ?_) (fun c_5 => ?_)
  · refine x_bipush dX0_sign_53 ?_
    exact x_iret rfl ⟨ri (by rw [c_5]; rfl), rfl⟩ dX0_sign_55
  · have h7 : 0 ≤ a ∧ a < S.1 2 := by simp at c_5; omega
    have h8 := hp0.len h7
    have hA : ((a.toNat : Nat) : Int) = a := by omega
    have hn := hp1 a.toNat (by omega)
    rw [hA] at hn
    refine x_iload_n dX0_sign_8 rfl ?_
    refine x_iconst dX0_sign_9 ?_
    refine x_aload_n dX0_sign_10 rfl ?_
    refine x_get (C := RX0) (T := TX0) (N := 18) (ci := 0) 1 in_X0 rfl (by decide) q1019 dX0_sign_11 hf0 rfl ?_
    refine x_iload_n dX0_sign_14 rfl ?_
    refine x_callV (ci := 6) (T := TJ2) (N := 3) (As := [iv (a)]) 1 (fun l => c_J2_get l G _ 2 mo ea (S.1 2) 2 cap fe (D 1) a hf1 hf2 (by first | assumption | omega) (by first | assumption | omega)) q2235 q612 q3307 q140 q613 (by decide +kernel) (by decide) (by decide) hf1 rfl rfl rfl (by first | decide | (simp [Value.category, iv, jv, va_rf]; done)) dX0_sign_15 (Nat.zero_le _) (Nat.zero_le _) (fun v_ h_ hv_ => ?_)
    obtain ⟨rfl, rfl⟩ := hv_
    refine x_jo (hp2 _ (by omega)) ?_
    refine x_castS (ci := 3) (T := TX3) (N := 3) q1667 (hn.1) rfl dX0_sign_18 ?_
    refine x_callV (ci := 3) (T := TX3) (N := 3) (As := []) 0 (fun l => c_X3_length l G _ 2 (Tx (a).toNat) (S.2 5 a) o 2 (Va (a).toNat) 0 0 2 ((S.2 3 a).toNat) (fun j => S.2 4 (8 * a + (j : Int))) (A (a).toNat) (hn.1) (hn.2.1) (hn.2.2)) q2244 q2245 q2246 q186 q2247 (by decide +kernel) (by decide) (by decide) (hn.1) rfl rfl rfl (by first | decide | (simp [Value.category, iv, jv, va_rf]; done)) dX0_sign_21 (Nat.zero_le _) (Nat.zero_le _) (fun v_ h_ hv_ => ?_)
    obtain ⟨rfl, rfl⟩ := hv_
    refine x_iconst dX0_sign_24 ?_
    refine x_isub dX0_sign_25 ?_
    refine x_callS (As := [iv (i), iv (0), iv (((((S.2 3 a).toNat) : Int)) - 1)]) 3 (fun l => c_X0_in l G _  i 0 (((((S.2 3 a).toNat) : Int)) - 1) (by first | assumption | omega) (by first | assumption | omega) (by first | assumption | omega)) q1078 q1079 q137 q1080 (by decide +kernel) (by decide) (by decide) rfl rfl (by first | decide | (simp [Value.category, iv, jv, va_rf]; done)) dX0_sign_26 (Nat.zero_le _) (Nat.zero_le _) (fun v_ h_ hv_ => ?_)
    obtain ⟨rfl, rfl⟩ := hv_
    refine x_ifb_eq 53 dX0_sign_29 rfl (fun c_29 => ?_) (fun c_29 => ?_)
    · refine x_bipush dX0_sign_53 ?_
      exact x_iret rfl ⟨ri (by rw [if_neg (by simp; simp at c_29; omega)]), rfl⟩ dX0_sign_55
    · have h9 : 0 ≤ i ∧ i < S.2 3 a := by simp at c_29; omega
      refine x_aload_n dX0_sign_32 rfl ?_
      refine x_get (C := RX0) (T := TX0) (N := 18) (ci := 0) 1 in_X0 rfl (by decide) q1019 dX0_sign_33 hf0 rfl ?_
      refine x_iload_n dX0_sign_36 rfl ?_
      refine x_callV (ci := 6) (T := TJ2) (N := 3) (As := [iv (a)]) 1 (fun l => c_J2_get l G _ 2 mo ea (S.1 2) 2 cap fe (D 1) a hf1 hf2 (by first | assumption | omega) (by first | assumption | omega)) q2235 q612 q3307 q140 q613 (by decide +kernel) (by decide) (by decide) hf1 rfl rfl rfl (by first | decide | (simp [Value.category, iv, jv, va_rf]; done)) dX0_sign_37 (Nat.zero_le _) (Nat.zero_le _) (fun v_ h_ hv_ => ?_)
      obtain ⟨rfl, rfl⟩ := hv_
      refine x_jo (hp2 _ (by omega)) ?_
      refine x_castS (ci := 3) (T := TX3) (N := 3) q1667 (hn.1) rfl dX0_sign_40 ?_
      refine x_getN (C := RX3) (T := TX3) (N := 3) (ci := 3) 0 in_X3 rfl (by decide) q1695 dX0_sign_43 (hn.1) rfl ?_
      refine x_iload_n dX0_sign_46 rfl ?_
      refine x_callV (ci := 9) (T := TJ12) (N := 4) (As := [iv (i)]) 1 (fun l => c_J12_charAt l G _ 2 (Va (a).toNat) 0 0 2 ((S.2 3 a).toNat) (fun j => S.2 4 (8 * a + (j : Int))) (Tx (a).toNat) i (hn.2.1) (hn.2.2) (by omega) (by omega) (np_b hp0 h7 h9)) q995 q996 q997 q150 q998 (by decide +kernel) (by decide) (by decide) (hn.2.1) rfl rfl rfl (by first | decide | (simp [Value.category, iv, jv, va_rf]; done)) dX0_sign_47 (Nat.zero_le _) (Nat.zero_le _) (fun v_ h_ hv_ => ?_)
      obtain ⟨rfl, rfl⟩ := hv_
      refine x_goto 55 dX0_sign_50 rfl ?_
      exact x_iret rfl ⟨ri (by rw [if_pos (by simp; omega)]; show S.2 4 (8 * a + ((i.toNat : Nat) : Int)) = _; rw [show ((i.toNat : Nat) : Int) = i by omega]), rfl⟩ dX0_sign_55
abbrev q_X0_digit (G : Gw) (h : Hp) (S : Ms) (D : Nat → Nat) (li : Int) (di : Int) (go : Int) (mn : Option Nat) (wi : Int) (bu : Int) (mo : Int) (ea : Nat) (cap : Nat) (fe : Nat → Option Nat) (A : Nat → Nat) (Tx : Nat → Nat) (Va : Nat → Nat) (o : Nat) (a : Int) (i : Int) : Option Value → Hp → Prop := fun v_ h_ => v_ = some (iv (if (decide (0 ≤ a) && decide (a ≤ S.1 2 - 1)) && (decide (0 ≤ i) && decide (i ≤ S.2 3 a - 1)) then f_code S a i else -101)) ∧ h_ = h
set_option maxHeartbeats 4000000 in
theorem c_X0_digit (l : Launch) (G : Gw) (h : Hp) (S : Ms) (D : Nat → Nat) (li : Int) (di : Int) (go : Int) (mn : Option Nat) (wi : Int) (bu : Int) (mo : Int) (ea : Nat) (cap : Nat) (fe : Nat → Option Nat) (A : Nat → Nat) (Tx : Nat → Nat) (Va : Nat → Nat) (o : Nat) (a : Int) (i : Int) (hf0 : h o = some (2, ob 0 [.ref (D 0), .ref (D 1), iv (li), iv (di), iv (go), .ref (D 5), .ref (D 6), .ref (D 7), .ref (D 8), .ref (D 9), .ref (D 10), .ref (D 11), .ref (D 12), va_rf (mn), iv (wi), iv (bu), .ref (D 16), .ref (D 17)])) (hf1 : h (D 1) = some (2, ob 6 [iv (mo), .ref (ea), iv (S.1 2)])) (hf2 : h ea = some (2, ra G cap fe)) (hf3 : h (D 0) = some (2, ia G 26 (fun j => S.2 9 (j : Int)))) (hp0 : Wf S) (hp1 : NP G h o A Tx Va S) (hp2 : ∀ k : Nat, (k : Int) < S.1 2 → fe k = some (A k)) (hp3 : S.1 2 ≤ cap ∧ cap ≤ 65536) (hp4 : -2147483648 ≤ a ∧ a ≤ 2147483647) (hp5 : -2147483648 ≤ i ∧ i ≤ 2147483647) : Mt l G yX0_digit cX0_digit 3 (some .int) 5 [.ref (o), iv (a), iv (i)] (h) (q_X0_digit G h S D li di go mn wi bu mo ea cap fe A Tx Va o a i) (0) (0) := by
  refine Mt.of (lv := [(0, .ref (o)), (1, iv (a)), (2, iv (i))]) (by decide +kernel) (Nat.le_of_ble_eq_true rfl) rfl (fun X => ?_)
  have h2 := hp0.nm
  refine x_aload_n dX0_digit_0 rfl ?_
  refine x_iload_n dX0_digit_1 rfl ?_
  refine x_callV (ci := 0) (T := TX0) (N := 18) (As := [iv (a)]) 1 (fun l => c_X0_isName l G _ 2 _ li di go mn wi bu 2 mo ea (S.1 2) o a hf0 hf1 (by first | assumption | omega) (by first | assumption | omega)) q2141 q2143 qs29 q137 q2144 (by decide +kernel) (by decide) (by decide) hf0 rfl rfl rfl (by first | decide | (simp [Value.category, iv, jv, va_rf]; done)) dX0_digit_2 (Nat.zero_le _) (Nat.zero_le _) (fun v_ h_ hv_ => ?_)
  obtain ⟨rfl, rfl⟩ := hv_
  refine x_ifb_eq 50 dX0_digit_5 rfl (fun c_5 => ?_) (fun c_5 => ?_)
  · refine x_bipush dX0_digit_50 ?_
    exact x_iret rfl ⟨ri (by rw [c_5]; rfl), rfl⟩ dX0_digit_52
  · have h7 : 0 ≤ a ∧ a < S.1 2 := by simp at c_5; omega
    have h8 := hp0.len h7
    have hA : ((a.toNat : Nat) : Int) = a := by omega
    have hn := hp1 a.toNat (by omega)
    rw [hA] at hn
    refine x_iload_n dX0_digit_8 rfl ?_
    refine x_iconst dX0_digit_9 ?_
    refine x_aload_n dX0_digit_10 rfl ?_
    refine x_get (C := RX0) (T := TX0) (N := 18) (ci := 0) 1 in_X0 rfl (by decide) q1019 dX0_digit_11 hf0 rfl ?_
    refine x_iload_n dX0_digit_14 rfl ?_
    refine x_callV (ci := 6) (T := TJ2) (N := 3) (As := [iv (a)]) 1 (fun l => c_J2_get l G _ 2 mo ea (S.1 2) 2 cap fe (D 1) a hf1 hf2 (by first | assumption | omega) (by first | assumption | omega)) q2235 q612 q3307 q140 q613 (by decide +kernel) (by decide) (by decide) hf1 rfl rfl rfl (by first | decide | (simp [Value.category, iv, jv, va_rf]; done)) dX0_digit_15 (Nat.zero_le _) (Nat.zero_le _) (fun v_ h_ hv_ => ?_)
    obtain ⟨rfl, rfl⟩ := hv_
    refine x_jo (hp2 _ (by omega)) ?_
    refine x_castS (ci := 3) (T := TX3) (N := 3) q1667 (hn.1) rfl dX0_digit_18 ?_
    refine x_callV (ci := 3) (T := TX3) (N := 3) (As := []) 0 (fun l => c_X3_length l G _ 2 (Tx (a).toNat) (S.2 5 a) o 2 (Va (a).toNat) 0 0 2 ((S.2 3 a).toNat) (fun j => S.2 4 (8 * a + (j : Int))) (A (a).toNat) (hn.1) (hn.2.1) (hn.2.2)) q2244 q2245 q2246 q186 q2247 (by decide +kernel) (by decide) (by decide) (hn.1) rfl rfl rfl (by first | decide | (simp [Value.category, iv, jv, va_rf]; done)) dX0_digit_21 (Nat.zero_le _) (Nat.zero_le _) (fun v_ h_ hv_ => ?_)
    obtain ⟨rfl, rfl⟩ := hv_
    refine x_iconst dX0_digit_24 ?_
    refine x_isub dX0_digit_25 ?_
    refine x_callS (As := [iv (i), iv (0), iv (((((S.2 3 a).toNat) : Int)) - 1)]) 3 (fun l => c_X0_in l G _  i 0 (((((S.2 3 a).toNat) : Int)) - 1) (by first | assumption | omega) (by first | assumption | omega) (by first | assumption | omega)) q1078 q1079 q137 q1080 (by decide +kernel) (by decide) (by decide) rfl rfl (by first | decide | (simp [Value.category, iv, jv, va_rf]; done)) dX0_digit_26 (Nat.zero_le _) (Nat.zero_le _) (fun v_ h_ hv_ => ?_)
    obtain ⟨rfl, rfl⟩ := hv_
    refine x_ifb_eq 50 dX0_digit_29 rfl (fun c_29 => ?_) (fun c_29 => ?_)
    · refine x_bipush dX0_digit_50 ?_
      exact x_iret rfl ⟨ri (by rw [if_neg (by simp; simp at c_29; omega)]), rfl⟩ dX0_digit_52
    · have h9 : 0 ≤ i ∧ i < S.2 3 a := by simp at c_29; omega
      refine x_aload_n dX0_digit_32 rfl ?_
      refine x_get (C := RX0) (T := TX0) (N := 18) (ci := 0) 1 in_X0 rfl (by decide) q1019 dX0_digit_33 hf0 rfl ?_
      refine x_iload_n dX0_digit_36 rfl ?_
      refine x_callV (ci := 6) (T := TJ2) (N := 3) (As := [iv (a)]) 1 (fun l => c_J2_get l G _ 2 mo ea (S.1 2) 2 cap fe (D 1) a hf1 hf2 (by first | assumption | omega) (by first | assumption | omega)) q2235 q612 q3307 q140 q613 (by decide +kernel) (by decide) (by decide) hf1 rfl rfl rfl (by first | decide | (simp [Value.category, iv, jv, va_rf]; done)) dX0_digit_37 (Nat.zero_le _) (Nat.zero_le _) (fun v_ h_ hv_ => ?_)
      obtain ⟨rfl, rfl⟩ := hv_
      refine x_jo (hp2 _ (by omega)) ?_
      refine x_castS (ci := 3) (T := TX3) (N := 3) q1667 (hn.1) rfl dX0_digit_40 ?_
      refine x_iload_n dX0_digit_43 rfl ?_
      refine x_callV (ci := 3) (T := TX3) (N := 3) (As := [iv (i)]) 1 (fun l => c_X3_digit l G _ 2 (Tx (a).toNat) (S.2 5 a) o 2 (Va (a).toNat) 0 0 2 ((S.2 3 a).toNat) (fun j => S.2 4 (8 * a + (j : Int))) 2 D li di go mn wi bu 2 (fun j => S.2 9 (j : Int)) (A (a).toNat) i (hn.1) (hn.2.1) (hn.2.2) hf0 hf3 (by omega) (by omega) (np_l hp0 h7 h9)) q2445 q2287 q2288 q186 q2289 (by decide +kernel) (by decide) (by decide) (hn.1) rfl rfl rfl (by first | decide | (simp [Value.category, iv, jv, va_rf]; done)) dX0_digit_44 (Nat.zero_le _) (Nat.zero_le _) (fun v_ h_ hv_ => ?_)
      obtain ⟨rfl, rfl⟩ := hv_
      refine x_goto 52 dX0_digit_47 rfl ?_
      exact x_iret rfl ⟨ri (by rw [if_pos (by simp; omega)]; exact np_d hp0 h7 h9), rfl⟩ dX0_digit_52
