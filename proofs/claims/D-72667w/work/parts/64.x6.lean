/-! CLASS 6: presses -/
theorem minZ_s (m : Int) (f : Int → Int) (n : Nat) : minZ m f (n + 1) = if f n < minZ m f n then f n else minZ m f n := rfl
set_option maxRecDepth 100000
abbrev q_X0_presses (G : Gw) (h : Hp) (S : Ms) (D : Nat → Nat) (li : Int) (di : Int) (go : Int) (mn : Option Nat) (wi : Int) (bu : Int) (mo : Int) (ea : Nat) (cap : Nat) (fe : Nat → Option Nat) (A : Nat → Nat) (Tx : Nat → Nat) (Va : Nat → Nat) (o : Nat) (a : Int) : Option Value → Hp → Prop := fun v_ h_ => v_ = some (iv (f_presses S a)) ∧ h_ = h
set_option maxHeartbeats 4000000 in
theorem c_X0_presses (l : Launch) (G : Gw) (h : Hp) (S : Ms) (D : Nat → Nat) (li : Int) (di : Int) (go : Int) (mn : Option Nat) (wi : Int) (bu : Int) (mo : Int) (ea : Nat) (cap : Nat) (fe : Nat → Option Nat) (A : Nat → Nat) (Tx : Nat → Nat) (Va : Nat → Nat) (o : Nat) (a : Int) (hf0 : h o = some (2, ob 0 [.ref (D 0), .ref (D 1), iv (li), iv (di), iv (go), .ref (D 5), .ref (D 6), .ref (D 7), .ref (D 8), .ref (D 9), .ref (D 10), .ref (D 11), .ref (D 12), va_rf (mn), iv (wi), iv (bu), .ref (D 16), .ref (D 17)])) (hf1 : h (D 1) = some (2, ob 6 [iv (mo), .ref (ea), iv (S.1 2)])) (hf2 : h ea = some (2, ra G cap fe)) (hf3 : h (D 0) = some (2, ia G 26 (fun j => S.2 9 (j : Int)))) (hp0 : Wf S) (hp1 : NP G h o A Tx Va S) (hp2 : ∀ k : Nat, (k : Int) < S.1 2 → fe k = some (A k)) (hp3 : S.1 2 ≤ cap ∧ cap ≤ 65536) (hp4 : 0 ≤ a ∧ a < S.1 2) : Mt l G yX0_presses cX0_presses 4 (some .int) 7 [.ref (o), iv (a)] (h) (q_X0_presses G h S D li di go mn wi bu mo ea cap fe A Tx Va o a) (0) (0) := by
  refine Mt.of (lv := [(0, .ref (o)), (1, iv (a))]) (by decide +kernel) (Nat.le_of_ble_eq_true rfl) rfl (fun X => ?_)
  have h2 := hp0.nm
  have h8 := hp0.len hp4
  have hA : ((a.toNat : Nat) : Int) = a := by omega
  have hn := hp1 a.toNat (by omega)
  rw [hA] at hn
  refine x_ldcw 268435456 q2351 dX0_presses_0 rfl ?_
  refine x_istore_n (lv' := [(0, _), (1, _), (2, _)]) dX0_presses_3 rfl (by decide) ?_
  refine x_iconst dX0_presses_4 ?_
  refine x_istore_n (lv' := [(0, _), (1, _), (2, _), (3, _)]) dX0_presses_5 rfl (by decide) ?_
  have L6 : ∀ (n6 : Nat) (m : Nat), (S.2 3 a + 1 - m) < (n6 : Int) → ((m : Int) ≤ S.2 3 a + 1) → V G X cX0_presses 4 yX0_presses (some .int) 7 (q_X0_presses G h S D li di go mn wi bu mo ea cap fe A Tx Va o a) (0) (0) 6 [(0, .ref (o)), (1, iv (a)), (2, iv (minZ 268435456 (fun m => m + f_place S a m + 1) m)), (3, iv ((m : Int)))] [] (h) (0) (0) := by
    intro n6
    induction n6 with
    | zero =>
      intro m hm hm
      exact absurd hm (by omega)
    | succ n6 ih6 =>
      intro m hm6 hm
      have h5 := minZ_PR (a := a) hp0 m
      have h6 := f_place_R (a := a) (m := m) hp0
      refine x_iload_n dX0_presses_6 rfl ?_
      refine x_aload_n dX0_presses_7 rfl ?_
      refine x_get (C := RX0) (T := TX0) (N := 18) (ci := 0) 1 in_X0 rfl (by decide) q1019 dX0_presses_8 hf0 rfl ?_
      refine x_iload_n dX0_presses_11 rfl ?_
      refine x_callV (ci := 6) (T := TJ2) (N := 3) (As := [iv (a)]) 1 (fun l => c_J2_get l G _ 2 mo ea (S.1 2) 2 cap fe (D 1) a hf1 hf2 (by first | assumption | omega) (by first | assumption | omega)) q2235 q612 q3307 q140 q613 (by decide +kernel) (by decide) (by decide) hf1 rfl rfl rfl (by first | decide | (simp [Value.category, iv, jv, va_rf]; done)) dX0_presses_12 (Nat.zero_le _) (Nat.zero_le _) (fun v_ h_ hv_ => ?_)
      obtain ⟨rfl, e_⟩ := hv_
      replace e_ := e_.symm
      subst e_
      refine x_jo (hp2 _ (by omega)) ?_
      refine x_castS (ci := 3) (T := TX3) (N := 3) q1667 (hn.1) rfl dX0_presses_15 ?_
      refine x_callV (ci := 3) (T := TX3) (N := 3) (As := []) 0 (fun l => c_X3_length l G _ 2 (Tx (a).toNat) (S.2 5 a) o 2 (Va (a).toNat) 0 0 2 ((S.2 3 a).toNat) (fun j => S.2 4 (8 * a + (j : Int))) (A (a).toNat) (hn.1) (hn.2.1) (hn.2.2)) q2244 q2245 q2246 q186 q2247 (by decide +kernel) (by decide) (by decide) (hn.1) rfl rfl rfl (by first | decide | (simp [Value.category, iv, jv, va_rf]; done)) dX0_presses_18 (Nat.zero_le _) (Nat.zero_le _) (fun v_ h_ hv_ => ?_)
      obtain ⟨rfl, e_⟩ := hv_
      replace e_ := e_.symm
      subst e_
      refine x_icmp_gt 45 dX0_presses_21 rfl (by omega) (by omega) (fun c_21 => ?_) (fun c_21 => ?_)
      · refine x_iload_n dX0_presses_45 rfl ?_
        exact x_iret rfl ⟨ri (by rw [f_presses, show (S.2 3 a + 1).toNat = m by omega]), rfl⟩ dX0_presses_46
      · refine x_iload_n dX0_presses_24 rfl ?_
        refine x_iload_n dX0_presses_25 rfl ?_
        refine x_aload_n dX0_presses_26 rfl ?_
        refine x_iload_n dX0_presses_27 rfl ?_
        refine x_iload_n dX0_presses_28 rfl ?_
        refine x_callV (ci := 0) (T := TX0) (N := 18) (As := [iv (a), iv ((m : Int))]) 2 (fun l => c_X0_ahead l G _ _ _ li di go mn wi bu mo ea cap fe _ _ _ o a ((m : Int)) hf0 hf1 hf2 hf3 (hp0) (hp1) (hp2) (hp3) (hp4) (by omega)) q2352 q2354 qs42 q137 q2355 (by decide +kernel) (by decide) (by decide) hf0 rfl rfl rfl (by first | decide | (simp [Value.category, iv, jv, va_rf]; done)) dX0_presses_29 (Nat.zero_le _) (Nat.zero_le _) (fun v_ h_ hv_ => ?_)
        obtain ⟨rfl, e_⟩ := hv_
        replace e_ := e_.symm
        subst e_
        refine x_iadd dX0_presses_32 ?_
        refine x_iconst dX0_presses_33 ?_
        refine x_iadd dX0_presses_34 ?_
        refine x_mmin q2356 (by omega) (by omega) (by decide) (by first | decide | (simp [Value.category, iv, jv, va_rf]; done)) dX0_presses_35 ?_
        refine x_ji (show min (minZ 268435456 (fun m => m + f_place S a m + 1) m) ((((m : Int)) + (f_place _ a ((m : Int)))) + 1) = minZ 268435456 (fun m => m + f_place S a m + 1) (m + 1) from by rw [minZ_s]; split <;> omega) ?_
        refine x_istore_n (lv' := [(0, _), (1, _), (2, _), (3, _)]) dX0_presses_38 rfl (by decide) ?_
        refine x_iinc (lv' := [(0, _), (1, _), (2, _), (3, _)]) dX0_presses_39 rfl rfl (by decide) ?_
        refine x_goto 6 dX0_presses_42 rfl ?_
        exact ih6 (m + 1) (by omega) (by omega)
  exact L6 ((S.2 3 a + 1).toNat + 1) (0) (by omega) (by omega)
