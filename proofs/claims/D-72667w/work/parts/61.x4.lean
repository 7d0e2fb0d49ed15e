/-! CLASS 4: telling -/
theorem maxZ_s (m : Int) (f : Int → Int) (n : Nat) : maxZ m f (n + 1) = if maxZ m f n < f n then f n else maxZ m f n := rfl
theorem f_cm_R {S : Ms} (h : Wf S) {a b : Int} (ha : 0 ≤ a ∧ a < S.1 2) : f_cm S a b ≤ 8 := by
  have l := h.len ha
  have g := cmnF_ge (fun j => f_code S a j) (fun j => f_code S b j) (min (S.2 3 a).toNat (S.2 3 b).toNat) 0
  unfold f_cm; omega
theorem np_dg {S : Ms} (h : Wf S) : ∀ j : Nat, j < 26 → 0 ≤ (fun j : Nat => S.2 9 (j : Int)) j ∧ (fun j : Nat => S.2 9 (j : Int)) j ≤ 9 := fun j hj => by
  have := h.2.2 j (by omega) (by omega)
  exact ⟨by show 0 ≤ S.2 9 j; omega, this.2⟩
theorem maxZ_cm {S : Ms} {a : Int} (h : Wf S) (ha : 0 ≤ a ∧ a < S.1 2) (k : Nat) : 0 ≤ maxZ 0 (fun k => if k = a then 0 else (f_cm S a k : Int) + 1) k ∧ maxZ 0 (fun k => if k = a then 0 else (f_cm S a k : Int) + 1) k ≤ 9 := by
  refine ⟨(maxZ_ge _ _ k).1, ?_⟩
  rcases maxZ_is 0 (fun k => if k = a then 0 else (f_cm S a k : Int) + 1) k with u | ⟨j, u, v⟩
  · omega
  · have := f_cm_R (b := (j : Int)) h ha
    rw [v]; split <;> omega
set_option maxRecDepth 100000
abbrev q_X0_telling (G : Gw) (h : Hp) (S : Ms) (D : Nat → Nat) (li : Int) (di : Int) (go : Int) (mn : Option Nat) (wi : Int) (bu : Int) (mo : Int) (ea : Nat) (cap : Nat) (fe : Nat → Option Nat) (A : Nat → Nat) (Tx : Nat → Nat) (Va : Nat → Nat) (o : Nat) (a : Int) : Option Value → Hp → Prop := fun v_ h_ => v_ = some (iv (f_telling S a)) ∧ h_ = h
set_option maxHeartbeats 4000000 in
theorem c_X0_telling (l : Launch) (G : Gw) (h : Hp) (S : Ms) (D : Nat → Nat) (li : Int) (di : Int) (go : Int) (mn : Option Nat) (wi : Int) (bu : Int) (mo : Int) (ea : Nat) (cap : Nat) (fe : Nat → Option Nat) (A : Nat → Nat) (Tx : Nat → Nat) (Va : Nat → Nat) (o : Nat) (a : Int) (hf0 : h o = some (2, ob 0 [.ref (D 0), .ref (D 1), iv (li), iv (di), iv (go), .ref (D 5), .ref (D 6), .ref (D 7), .ref (D 8), .ref (D 9), .ref (D 10), .ref (D 11), .ref (D 12), va_rf (mn), iv (wi), iv (bu), .ref (D 16), .ref (D 17)])) (hf1 : h (D 1) = some (2, ob 6 [iv (mo), .ref (ea), iv (S.1 2)])) (hf2 : h ea = some (2, ra G cap fe)) (hf3 : h (D 0) = some (2, ia G 26 (fun j => S.2 9 (j : Int)))) (hp0 : Wf S) (hp1 : NP G h o A Tx Va S) (hp2 : ∀ k : Nat, (k : Int) < S.1 2 → fe k = some (A k)) (hp3 : S.1 2 ≤ cap ∧ cap ≤ 65536) (hp4 : 0 ≤ a ∧ a < S.1 2) : Mt l G yX0_telling cX0_telling 4 (some .int) 6 [.ref (o), iv (a)] (h) (q_X0_telling G h S D li di go mn wi bu mo ea cap fe A Tx Va o a) (0) (0) := by
  refine Mt.of (lv := [(0, .ref (o)), (1, iv (a))]) (by decide +kernel) (Nat.le_of_ble_eq_true rfl) rfl (fun X => ?_)
  have h2 := hp0.nm
  have h8 := hp0.len hp4
  have hA : ((a.toNat : Nat) : Int) = a := by omega
  have hn := hp1 a.toNat (by omega)
  rw [hA] at hn
  refine x_iconst dX0_telling_0 ?_
  refine x_istore_n (lv' := [(0, _), (1, _), (2, _)]) dX0_telling_1 rfl (by decide) ?_
  refine x_iconst dX0_telling_2 ?_
  refine x_istore_n (lv' := [(0, _), (1, _), (2, _), (3, _)]) dX0_telling_3 rfl (by decide) ?_
  have L4 : ∀ (n4 : Nat) (k : Nat), (S.1 2 - k) < (n4 : Int) → ((k : Int) ≤ S.1 2) → V G X cX0_telling 4 yX0_telling (some .int) 6 (q_X0_telling G h S D li di go mn wi bu mo ea cap fe A Tx Va o a) (0) (0) 4 [(0, .ref (o)), (1, iv (a)), (2, iv (maxZ 0 (fun k => if k = a then 0 else (f_cm S a k : Int) + 1) k)), (3, iv ((k : Int)))] [] (h) (0) (0) := by
    intro n4
    induction n4 with
    | zero =>
      intro k hm hk
      exact absurd hm (by omega)
    | succ n4 ih4 =>
      intro k hm4 hk
      have hR := maxZ_cm hp0 hp4 k
      refine x_iload_n dX0_telling_4 rfl ?_
      refine x_aload_n dX0_telling_5 rfl ?_
      refine x_get (C := RX0) (T := TX0) (N := 18) (ci := 0) 1 in_X0 rfl (by decide) q1019 dX0_telling_6 hf0 rfl ?_
      refine x_callV (ci := 6) (T := TJ2) (N := 3) (As := []) 0 (fun l => c_J2_size l G _ 2 mo ea (S.1 2) (D 1) hf1) q1675 q556 q3304 q140 q557 (by decide +kernel) (by decide) (by decide) hf1 rfl rfl rfl (by first | decide | (simp [Value.category, iv, jv, va_rf]; done)) dX0_telling_9 (Nat.zero_le _) (Nat.zero_le _) (fun v_ h_ hv_ => ?_)
      obtain ⟨rfl, e_⟩ := hv_
      replace e_ := e_.symm
      subst e_
      refine x_icmp_ge 62 dX0_telling_12 rfl (by omega) (by omega) (fun c_12 => ?_) (fun c_12 => ?_)
      · refine x_iload_n dX0_telling_62 rfl ?_
        refine x_aload_n dX0_telling_63 rfl ?_
        refine x_get (C := RX0) (T := TX0) (N := 18) (ci := 0) 1 in_X0 rfl (by decide) q1019 dX0_telling_64 hf0 rfl ?_
        refine x_iload_n dX0_telling_67 rfl ?_
        refine x_callV (ci := 6) (T := TJ2) (N := 3) (As := [iv (a)]) 1 (fun l => c_J2_get l G _ 2 mo ea (S.1 2) 2 cap fe (D 1) a hf1 hf2 (by first | assumption | omega) (by first | assumption | omega)) q2235 q612 q3307 q140 q613 (by decide +kernel) (by decide) (by decide) hf1 rfl rfl rfl (by first | decide | (simp [Value.category, iv, jv, va_rf]; done)) dX0_telling_68 (Nat.zero_le _) (Nat.zero_le _) (fun v_ h_ hv_ => ?_)
        obtain ⟨rfl, e_⟩ := hv_
        replace e_ := e_.symm
        subst e_
        refine x_jo (hp2 _ (by omega)) ?_
        refine x_castS (ci := 3) (T := TX3) (N := 3) q1667 (hn.1) rfl dX0_telling_71 ?_
        refine x_callV (ci := 3) (T := TX3) (N := 3) (As := []) 0 (fun l => c_X3_length l G _ 2 (Tx (a).toNat) (S.2 5 a) o 2 (Va (a).toNat) 0 0 2 ((S.2 3 a).toNat) (fun j => S.2 4 (8 * a + (j : Int))) (A (a).toNat) (hn.1) (hn.2.1) (hn.2.2)) q2244 q2245 q2246 q186 q2247 (by decide +kernel) (by decide) (by decide) (hn.1) rfl rfl rfl (by first | decide | (simp [Value.category, iv, jv, va_rf]; done)) dX0_telling_74 (Nat.zero_le _) (Nat.zero_le _) (fun v_ h_ hv_ => ?_)
        obtain ⟨rfl, e_⟩ := hv_
        replace e_ := e_.symm
        subst e_
        refine x_icmp_gt 84 dX0_telling_77 rfl (by omega) (by omega) (fun c_77 => ?_) (fun c_77 => ?_)
        · refine x_iconst dX0_telling_84 ?_
          exact x_iret rfl ⟨ri (by rw [f_telling_cm hp0 hp4, show (S.1 2).toNat = k by omega]; first | (rw [if_pos (by omega)]) | (rw [if_neg (by omega)])), rfl⟩ dX0_telling_85
        · refine x_iload_n dX0_telling_80 rfl ?_
          refine x_goto 85 dX0_telling_81 rfl ?_
          exact x_iret rfl ⟨ri (by rw [f_telling_cm hp0 hp4, show (S.1 2).toNat = k by omega]; first | (rw [if_pos (by omega)]) | (rw [if_neg (by omega)])), rfl⟩ dX0_telling_85
      · have J55 : V G X cX0_telling 4 yX0_telling (some .int) 6 (q_X0_telling G h S D li di go mn wi bu mo ea cap fe A Tx Va o a) (0) (0) 55 [(0, .ref (o)), (1, iv (a)), (2, iv (maxZ 0 (fun k => if k = a then 0 else (f_cm S a k : Int) + 1) k)), (3, iv ((k : Int)))] [iv (maxZ 0 (fun k => if k = a then 0 else (f_cm S a k : Int) + 1) (k + 1))] (h) (0) (0) := by
          refine x_istore_n (lv' := [(0, _), (1, _), (2, _), (3, _)]) dX0_telling_55 rfl (by decide) ?_
          refine x_iinc (lv' := [(0, _), (1, _), (2, _), (3, _)]) dX0_telling_56 rfl rfl (by decide) ?_
          refine x_goto 4 dX0_telling_59 rfl ?_
          exact ih4 (k + 1) (by omega) (by omega)
        refine x_iload_n dX0_telling_15 rfl ?_
        refine x_iload_n dX0_telling_16 rfl ?_
        refine x_icmp_ne 24 dX0_telling_17 rfl (by omega) (by omega) (fun c_17 => ?_) (fun c_17 => ?_)
        · have hkn := hp1 k (by omega)
          refine x_iload_n dX0_telling_24 rfl ?_
          refine x_aload_n dX0_telling_25 rfl ?_
          refine x_get (C := RX0) (T := TX0) (N := 18) (ci := 0) 1 in_X0 rfl (by decide) q1019 dX0_telling_26 hf0 rfl ?_
          refine x_iload_n dX0_telling_29 rfl ?_
          refine x_callV (ci := 6) (T := TJ2) (N := 3) (As := [iv (a)]) 1 (fun l => c_J2_get l G _ 2 mo ea (S.1 2) 2 cap fe (D 1) a hf1 hf2 (by first | assumption | omega) (by first | assumption | omega)) q2235 q612 q3307 q140 q613 (by decide +kernel) (by decide) (by decide) hf1 rfl rfl rfl (by first | decide | (simp [Value.category, iv, jv, va_rf]; done)) dX0_telling_30 (Nat.zero_le _) (Nat.zero_le _) (fun v_ h_ hv_ => ?_)
          obtain ⟨rfl, e_⟩ := hv_
          replace e_ := e_.symm
          subst e_
          refine x_jo (hp2 _ (by omega)) ?_
          refine x_castS (ci := 3) (T := TX3) (N := 3) q1667 (hn.1) rfl dX0_telling_33 ?_
          refine x_aload_n dX0_telling_36 rfl ?_
          refine x_get (C := RX0) (T := TX0) (N := 18) (ci := 0) 1 in_X0 rfl (by decide) q1019 dX0_telling_37 hf0 rfl ?_
          refine x_iload_n dX0_telling_40 rfl ?_
          refine x_callV (ci := 6) (T := TJ2) (N := 3) (As := [iv ((k : Int))]) 1 (fun l => c_J2_get l G _ 2 mo ea (S.1 2) 2 cap fe (D 1) ((k : Int)) hf1 hf2 (by first | assumption | omega) (by first | assumption | omega)) q2235 q612 q3307 q140 q613 (by decide +kernel) (by decide) (by decide) hf1 rfl rfl rfl (by first | decide | (simp [Value.category, iv, jv, va_rf]; done)) dX0_telling_41 (Nat.zero_le _) (Nat.zero_le _) (fun v_ h_ hv_ => ?_)
          obtain ⟨rfl, e_⟩ := hv_
          replace e_ := e_.symm
          subst e_
          refine x_jo (by rw [Int.toNat_natCast]; exact hp2 k (by omega)) ?_
          refine x_castS (ci := 3) (T := TX3) (N := 3) q1667 (hkn.1) rfl dX0_telling_44 ?_
          refine x_callV (ci := 3) (T := TX3) (N := 3) (As := [.ref (A k)]) 1 (fun l => c_X3_common l G _ 2 (Tx (a).toNat) (S.2 5 a) o 2 (Va (a).toNat) 0 0 2 ((S.2 3 a).toNat) (fun j => S.2 4 (8 * a + (j : Int))) 2 (Tx k) (S.2 5 (k : Int)) 2 (Va k) 0 0 2 ((S.2 3 (k : Int)).toNat) (fun j => S.2 4 (8 * (k : Int) + (j : Int))) 2 D li di go mn wi bu 2 (fun j => S.2 9 (j : Int)) (A (a).toNat) (A k) (hn.1) (hn.2.1) (hn.2.2) (hkn.1) (hkn.2.1) (hkn.2.2) hf0 hf3 (np_ls hp0 hp4) (np_ls hp0 (by omega)) (by omega) (by have := hp0.len (k := (k : Int)) (by omega); omega) (np_dg hp0)) q2345 q2283 q2284 q186 q2285 (by decide +kernel) (by decide) (by decide) (hn.1) rfl rfl rfl (by first | decide | (simp [Value.category, iv, jv, va_rf]; done)) dX0_telling_47 (Nat.zero_le _) (Nat.zero_le _) (fun v_ h_ hv_ => ?_)
          obtain ⟨rfl, e_⟩ := hv_
          replace e_ := e_.symm
          subst e_
          refine x_iconst dX0_telling_50 ?_
          refine x_iadd dX0_telling_51 ?_
          refine x_mmax q2346 (by omega) (by rw [cmn_np hp0 hp4 (by omega)]; have := f_cm_R (b := (k : Int)) hp0 hp4; omega) (by decide) (by first | decide | (simp [Value.category, iv, jv, va_rf]; done)) dX0_telling_52 ?_
          exact x_ji (by rw [cmn_np hp0 hp4 (by omega), maxZ_s, if_neg c_17]; split <;> omega) J55
        · refine x_iload_n dX0_telling_20 rfl ?_
          refine x_goto 55 dX0_telling_21 rfl ?_
          exact x_ji (by rw [maxZ_s, if_pos c_17, if_neg (by omega)]) J55
  exact L4 ((S.1 2).toNat + 1) (0) (by omega) (by omega)
