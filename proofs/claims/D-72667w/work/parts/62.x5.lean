/-! CLASS 5: ahead -/
set_option maxRecDepth 100000
abbrev q_X0_ahead (G : Gw) (h : Hp) (S : Ms) (D : Nat → Nat) (li : Int) (di : Int) (go : Int) (mn : Option Nat) (wi : Int) (bu : Int) (mo : Int) (ea : Nat) (cap : Nat) (fe : Nat → Option Nat) (A : Nat → Nat) (Tx : Nat → Nat) (Va : Nat → Nat) (o : Nat) (a : Int) (m : Int) : Option Value → Hp → Prop := fun v_ h_ => v_ = some (iv (f_place S a m)) ∧ h_ = h
set_option maxHeartbeats 4000000 in
theorem c_X0_ahead (l : Launch) (G : Gw) (h : Hp) (S : Ms) (D : Nat → Nat) (li : Int) (di : Int) (go : Int) (mn : Option Nat) (wi : Int) (bu : Int) (mo : Int) (ea : Nat) (cap : Nat) (fe : Nat → Option Nat) (A : Nat → Nat) (Tx : Nat → Nat) (Va : Nat → Nat) (o : Nat) (a : Int) (m : Int) (hf0 : h o = some (2, ob 0 [.ref (D 0), .ref (D 1), iv (li), iv (di), iv (go), .ref (D 5), .ref (D 6), .ref (D 7), .ref (D 8), .ref (D 9), .ref (D 10), .ref (D 11), .ref (D 12), va_rf (mn), iv (wi), iv (bu), .ref (D 16), .ref (D 17)])) (hf1 : h (D 1) = some (2, ob 6 [iv (mo), .ref (ea), iv (S.1 2)])) (hf2 : h ea = some (2, ra G cap fe)) (hf3 : h (D 0) = some (2, ia G 26 (fun j => S.2 9 (j : Int)))) (hp0 : Wf S) (hp1 : NP G h o A Tx Va S) (hp2 : ∀ k : Nat, (k : Int) < S.1 2 → fe k = some (A k)) (hp3 : S.1 2 ≤ cap ∧ cap ≤ 65536) (hp4 : 0 ≤ a ∧ a < S.1 2) (hp5 : 0 ≤ m ∧ m ≤ S.2 3 a) : Mt l G yX0_ahead cX0_ahead 8 (some .int) 6 [.ref (o), iv (a), iv (m)] (h) (q_X0_ahead G h S D li di go mn wi bu mo ea cap fe A Tx Va o a m) (0) (0) := by
  refine Mt.of (lv := [(0, .ref (o)), (1, iv (a)), (2, iv (m))]) (by decide +kernel) (Nat.le_of_ble_eq_true rfl) rfl (fun X => ?_)
  have h2 := hp0.nm
  have h8 := hp0.len hp4
  have hA : ((a.toNat : Nat) : Int) = a := by omega
  have hn := hp1 a.toNat (by omega)
  rw [hA] at hn
  have h5 := hp0.use hp4
  refine x_aload_n dX0_ahead_0 rfl ?_
  refine x_get (C := RX0) (T := TX0) (N := 18) (ci := 0) 1 in_X0 rfl (by decide) q1019 dX0_ahead_1 hf0 rfl ?_
  refine x_iload_n dX0_ahead_4 rfl ?_
  refine x_callV (ci := 6) (T := TJ2) (N := 3) (As := [iv (a)]) 1 (fun l => c_J2_get l G _ 2 mo ea (S.1 2) 2 cap fe (D 1) a hf1 hf2 (by first | assumption | omega) (by first | assumption | omega)) q2235 q612 q3307 q140 q613 (by decide +kernel) (by decide) (by decide) hf1 rfl rfl rfl (by first | decide | (simp [Value.category, iv, jv, va_rf]; done)) dX0_ahead_5 (Nat.zero_le _) (Nat.zero_le _) (fun v_ h_ hv_ => ?_)
  obtain ⟨rfl, e_⟩ := hv_
  replace e_ := e_.symm
  subst e_
  refine x_jo (hp2 _ (by omega)) ?_
  refine x_castS (ci := 3) (T := TX3) (N := 3) q1667 (hn.1) rfl dX0_ahead_8 ?_
  refine x_astore_n (lv' := [(0, _), (1, _), (2, _), (3, _)]) dX0_ahead_11 rfl (by decide) ?_
  refine x_iconst dX0_ahead_12 ?_
  refine x_istore (lv' := [(0, _), (1, _), (2, _), (3, _), (4, _)]) dX0_ahead_13 rfl (by decide) ?_
  refine x_iconst dX0_ahead_15 ?_
  refine x_istore (lv' := [(0, _), (1, _), (2, _), (3, _), (4, _), (5, _)]) dX0_ahead_16 rfl (by decide) ?_
  have L18 : ∀ (n18 : Nat) (k : Nat), (S.1 2 - k) < (n18 : Int) → ((k : Int) ≤ S.1 2) → V G X cX0_ahead 8 yX0_ahead (some .int) 6 (q_X0_ahead G h S D li di go mn wi bu mo ea cap fe A Tx Va o a m) (0) (0) 18 [(0, .ref (o)), (1, iv (a)), (2, iv (m)), (3, .ref (A (a).toNat)), (4, iv (cntB (fun k => f_begins S a m k && f_ahead S k a) k)), (5, iv ((k : Int)))] [] (h) (0) (0) := by
    intro n18
    induction n18 with
    | zero =>
      intro k hm hk
      exact absurd hm (by omega)
    | succ n18 ih18 =>
      intro k hm18 hk
      refine x_iload dX0_ahead_18 rfl ?_
      refine x_aload_n dX0_ahead_20 rfl ?_
      refine x_get (C := RX0) (T := TX0) (N := 18) (ci := 0) 1 in_X0 rfl (by decide) q1019 dX0_ahead_21 hf0 rfl ?_
      refine x_callV (ci := 6) (T := TJ2) (N := 3) (As := []) 0 (fun l => c_J2_size l G _ 2 mo ea (S.1 2) (D 1) hf1) q1675 q556 q3304 q140 q557 (by decide +kernel) (by decide) (by decide) hf1 rfl rfl rfl (by first | decide | (simp [Value.category, iv, jv, va_rf]; done)) dX0_ahead_24 (Nat.zero_le _) (Nat.zero_le _) (fun v_ h_ hv_ => ?_)
      obtain ⟨rfl, e_⟩ := hv_
      replace e_ := e_.symm
      subst e_
      refine x_icmp_ge 118 dX0_ahead_27 rfl (by omega) (by omega) (fun c_27 => ?_) (fun c_27 => ?_)
      · refine x_iload dX0_ahead_118 rfl ?_
        exact x_iret rfl ⟨ri (by rw [f_place, show (S.1 2).toNat = k by omega]), rfl⟩ dX0_ahead_120
      · have hkn := hp1 k (by omega)
        have h6 := hp0.use (k := (k : Int)) (by omega)
        have h7 := f_cm_R (b := (k : Int)) hp0 hp4
        refine x_aload_n dX0_ahead_30 rfl ?_
        refine x_get (C := RX0) (T := TX0) (N := 18) (ci := 0) 1 in_X0 rfl (by decide) q1019 dX0_ahead_31 hf0 rfl ?_
        refine x_iload dX0_ahead_34 rfl ?_
        refine x_callV (ci := 6) (T := TJ2) (N := 3) (As := [iv ((k : Int))]) 1 (fun l => c_J2_get l G _ 2 mo ea (S.1 2) 2 cap fe (D 1) ((k : Int)) hf1 hf2 (by first | assumption | omega) (by first | assumption | omega)) q2235 q612 q3307 q140 q613 (by decide +kernel) (by decide) (by decide) hf1 rfl rfl rfl (by first | decide | (simp [Value.category, iv, jv, va_rf]; done)) dX0_ahead_36 (Nat.zero_le _) (Nat.zero_le _) (fun v_ h_ hv_ => ?_)
        obtain ⟨rfl, e_⟩ := hv_
        replace e_ := e_.symm
        subst e_
        refine x_jo (by rw [Int.toNat_natCast]; exact hp2 k (by omega)) ?_
        refine x_castS (ci := 3) (T := TX3) (N := 3) q1667 (hkn.1) rfl dX0_ahead_39 ?_
        refine x_astore (lv' := [(0, _), (1, _), (2, _), (3, _), (4, _), (5, _), (6, _)]) dX0_ahead_42 rfl (by decide) ?_
        have J95 : V G X cX0_ahead 8 yX0_ahead (some .int) 6 (q_X0_ahead G h S D li di go mn wi bu mo ea cap fe A Tx Va o a m) (0) (0) 95 [(0, .ref (o)), (1, iv (a)), (2, iv (m)), (3, .ref (A (a).toNat)), (4, iv (cntB (fun k => f_begins S a m k && f_ahead S k a) k)), (5, iv ((k : Int))), (6, .ref (A k))] [iv (bI (f_begins S a m k && f_ahead S k a))] (h) (0) (0) := by
          refine x_istore (lv' := [(0, _), (1, _), (2, _), (3, _), (4, _), (5, _), (6, _), (7, _)]) dX0_ahead_95 rfl (by decide) ?_
          refine x_iload dX0_ahead_97 rfl ?_
          have J109 : V G X cX0_ahead 8 yX0_ahead (some .int) 6 (q_X0_ahead G h S D li di go mn wi bu mo ea cap fe A Tx Va o a m) (0) (0) 109 [(0, .ref (o)), (1, iv (a)), (2, iv (m)), (3, .ref (A (a).toNat)), (4, iv (cntB (fun k => f_begins S a m k && f_ahead S k a) k)), (5, iv ((k : Int))), (6, .ref (A k)), (7, iv (bI (f_begins S a m k && f_ahead S k a)))] [iv (bI (f_begins S a m k && f_ahead S k a)), iv (cntB (fun k => f_begins S a m k && f_ahead S k a) k)] (h) (0) (0) := by
            refine x_iadd dX0_ahead_109 ?_
            refine x_istore (lv' := [(0, _), (1, _), (2, _), (3, _), (4, _), (5, _), (6, _), (7, _)]) dX0_ahead_110 rfl (by decide) ?_
            refine x_iinc (lv' := [(0, _), (1, _), (2, _), (3, _), (4, _), (5, _), (6, _), (7, _)]) dX0_ahead_112 rfl rfl (by decide) ?_
            refine x_goto 18 dX0_ahead_115 rfl ?_
            refine x_lvp [0, 1, 2, 3, 4, 5] (lv' := [(0, _), (1, _), (2, _), (3, _), (4, _), (5, _)]) rfl ?_
            exact ih18 (k + 1) (by omega) (by omega)
          refine x_iload dX0_ahead_99 rfl ?_
          refine x_ifb_eq 108 dX0_ahead_101 rfl (fun c_101 => ?_) (fun c_101 => ?_)
          · refine x_iconst dX0_ahead_108 ?_
            exact x_ji (by simp_all [bI]) J109
          · refine x_iconst dX0_ahead_104 ?_
            refine x_goto 109 dX0_ahead_105 rfl ?_
            exact x_ji (by simp_all [bI]) J109
        refine x_iload dX0_ahead_44 rfl ?_
        refine x_iload_n dX0_ahead_46 rfl ?_
        refine x_icmp_eq 94 dX0_ahead_47 rfl (by omega) (by omega) (fun c_47 => ?_) (fun c_47 => ?_)
        · refine x_iconst dX0_ahead_94 ?_
          exact x_jf (by have hb := f_begins_cm hp0 hp4 (b := (k : Int)) (by omega) hp5; have hc := cmn_np hp0 hp4 (b := (k : Int)) (by omega); unfold f_ahead; simp_all; try omega) J95
        · refine x_aload_n dX0_ahead_50 rfl ?_
          refine x_aload dX0_ahead_51 rfl ?_
          refine x_callV (ci := 3) (T := TX3) (N := 3) (As := [.ref (A k)]) 1 (fun l => c_X3_common l G _ 2 (Tx (a).toNat) (S.2 5 a) o 2 (Va (a).toNat) 0 0 2 ((S.2 3 a).toNat) (fun j => S.2 4 (8 * a + (j : Int))) 2 (Tx k) (S.2 5 (k : Int)) 2 (Va k) 0 0 2 ((S.2 3 (k : Int)).toNat) (fun j => S.2 4 (8 * (k : Int) + (j : Int))) 2 D li di go mn wi bu 2 (fun j => S.2 9 (j : Int)) (A (a).toNat) (A k) (hn.1) (hn.2.1) (hn.2.2) (hkn.1) (hkn.2.1) (hkn.2.2) hf0 hf3 (np_ls hp0 hp4) (np_ls hp0 (by omega)) (by omega) (by have := hp0.len (k := (k : Int)) (by omega); omega) (np_dg hp0)) q2345 q2283 q2284 q186 q2285 (by decide +kernel) (by decide) (by decide) (hn.1) rfl rfl rfl (by first | decide | (simp [Value.category, iv, jv, va_rf]; done)) dX0_ahead_53 (Nat.zero_le _) (Nat.zero_le _) (fun v_ h_ hv_ => ?_)
          obtain ⟨rfl, e_⟩ := hv_
          replace e_ := e_.symm
          subst e_
          refine x_iload_n dX0_ahead_56 rfl ?_
          refine x_icmp_lt 94 dX0_ahead_57 rfl (by rw [cmn_np hp0 hp4 (by omega)]; omega) (by omega) (fun c_57 => ?_) (fun c_57 => ?_)
          · refine x_iconst dX0_ahead_94 ?_
            exact x_jf (by have hb := f_begins_cm hp0 hp4 (b := (k : Int)) (by omega) hp5; have hc := cmn_np hp0 hp4 (b := (k : Int)) (by omega); unfold f_ahead; simp_all; try omega) J95
          · refine x_aload dX0_ahead_60 rfl ?_
            refine x_getN (C := RX3) (T := TX3) (N := 3) (ci := 3) 1 in_X3 rfl (by decide) q1697 dX0_ahead_62 (hkn.1) rfl ?_
            refine x_aload_n dX0_ahead_65 rfl ?_
            refine x_getN (C := RX3) (T := TX3) (N := 3) (ci := 3) 1 in_X3 rfl (by decide) q1697 dX0_ahead_66 (hn.1) rfl ?_
            refine x_icmp_gt 90 dX0_ahead_69 rfl (by omega) (by omega) (fun c_69 => ?_) (fun c_69 => ?_)
            · refine x_iconst dX0_ahead_90 ?_
              refine x_goto 95 dX0_ahead_91 rfl ?_
              exact x_jt (by have hb := f_begins_cm hp0 hp4 (b := (k : Int)) (by omega) hp5; have hc := cmn_np hp0 hp4 (b := (k : Int)) (by omega); unfold f_ahead; simp_all; try omega) J95
            · refine x_aload dX0_ahead_72 rfl ?_
              refine x_getN (C := RX3) (T := TX3) (N := 3) (ci := 3) 1 in_X3 rfl (by decide) q1697 dX0_ahead_74 (hkn.1) rfl ?_
              refine x_aload_n dX0_ahead_77 rfl ?_
              refine x_getN (C := RX3) (T := TX3) (N := 3) (ci := 3) 1 in_X3 rfl (by decide) q1697 dX0_ahead_78 (hn.1) rfl ?_
              refine x_icmp_ne 94 dX0_ahead_81 rfl (by omega) (by omega) (fun c_81 => ?_) (fun c_81 => ?_)
              · refine x_iconst dX0_ahead_94 ?_
                exact x_jf (by have hb := f_begins_cm hp0 hp4 (b := (k : Int)) (by omega) hp5; have hc := cmn_np hp0 hp4 (b := (k : Int)) (by omega); unfold f_ahead; simp_all; try omega) J95
              · refine x_iload dX0_ahead_84 rfl ?_
                refine x_iload_n dX0_ahead_86 rfl ?_
                refine x_icmp_ge 94 dX0_ahead_87 rfl (by omega) (by omega) (fun c_87 => ?_) (fun c_87 => ?_)
                · refine x_iconst dX0_ahead_94 ?_
                  exact x_jf (by have hb := f_begins_cm hp0 hp4 (b := (k : Int)) (by omega) hp5; have hc := cmn_np hp0 hp4 (b := (k : Int)) (by omega); unfold f_ahead; simp_all; try omega) J95
                · refine x_iconst dX0_ahead_90 ?_
                  refine x_goto 95 dX0_ahead_91 rfl ?_
                  exact x_jt (by have hb := f_begins_cm hp0 hp4 (b := (k : Int)) (by omega) hp5; have hc := cmn_np hp0 hp4 (b := (k : Int)) (by omega); unfold f_ahead; simp_all; try omega) J95
  exact L18 ((S.1 2).toNat + 1) (0) (by omega) (by omega)
