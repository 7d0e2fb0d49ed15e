/-! CLASS 2 -/
/-- how many first places agree -/
def cmnF (f g : Nat → Int) : Nat → Nat → Nat
  | 0, k => k
  | t + 1, k => if f k = g k then cmnF f g t (k + 1) else k
set_option maxRecDepth 100000
abbrev q_X3_common (G : Gw) (h : Hp) (r3 : Nat) (tx : Nat) (us : Int) (o : Nat) (r : Nat) (va : Nat) (hs : Int) (hz : Int) (rb : Nat) (n : Nat) (f : Nat → Int) (s3 : Nat) (ty : Nat) (ut : Int) (sr : Nat) (vb : Nat) (ht : Int) (hu : Int) (sb : Nat) (nb : Nat) (fb : Nat → Int) (ro : Nat) (D : Nat → Nat) (li : Int) (di : Int) (go : Int) (mn : Option Nat) (wi : Int) (bu : Int) (rd : Nat) (dg : Nat → Int) (a : Nat) (b : Nat) : Option Value → Hp → Prop := fun v_ h_ => v_ = some (iv (((cmnF (fun j => dg (f j - 97).toNat) (fun j => dg (fb j - 97).toNat) (min n nb) 0 : Nat) : Int))) ∧ h_ = h
set_option maxHeartbeats 4000000 in
theorem c_X3_common (l : Launch) (G : Gw) (h : Hp) (r3 : Nat) (tx : Nat) (us : Int) (o : Nat) (r : Nat) (va : Nat) (hs : Int) (hz : Int) (rb : Nat) (n : Nat) (f : Nat → Int) (s3 : Nat) (ty : Nat) (ut : Int) (sr : Nat) (vb : Nat) (ht : Int) (hu : Int) (sb : Nat) (nb : Nat) (fb : Nat → Int) (ro : Nat) (D : Nat → Nat) (li : Int) (di : Int) (go : Int) (mn : Option Nat) (wi : Int) (bu : Int) (rd : Nat) (dg : Nat → Int) (a : Nat) (b : Nat) (hf0 : h a = some (r3, ob 3 [.ref (tx), iv (us), .ref (o)])) (hf1 : h tx = some (r, ob 9 [.ref (va), iv (0), iv (hs), iv (hz)])) (hf2 : h va = some (rb, ba G n f)) (hf3 : h b = some (s3, ob 3 [.ref (ty), iv (ut), .ref (o)])) (hf4 : h ty = some (sr, ob 9 [.ref (vb), iv (0), iv (ht), iv (hu)])) (hf5 : h vb = some (sb, ba G nb fb)) (hf6 : h o = some (ro, ob 0 [.ref (D 0), .ref (D 1), iv (li), iv (di), iv (go), .ref (D 5), .ref (D 6), .ref (D 7), .ref (D 8), .ref (D 9), .ref (D 10), .ref (D 11), .ref (D 12), va_rf (mn), iv (wi), iv (bu), .ref (D 16), .ref (D 17)])) (hf7 : h (D 0) = some (rd, ia G 26 dg)) (hp0 : ∀ j : Nat, j < n → 97 ≤ f j ∧ f j ≤ 122) (hp1 : ∀ j : Nat, j < nb → 97 ≤ fb j ∧ fb j ≤ 122) (hp2 : n ≤ 65536) (hp3 : nb ≤ 65536) (hp4 : ∀ j : Nat, j < 26 → 0 ≤ dg j ∧ dg j ≤ 9) : Mt l G yX3_common cX3_common 3 (some .int) 5 [.ref (a), .ref (b)] (h) (q_X3_common G h r3 tx us o r va hs hz rb n f s3 ty ut sr vb ht hu sb nb fb ro D li di go mn wi bu rd dg a b) (0) (0) := by
  refine Mt.of (lv := [(0, .ref (a)), (1, .ref (b))]) (by decide +kernel) (Nat.le_of_ble_eq_true rfl) rfl (fun X => ?_)
  refine x_iconst dX3_common_0 ?_
  refine x_istore_n (lv' := [(0, _), (1, _), (2, _)]) dX3_common_1 rfl (by decide) ?_
  have L2 : ∀ (n2 : Nat) (k : Nat), ((min n nb : Nat) - (k : Int)) < (n2 : Int) → (k ≤ min n nb) → (cmnF (fun j => dg (f j - 97).toNat) (fun j => dg (fb j - 97).toNat) (min n nb) 0 = cmnF (fun j => dg (f j - 97).toNat) (fun j => dg (fb j - 97).toNat) (min n nb - k) k) → V G X cX3_common 3 yX3_common (some .int) 5 (q_X3_common G h r3 tx us o r va hs hz rb n f s3 ty ut sr vb ht hu sb nb fb ro D li di go mn wi bu rd dg a b) (0) (0) 2 [(0, .ref (a)), (1, .ref (b)), (2, iv ((k : Int)))] [] (h) (0) (0) := by
    intro n2
    induction n2 with
    | zero =>
      intro k hm hk hc
      exact absurd hm (by omega)
    | succ n2 ih2 =>
      intro k hm2 hk hc
      refine x_iload_n dX3_common_2 rfl ?_
      refine x_aload_n dX3_common_3 rfl ?_
      refine x_callV (ci := 3) (T := TX3) (N := 3) (As := []) 0 (fun l => c_X3_length l G _ r3 tx us o r va hs hz rb n f a hf0 hf1 hf2) q2281 q2245 q2246 q186 q2247 (by decide +kernel) (by decide) (by decide) hf0 rfl rfl rfl (by first | decide | (simp [Value.category, iv, jv, va_rf]; done)) dX3_common_4 (Nat.zero_le _) (Nat.zero_le _) (fun v_ h_ hv_ => ?_)
      obtain ⟨rfl, rfl⟩ := hv_
      refine x_icmp_ge 37 dX3_common_7 rfl (by omega) (by omega) (fun c_7 => ?_) (fun c_7 => ?_)
      · refine x_iload_n dX3_common_37 rfl ?_
        exact x_iret rfl ⟨ri (by rw [hc, show min n nb - k = 0 by omega]; rfl), rfl⟩ dX3_common_38
      · refine x_iload_n dX3_common_10 rfl ?_
        refine x_aload_n dX3_common_11 rfl ?_
        refine x_callV (ci := 3) (T := TX3) (N := 3) (As := []) 0 (fun l => c_X3_length l G _ s3 ty ut o sr vb ht hu sb nb fb b hf3 hf4 hf5) q2281 q2245 q2246 q186 q2247 (by decide +kernel) (by decide) (by decide) hf3 rfl rfl rfl (by first | decide | (simp [Value.category, iv, jv, va_rf]; done)) dX3_common_12 (Nat.zero_le _) (Nat.zero_le _) (fun v_ h_ hv_ => ?_)
        obtain ⟨rfl, rfl⟩ := hv_
        refine x_icmp_ge 37 dX3_common_15 rfl (by omega) (by omega) (fun c_15 => ?_) (fun c_15 => ?_)
        · refine x_iload_n dX3_common_37 rfl ?_
          exact x_iret rfl ⟨ri (by rw [hc, show min n nb - k = 0 by omega]; rfl), rfl⟩ dX3_common_38
        · refine x_aload_n dX3_common_18 rfl ?_
          refine x_iload_n dX3_common_19 rfl ?_
          refine x_callV (ci := 3) (T := TX3) (N := 3) (As := [iv ((k : Int))]) 1 (fun l => c_X3_digit l G _ r3 tx us o r va hs hz rb n f ro _ li di go mn wi bu rd dg a ((k : Int)) hf0 hf1 hf2 hf6 hf7 (by omega) (hp2) (by simpa using hp0 k (by omega))) q2286 q2287 q2288 q186 q2289 (by decide +kernel) (by decide) (by decide) hf0 rfl rfl rfl (by first | decide | (simp [Value.category, iv, jv, va_rf]; done)) dX3_common_20 (Nat.zero_le _) (Nat.zero_le _) (fun v_ h_ hv_ => ?_)
          obtain ⟨rfl, rfl⟩ := hv_
          refine x_aload_n dX3_common_23 rfl ?_
          refine x_iload_n dX3_common_24 rfl ?_
          refine x_callV (ci := 3) (T := TX3) (N := 3) (As := [iv ((k : Int))]) 1 (fun l => c_X3_digit l G _ s3 ty ut o sr vb ht hu sb nb fb ro _ li di go mn wi bu rd dg b ((k : Int)) hf3 hf4 hf5 hf6 hf7 (by omega) (hp3) (by simpa using hp1 k (by omega))) q2286 q2287 q2288 q186 q2289 (by decide +kernel) (by decide) (by decide) hf3 rfl rfl rfl (by first | decide | (simp [Value.category, iv, jv, va_rf]; done)) dX3_common_25 (Nat.zero_le _) (Nat.zero_le _) (fun v_ h_ hv_ => ?_)
          obtain ⟨rfl, rfl⟩ := hv_
          refine x_icmp_ne 37 dX3_common_28 rfl (have := hp4 (f (k : Int).toNat - 97).toNat (by have := hp0 k (by omega); simp only [Int.toNat_natCast]; omega); by omega) (have := hp4 (fb (k : Int).toNat - 97).toNat (by have := hp1 k (by omega); simp only [Int.toNat_natCast]; omega); by omega) (fun c_28 => ?_) (fun c_28 => ?_)
          · refine x_iload_n dX3_common_37 rfl ?_
            exact x_iret rfl ⟨ri (by rw [hc, show min n nb - k = (min n nb - (k + 1)) + 1 by omega, cmnF, if_neg (by simpa using c_28)]), rfl⟩ dX3_common_38
          · refine x_iinc (lv' := [(0, _), (1, _), (2, _)]) dX3_common_31 rfl rfl (by decide) ?_
            refine x_goto 2 dX3_common_34 rfl ?_
            exact ih2 (k + 1) (by omega) (by omega) (by rw [hc, show min n nb - k = (min n nb - (k + 1)) + 1 by omega, cmnF, if_pos (by simpa using c_28)])
  exact L2 (min n nb + 1) (0) (by omega) (by omega) (rfl)
abbrev q_X0_isName (G : Gw) (h : Hp) (ro : Nat) (D : Nat → Nat) (li : Int) (di : Int) (go : Int) (mn : Option Nat) (wi : Int) (bu : Int) (rn : Nat) (mo : Int) (ea : Nat) (sz : Int) (o : Nat) (k : Int) : Option Value → Hp → Prop := fun v_ h_ => v_ = some (iv (bI (decide (0 ≤ k) && decide (k ≤ sz - 1)))) ∧ h_ = h
set_option maxHeartbeats 4000000 in
theorem c_X0_isName (l : Launch) (G : Gw) (h : Hp) (ro : Nat) (D : Nat → Nat) (li : Int) (di : Int) (go : Int) (mn : Option Nat) (wi : Int) (bu : Int) (rn : Nat) (mo : Int) (ea : Nat) (sz : Int) (o : Nat) (k : Int) (hf0 : h o = some (ro, ob 0 [.ref (D 0), .ref (D 1), iv (li), iv (di), iv (go), .ref (D 5), .ref (D 6), .ref (D 7), .ref (D 8), .ref (D 9), .ref (D 10), .ref (D 11), .ref (D 12), va_rf (mn), iv (wi), iv (bu), .ref (D 16), .ref (D 17)])) (hf1 : h (D 1) = some (rn, ob 6 [iv (mo), .ref (ea), iv (sz)])) (hp0 : -2147483648 ≤ k ∧ k ≤ 2147483647) (hp1 : 0 ≤ sz ∧ sz ≤ 14) : Mt l G yX0_isName cX0_isName 2 (some .boolean) 1 [.ref (o), iv (k)] (h) (q_X0_isName G h ro D li di go mn wi bu rn mo ea sz o k) (0) (0) := by
  refine Mt.of (lv := [(0, .ref (o)), (1, iv (k))]) (by decide +kernel) (Nat.le_of_ble_eq_true rfl) rfl (fun X => ?_)
  refine x_iload_n dX0_isName_0 rfl ?_
  refine x_iconst dX0_isName_1 ?_
  refine x_aload_n dX0_isName_2 rfl ?_
  refine x_get (C := RX0) (T := TX0) (N := 18) (ci := 0) 1 in_X0 rfl (by decide) q1019 dX0_isName_3 hf0 rfl ?_
  refine x_callV (ci := 6) (T := TJ2) (N := 3) (As := []) 0 (fun l => c_J2_size l G _ rn mo ea sz (D 1) hf1) q1675 q556 q3304 q140 q557 (by decide +kernel) (by decide) (by decide) hf1 rfl rfl rfl (by first | decide | (simp [Value.category, iv, jv, va_rf]; done)) dX0_isName_6 (Nat.zero_le _) (Nat.zero_le _) (fun v_ h_ hv_ => ?_)
  obtain ⟨rfl, rfl⟩ := hv_
  refine x_iconst dX0_isName_9 ?_
  refine x_isub dX0_isName_10 ?_
  refine x_callS (As := [iv (k), iv (0), iv (sz - 1)]) 3 (fun l => c_X0_in l G _  k 0 (sz - 1) (by first | assumption | omega) (by first | assumption | omega) (by first | assumption | omega)) q1078 q1079 q137 q1080 (by decide +kernel) (by decide) (by decide) rfl rfl (by first | decide | (simp [Value.category, iv, jv, va_rf]; done)) dX0_isName_11 (Nat.zero_le _) (Nat.zero_le _) (fun v_ h_ hv_ => ?_)
  obtain ⟨rfl, rfl⟩ := hv_
  exact x_zret rfl (nar_b _) ⟨congrArg (fun b => some (iv (bI b))) (by first | rfl | (simp_all; done) | (simp; omega) | (simp_all; omega)), rfl⟩ dX0_isName_14
