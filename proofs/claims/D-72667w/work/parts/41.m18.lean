/-! MODEL 18: the constructor: partial maps p (field -> array) and tg (address -> field) grow -/
set_option maxRecDepth 100000
def pup (p : Nat → Option Nat) (k a : Nat) : Nat → Option Nat := fun j => if j = k then some a else p j
theorem pup_s (p : Nat → Option Nat) (k a : Nat) : pup p k a k = some a := if_pos rfl
theorem pup_n {p : Nat → Option Nat} {k a j : Nat} (h : j ≠ k) : pup p k a j = p j := if_neg h
def mfsP (p : Nat → Option Nat) : List Value := [iv 0, va_rf (p 1), iv 0, va_rf (p 3), va_rf (p 4), va_rf (p 5), iv 0, iv 0, iv 0, va_rf (p 9), iv 0, va_rf (p 11), iv 0, va_rf (p 13), va_rf (p 14), iv 0, iv 0, iv 0, va_rf (p 18), va_rf (p 19), va_rf (p 20), va_rf (p 21), va_rf (p 22), va_rf (p 23), va_rf (p 24), va_rf (p 25), va_rf (p 26), va_rf (p 27), va_rf (p 28), va_rf (p 29), iv 0, va_rf (p 31), jv 0]
def ph (G : Gw) (p tg : Nat → Option Nat) (B : Hp) : Hp := fun q => match tg q with
  | none => B q
  | some 0 => some (1, ob 1 (mfsP p))
  | some (k + 1) => some (1, ia G (msz (k + 1)) (fun _ => 0))
def PM (o : Nat) (p tg : Nat → Option Nat) (B : Hp) : Prop := tg o = some 0 ∧ (∀ k a, p k = some a → tg a = some k) ∧ (∀ q, tg q = some 0 → q = o) ∧ (∀ q k, tg q = some (k + 1) → p (k + 1) = some q) ∧ ∀ q, tg q ≠ none → B q = none
theorem pm_0 {B : Hp} {o : Nat} (h : B o = none) : PM o (fun _ => none) (pup (fun _ => none) o 0) B := by
  refine ⟨pup_s _ _ _, (fun k a e => by cases e), fun q e => ?_, fun q k e => ?_, fun q e => ?_⟩
  · by_cases n : q = o
    · exact n
    · rw [pup_n n] at e; cases e
  · by_cases n : q = o
    · subst n; rw [pup_s] at e; cases e
    · rw [pup_n n] at e; cases e
  · by_cases n : q = o
    · rw [n]; exact h
    · rw [pup_n n] at e; exact absurd rfl e
theorem ph_0 {G : Gw} {B : Hp} {o : Nat} : hup B o (1, ob 1 (mfsP (fun _ => none))) = ph G (fun _ => none) (pup (fun _ => none) o 0) B := by
  funext q
  unfold ph
  by_cases n : q = o
  · subst n; rw [hup_s, pup_s]
  · rw [hup_n n, pup_n n]
theorem pm_free {G : Gw} {B : Hp} {o a : Nat} {p f tg : Nat → Option Nat} (h : PM o p tg B) (ha : ph G f tg B a = none) : tg a = none ∧ B a = none := by
  unfold ph at ha
  split at ha
  · rename_i e; exact ⟨e, ha⟩
  · cases ha
  · cases ha
theorem pm_new {G : Gw} {B : Hp} {o a : Nat} {p f tg : Nat → Option Nat} (k : Nat) (h : PM o p tg B) (ha : ph G f tg B a = none) (hk : p (k + 1) = none) : PM o (pup p (k + 1) a) (pup tg a (k + 1)) B := by
  obtain ⟨t0, b0⟩ := pm_free h ha
  obtain ⟨h1, h2, h3, h4, h5⟩ := h
  have hoa : o ≠ a := fun z => by rw [← z, h1] at t0; cases t0
  refine ⟨by rw [pup_n hoa]; exact h1, fun j b e => ?_, fun q e => ?_, fun q j e => ?_, fun q e => ?_⟩
  · by_cases n : j = k + 1
    · subst n; rw [pup_s] at e; cases e; exact pup_s _ _ _
    · rw [pup_n n] at e
      have := h2 j b e
      rw [pup_n (fun z => by rw [z, t0] at this; cases this)]; exact this
  · by_cases n : q = a
    · subst n; rw [pup_s] at e; cases e
    · rw [pup_n n] at e; exact h3 q e
  · by_cases n : q = a
    · subst n; rw [pup_s] at e; cases e; exact pup_s _ _ _
    · rw [pup_n n] at e
      have := h4 q j e
      rw [pup_n (fun z => by rw [z, hk] at this; cases this)]; exact this
  · by_cases n : q = a
    · rw [n]; exact b0
    · rw [pup_n n] at e; exact h5 q e
theorem ph_new {G : Gw} {B : Hp} {a : Nat} {f tg : Nat → Option Nat} (k : Nat) : hup (ph G f tg B) a (1, ia G (msz (k + 1)) (fun _ => 0)) = ph G f (pup tg a (k + 1)) B := by
  funext q
  unfold ph
  by_cases n : q = a
  · subst n; rw [hup_s, pup_s]
  · rw [hup_n n, pup_n n]
theorem ph_o {G : Gw} {B : Hp} {o : Nat} {p f tg : Nat → Option Nat} (h : PM o p tg B) : ph G f tg B o = some (1, ob 1 (mfsP f)) := by
  unfold ph; rw [h.1]
theorem ph_put {G : Gw} {B : Hp} {o : Nat} {p f f' tg : Nat → Option Nat} (h : PM o p tg B) : hup (ph G f tg B) o (1, ob 1 (mfsP f')) = ph G f' tg B := by
  funext q
  by_cases n : q = o
  · subst n; rw [hup_s, ph_o h]
  · rw [hup_n n]
    unfold ph
    split
    · rfl
    · rename_i e; exact absurd (h.2.2.1 q e) n
    · rfl
/-- the model's state at the start -/
def dig0 (i : Int) : Int := if i < 15 then 2 + i / 3 else if i < 19 then 7 else if i < 22 then 8 else 9
def s_in (n : Int) : Ms := (fun _ => 0, fun k i => if k = 9 ∧ (0 ≤ i ∧ i < n) then dig0 i else 0)
def s_init : Ms := s_in 26
theorem in_s (n : Nat) : sa (s_in n) 9 n (dig0 n) = s_in ((n + 1 : Nat) : Int) := by
  refine Prod.ext rfl (funext fun k => funext fun i => ?_)
  simp only [sa, s_in]
  by_cases hk : k = 9
  · subst hk
    by_cases hi : i = n
    · subst hi; rw [if_pos ⟨rfl, rfl⟩, if_pos ⟨rfl, by omega⟩]
    · rw [if_neg (fun z => hi z.2)]
      by_cases h : 0 ≤ i ∧ i < (n : Int)
      · rw [if_pos ⟨rfl, h⟩, if_pos ⟨rfl, by omega⟩]
      · rw [if_neg (fun z => h z.2), if_neg (fun z => by omega)]
  · simp [hk]
theorem ph_mh {G : Gw} {B : Hp} {o : Nat} {p tg : Nat → Option Nat} (h : PM o p tg B) (hp : mfsP p = mfs (fun k => (p k).getD 0) (fun _ => 0)) : ph G p tg B = mh G (o, (fun k => (p k).getD 0), tg) B (s_in 0) := by
  funext q
  unfold ph mh
  dsimp only
  cases tg q with
  | none => rfl
  | some x => cases x with
  | zero => show some (1, ob 1 (mfsP p)) = _; rw [hp]; rfl
  | succ k =>
    show some (1, ia G (msz (k + 1)) (fun _ => 0)) = some (1, ia G (msz (k + 1)) (fun j : Nat => (s_in 0).2 (k + 1) (j : Int)))
    have : (fun j : Nat => (s_in 0).2 (k + 1) (j : Int)) = fun _ => 0 := by
      funext j
      show (if k + 1 = 9 ∧ (0 ≤ (j : Int) ∧ (j : Int) < 0) then dig0 j else 0) = 0
      rw [if_neg (by omega)]
    rw [this]
theorem ph_ok {B : Hp} {o : Nat} {p tg : Nat → Option Nat} (h : PM o p tg B) (hp : ∀ k, 0 < msz k → p k ≠ none) : MOk (o, (fun k => (p k).getD 0), tg) := by
  refine ⟨h.1, fun k hk => ?_, h.2.2.1, fun q k e => ?_⟩
  · cases e : p k with
    | none => exact absurd e (hp k hk)
    | some a =>
      have := h.2.1 k a e
      show tg ((p k).getD 0) = some k
      rw [e]; exact this
  · have := h.2.2.2.1 q k e
    show q = (p (k + 1)).getD 0
    rw [this]; rfl
/-- all arrays are there -/
def pAll (p : Nat → Option Nat) : Bool := (List.range 33).all (fun k => decide (msz k = 0) || (p k).isSome)
theorem pAll_ok {p : Nat → Option Nat} (h : pAll p = true) : ∀ k, 0 < msz k → p k ≠ none := by
  intro k hk
  have hk33 : k < 33 := by
    rcases Nat.lt_or_ge k 33 with q | q
    · exact q
    · exfalso
      have : msz k = 0 := by
        obtain ⟨j, rfl⟩ : ∃ j, k = j + 33 := ⟨k - 33, by omega⟩
        rfl
      omega
  have := List.all_eq_true.mp h k (List.mem_range.mpr hk33)
  rw [Bool.or_eq_true, decide_eq_true_eq] at this
  intro e
  rcases this with q | q
  · omega
  · rw [e] at q; cases q
abbrev q_X1_init (G : Gw) (B : Hp) (o : Nat) : Option Value → Hp → Prop := fun v_ h_ => ∃ M : Mg, v_ = none ∧ M.1 = o ∧ MOk M ∧ h_ = mh G M B s_init ∧ ∀ q, M.2.2 q ≠ none → B q = none
set_option maxHeartbeats 4000000 in
theorem c_X1_init (l : Launch) (G : Gw) (B : Hp) (o : Nat) (hB : B o = none) : Mt l G yX1_init cX1_init 2 none 1 [.ref o] (hup B o (1, ob 1 (mfsP (fun _ => none)))) (q_X1_init G B o) 21 2216 := by
  refine Mt.of (lv := [(0, .ref o)]) (by decide) (Nat.le_of_ble_eq_true rfl) rfl (fun X => ?_)
  refine x_h (ph_0 (G := G)) ?_
  have hm := pm_0 hB
  refine x_aload_n dX1_init_0 rfl ?_
  refine x_oinit q2827 q205 q206 dX1_init_1 (by decide) (by decide) ?_
  refine x_aload_n dX1_init_4 rfl ?_
  refine x_bipush dX1_init_5 ?_
  refine x_newI (z := 50) 1 (by decide) q243 dX1_init_7 (by decide) (Nat.le_of_ble_eq_true rfl) (Nat.le_of_ble_eq_true rfl) (fun a1 n1 => ?_)
  have hm := pm_new 0 hm n1 rfl
  refine x_h (show _ = _ from ph_new (a := a1) 0) ?_
  refine x_wid (kc' := 20) (ks' := 2166) (Nat.le_of_ble_eq_true rfl) (Nat.le_of_ble_eq_true rfl) ?_
  refine x_putF (C := RX1) (T := TX1) (N := 33) (ci := 1) (ty := .array .int) 1 in_X1 tyX1 tyX1_ok nmX1 rfl (by decide) rfl rfl rfl q2829 dX1_init_9 (ph_o hm) (by decide) (by simp [mfsP]) rfl rfl rfl ?_
  refine x_h (ph_put (f := (fun _ => none)) (f' := pup (fun _ => none) 1 a1) hm) ?_
  refine x_aload_n dX1_init_12 rfl ?_
  refine x_bipush dX1_init_13 ?_
  refine x_newI (z := 14) 1 (by decide) q243 dX1_init_15 (by decide) (Nat.le_of_ble_eq_true rfl) (Nat.le_of_ble_eq_true rfl) (fun a3 n3 => ?_)
  have hm := pm_new 2 hm n3 rfl
  refine x_h (show _ = _ from ph_new (a := a3) 2) ?_
  refine x_wid (kc' := 19) (ks' := 2152) (Nat.le_of_ble_eq_true rfl) (Nat.le_of_ble_eq_true rfl) ?_
  refine x_putF (C := RX1) (T := TX1) (N := 33) (ci := 1) (ty := .array .int) 3 in_X1 tyX1 tyX1_ok nmX1 rfl (by decide) rfl rfl rfl q2831 dX1_init_17 (ph_o hm) (by decide) (by simp [mfsP]) rfl rfl rfl ?_
  refine x_h (ph_put (f := (pup (fun _ => none) 1 a1)) (f' := pup (pup (fun _ => none) 1 a1) 3 a3) hm) ?_
  refine x_aload_n dX1_init_20 rfl ?_
  refine x_bipush dX1_init_21 ?_
  refine x_newI (z := 112) 1 (by decide) q243 dX1_init_23 (by decide) (Nat.le_of_ble_eq_true rfl) (Nat.le_of_ble_eq_true rfl) (fun a4 n4 => ?_)
  have hm := pm_new 3 hm n4 rfl
  refine x_h (show _ = _ from ph_new (a := a4) 3) ?_
  refine x_wid (kc' := 18) (ks' := 2040) (Nat.le_of_ble_eq_true rfl) (Nat.le_of_ble_eq_true rfl) ?_
  refine x_putF (C := RX1) (T := TX1) (N := 33) (ci := 1) (ty := .array .int) 4 in_X1 tyX1 tyX1_ok nmX1 rfl (by decide) rfl rfl rfl q2832 dX1_init_25 (ph_o hm) (by decide) (by simp [mfsP]) rfl rfl rfl ?_
  refine x_h (ph_put (f := (pup (pup (fun _ => none) 1 a1) 3 a3)) (f' := pup (pup (pup (fun _ => none) 1 a1) 3 a3) 4 a4) hm) ?_
  refine x_aload_n dX1_init_28 rfl ?_
  refine x_bipush dX1_init_29 ?_
  refine x_newI (z := 14) 1 (by decide) q243 dX1_init_31 (by decide) (Nat.le_of_ble_eq_true rfl) (Nat.le_of_ble_eq_true rfl) (fun a5 n5 => ?_)
  have hm := pm_new 4 hm n5 rfl
  refine x_h (show _ = _ from ph_new (a := a5) 4) ?_
  refine x_wid (kc' := 17) (ks' := 2026) (Nat.le_of_ble_eq_true rfl) (Nat.le_of_ble_eq_true rfl) ?_
  refine x_putF (C := RX1) (T := TX1) (N := 33) (ci := 1) (ty := .array .int) 5 in_X1 tyX1 tyX1_ok nmX1 rfl (by decide) rfl rfl rfl q2833 dX1_init_33 (ph_o hm) (by decide) (by simp [mfsP]) rfl rfl rfl ?_
  refine x_h (ph_put (f := (pup (pup (pup (fun _ => none) 1 a1) 3 a3) 4 a4)) (f' := pup (pup (pup (pup (fun _ => none) 1 a1) 3 a3) 4 a4) 5 a5) hm) ?_
  refine x_aload_n dX1_init_36 rfl ?_
  refine x_bipush dX1_init_37 ?_
  refine x_newI (z := 26) 1 (by decide) q243 dX1_init_39 (by decide) (Nat.le_of_ble_eq_true rfl) (Nat.le_of_ble_eq_true rfl) (fun a9 n9 => ?_)
  have hm := pm_new 8 hm n9 rfl
  refine x_h (show _ = _ from ph_new (a := a9) 8) ?_
  refine x_wid (kc' := 16) (ks' := 2000) (Nat.le_of_ble_eq_true rfl) (Nat.le_of_ble_eq_true rfl) ?_
  refine x_putF (C := RX1) (T := TX1) (N := 33) (ci := 1) (ty := .array .int) 9 in_X1 tyX1 tyX1_ok nmX1 rfl (by decide) rfl rfl rfl q2837 dX1_init_41 (ph_o hm) (by decide) (by simp [mfsP]) rfl rfl rfl ?_
  refine x_h (ph_put (f := (pup (pup (pup (pup (fun _ => none) 1 a1) 3 a3) 4 a4) 5 a5)) (f' := pup (pup (pup (pup (pup (fun _ => none) 1 a1) 3 a3) 4 a4) 5 a5) 9 a9) hm) ?_
  refine x_aload_n dX1_init_44 rfl ?_
  refine x_bipush dX1_init_45 ?_
  refine x_newI (z := 10) 1 (by decide) q243 dX1_init_47 (by decide) (Nat.le_of_ble_eq_true rfl) (Nat.le_of_ble_eq_true rfl) (fun a11 n11 => ?_)
  have hm := pm_new 10 hm n11 rfl
  refine x_h (show _ = _ from ph_new (a := a11) 10) ?_
  refine x_wid (kc' := 15) (ks' := 1990) (Nat.le_of_ble_eq_true rfl) (Nat.le_of_ble_eq_true rfl) ?_
  refine x_putF (C := RX1) (T := TX1) (N := 33) (ci := 1) (ty := .array .int) 11 in_X1 tyX1 tyX1_ok nmX1 rfl (by decide) rfl rfl rfl q2839 dX1_init_49 (ph_o hm) (by decide) (by simp [mfsP]) rfl rfl rfl ?_
  refine x_h (ph_put (f := (pup (pup (pup (pup (pup (fun _ => none) 1 a1) 3 a3) 4 a4) 5 a5) 9 a9)) (f' := pup (pup (pup (pup (pup (pup (fun _ => none) 1 a1) 3 a3) 4 a4) 5 a5) 9 a9) 11 a11) hm) ?_
  refine x_aload_n dX1_init_52 rfl ?_
  refine x_bipush dX1_init_53 ?_
  refine x_newI (z := 14) 1 (by decide) q243 dX1_init_55 (by decide) (Nat.le_of_ble_eq_true rfl) (Nat.le_of_ble_eq_true rfl) (fun a13 n13 => ?_)
  have hm := pm_new 12 hm n13 rfl
  refine x_h (show _ = _ from ph_new (a := a13) 12) ?_
  refine x_wid (kc' := 14) (ks' := 1976) (Nat.le_of_ble_eq_true rfl) (Nat.le_of_ble_eq_true rfl) ?_
  refine x_putF (C := RX1) (T := TX1) (N := 33) (ci := 1) (ty := .array .int) 13 in_X1 tyX1 tyX1_ok nmX1 rfl (by decide) rfl rfl rfl q2841 dX1_init_57 (ph_o hm) (by decide) (by simp [mfsP]) rfl rfl rfl ?_
  refine x_h (ph_put (f := (pup (pup (pup (pup (pup (pup (fun _ => none) 1 a1) 3 a3) 4 a4) 5 a5) 9 a9) 11 a11)) (f' := pup (pup (pup (pup (pup (pup (pup (fun _ => none) 1 a1) 3 a3) 4 a4) 5 a5) 9 a9) 11 a11) 13 a13) hm) ?_
  refine x_aload_n dX1_init_60 rfl ?_
  refine x_sipush dX1_init_61 ?_
  refine x_newI (z := 196) 1 (by decide) q243 dX1_init_64 (by decide) (Nat.le_of_ble_eq_true rfl) (Nat.le_of_ble_eq_true rfl) (fun a14 n14 => ?_)
  have hm := pm_new 13 hm n14 rfl
  refine x_h (show _ = _ from ph_new (a := a14) 13) ?_
  refine x_wid (kc' := 13) (ks' := 1780) (Nat.le_of_ble_eq_true rfl) (Nat.le_of_ble_eq_true rfl) ?_
  refine x_putF (C := RX1) (T := TX1) (N := 33) (ci := 1) (ty := .array .int) 14 in_X1 tyX1 tyX1_ok nmX1 rfl (by decide) rfl rfl rfl q2842 dX1_init_66 (ph_o hm) (by decide) (by simp [mfsP]) rfl rfl rfl ?_
  refine x_h (ph_put (f := (pup (pup (pup (pup (pup (pup (pup (fun _ => none) 1 a1) 3 a3) 4 a4) 5 a5) 9 a9) 11 a11) 13 a13)) (f' := pup (pup (pup (pup (pup (pup (pup (pup (fun _ => none) 1 a1) 3 a3) 4 a4) 5 a5) 9 a9) 11 a11) 13 a13) 14 a14) hm) ?_
  refine x_aload_n dX1_init_69 rfl ?_
  refine x_bipush dX1_init_70 ?_
  refine x_newI (z := 14) 1 (by decide) q243 dX1_init_72 (by decide) (Nat.le_of_ble_eq_true rfl) (Nat.le_of_ble_eq_true rfl) (fun a18 n18 => ?_)
  have hm := pm_new 17 hm n18 rfl
  refine x_h (show _ = _ from ph_new (a := a18) 17) ?_
  refine x_wid (kc' := 12) (ks' := 1766) (Nat.le_of_ble_eq_true rfl) (Nat.le_of_ble_eq_true rfl) ?_
  refine x_putF (C := RX1) (T := TX1) (N := 33) (ci := 1) (ty := .array .int) 18 in_X1 tyX1 tyX1_ok nmX1 rfl (by decide) rfl rfl rfl q2846 dX1_init_74 (ph_o hm) (by decide) (by simp [mfsP]) rfl rfl rfl ?_
  refine x_h (ph_put (f := (pup (pup (pup (pup (pup (pup (pup (pup (fun _ => none) 1 a1) 3 a3) 4 a4) 5 a5) 9 a9) 11 a11) 13 a13) 14 a14)) (f' := pup (pup (pup (pup (pup (pup (pup (pup (pup (fun _ => none) 1 a1) 3 a3) 4 a4) 5 a5) 9 a9) 11 a11) 13 a13) 14 a14) 18 a18) hm) ?_
  refine x_aload_n dX1_init_77 rfl ?_
  refine x_bipush dX1_init_78 ?_
  refine x_newI (z := 112) 1 (by decide) q243 dX1_init_80 (by decide) (Nat.le_of_ble_eq_true rfl) (Nat.le_of_ble_eq_true rfl) (fun a19 n19 => ?_)
  have hm := pm_new 18 hm n19 rfl
  refine x_h (show _ = _ from ph_new (a := a19) 18) ?_
  refine x_wid (kc' := 11) (ks' := 1654) (Nat.le_of_ble_eq_true rfl) (Nat.le_of_ble_eq_true rfl) ?_
  refine x_putF (C := RX1) (T := TX1) (N := 33) (ci := 1) (ty := .array .int) 19 in_X1 tyX1 tyX1_ok nmX1 rfl (by decide) rfl rfl rfl q2847 dX1_init_82 (ph_o hm) (by decide) (by simp [mfsP]) rfl rfl rfl ?_
  refine x_h (ph_put (f := (pup (pup (pup (pup (pup (pup (pup (pup (pup (fun _ => none) 1 a1) 3 a3) 4 a4) 5 a5) 9 a9) 11 a11) 13 a13) 14 a14) 18 a18)) (f' := pup (pup (pup (pup (pup (pup (pup (pup (pup (pup (fun _ => none) 1 a1) 3 a3) 4 a4) 5 a5) 9 a9) 11 a11) 13 a13) 14 a14) 18 a18) 19 a19) hm) ?_
  refine x_aload_n dX1_init_85 rfl ?_
  refine x_bipush dX1_init_86 ?_
  refine x_newI (z := 14) 1 (by decide) q243 dX1_init_88 (by decide) (Nat.le_of_ble_eq_true rfl) (Nat.le_of_ble_eq_true rfl) (fun a20 n20 => ?_)
  have hm := pm_new 19 hm n20 rfl
  refine x_h (show _ = _ from ph_new (a := a20) 19) ?_
  refine x_wid (kc' := 10) (ks' := 1640) (Nat.le_of_ble_eq_true rfl) (Nat.le_of_ble_eq_true rfl) ?_
  refine x_putF (C := RX1) (T := TX1) (N := 33) (ci := 1) (ty := .array .int) 20 in_X1 tyX1 tyX1_ok nmX1 rfl (by decide) rfl rfl rfl q2848 dX1_init_90 (ph_o hm) (by decide) (by simp [mfsP]) rfl rfl rfl ?_
  refine x_h (ph_put (f := (pup (pup (pup (pup (pup (pup (pup (pup (pup (pup (fun _ => none) 1 a1) 3 a3) 4 a4) 5 a5) 9 a9) 11 a11) 13 a13) 14 a14) 18 a18) 19 a19)) (f' := pup (pup (pup (pup (pup (pup (pup (pup (pup (pup (pup (fun _ => none) 1 a1) 3 a3) 4 a4) 5 a5) 9 a9) 11 a11) 13 a13) 14 a14) 18 a18) 19 a19) 20 a20) hm) ?_
  refine x_aload_n dX1_init_93 rfl ?_
  refine x_bipush dX1_init_94 ?_
  refine x_newI (z := 26) 1 (by decide) q243 dX1_init_96 (by decide) (Nat.le_of_ble_eq_true rfl) (Nat.le_of_ble_eq_true rfl) (fun a21 n21 => ?_)
  have hm := pm_new 20 hm n21 rfl
  refine x_h (show _ = _ from ph_new (a := a21) 20) ?_
  refine x_wid (kc' := 9) (ks' := 1614) (Nat.le_of_ble_eq_true rfl) (Nat.le_of_ble_eq_true rfl) ?_
  refine x_putF (C := RX1) (T := TX1) (N := 33) (ci := 1) (ty := .array .int) 21 in_X1 tyX1 tyX1_ok nmX1 rfl (by decide) rfl rfl rfl q2849 dX1_init_98 (ph_o hm) (by decide) (by simp [mfsP]) rfl rfl rfl ?_
  refine x_h (ph_put (f := (pup (pup (pup (pup (pup (pup (pup (pup (pup (pup (pup (fun _ => none) 1 a1) 3 a3) 4 a4) 5 a5) 9 a9) 11 a11) 13 a13) 14 a14) 18 a18) 19 a19) 20 a20)) (f' := pup (pup (pup (pup (pup (pup (pup (pup (pup (pup (pup (pup (fun _ => none) 1 a1) 3 a3) 4 a4) 5 a5) 9 a9) 11 a11) 13 a13) 14 a14) 18 a18) 19 a19) 20 a20) 21 a21) hm) ?_
  refine x_aload_n dX1_init_101 rfl ?_
  refine x_bipush dX1_init_102 ?_
  refine x_newI (z := 11) 1 (by decide) q243 dX1_init_104 (by decide) (Nat.le_of_ble_eq_true rfl) (Nat.le_of_ble_eq_true rfl) (fun a22 n22 => ?_)
  have hm := pm_new 21 hm n22 rfl
  refine x_h (show _ = _ from ph_new (a := a22) 21) ?_
  refine x_wid (kc' := 8) (ks' := 1603) (Nat.le_of_ble_eq_true rfl) (Nat.le_of_ble_eq_true rfl) ?_
  refine x_putF (C := RX1) (T := TX1) (N := 33) (ci := 1) (ty := .array .int) 22 in_X1 tyX1 tyX1_ok nmX1 rfl (by decide) rfl rfl rfl q2850 dX1_init_106 (ph_o hm) (by decide) (by simp [mfsP]) rfl rfl rfl ?_
  refine x_h (ph_put (f := (pup (pup (pup (pup (pup (pup (pup (pup (pup (pup (pup (pup (fun _ => none) 1 a1) 3 a3) 4 a4) 5 a5) 9 a9) 11 a11) 13 a13) 14 a14) 18 a18) 19 a19) 20 a20) 21 a21)) (f' := pup (pup (pup (pup (pup (pup (pup (pup (pup (pup (pup (pup (pup (fun _ => none) 1 a1) 3 a3) 4 a4) 5 a5) 9 a9) 11 a11) 13 a13) 14 a14) 18 a18) 19 a19) 20 a20) 21 a21) 22 a22) hm) ?_
  refine x_aload_n dX1_init_109 rfl ?_
  refine x_bipush dX1_init_110 ?_
  refine x_newI (z := 11) 1 (by decide) q243 dX1_init_112 (by decide) (Nat.le_of_ble_eq_true rfl) (Nat.le_of_ble_eq_true rfl) (fun a23 n23 => ?_)
  have hm := pm_new 22 hm n23 rfl
  refine x_h (show _ = _ from ph_new (a := a23) 22) ?_
  refine x_wid (kc' := 7) (ks' := 1592) (Nat.le_of_ble_eq_true rfl) (Nat.le_of_ble_eq_true rfl) ?_
  refine x_putF (C := RX1) (T := TX1) (N := 33) (ci := 1) (ty := .array .int) 23 in_X1 tyX1 tyX1_ok nmX1 rfl (by decide) rfl rfl rfl q2851 dX1_init_114 (ph_o hm) (by decide) (by simp [mfsP]) rfl rfl rfl ?_
  refine x_h (ph_put (f := (pup (pup (pup (pup (pup (pup (pup (pup (pup (pup (pup (pup (pup (fun _ => none) 1 a1) 3 a3) 4 a4) 5 a5) 9 a9) 11 a11) 13 a13) 14 a14) 18 a18) 19 a19) 20 a20) 21 a21) 22 a22)) (f' := pup (pup (pup (pup (pup (pup (pup (pup (pup (pup (pup (pup (pup (pup (fun _ => none) 1 a1) 3 a3) 4 a4) 5 a5) 9 a9) 11 a11) 13 a13) 14 a14) 18 a18) 19 a19) 20 a20) 21 a21) 22 a22) 23 a23) hm) ?_
  refine x_aload_n dX1_init_117 rfl ?_
  refine x_bipush dX1_init_118 ?_
  refine x_newI (z := 11) 1 (by decide) q243 dX1_init_120 (by decide) (Nat.le_of_ble_eq_true rfl) (Nat.le_of_ble_eq_true rfl) (fun a24 n24 => ?_)
  have hm := pm_new 23 hm n24 rfl
  refine x_h (show _ = _ from ph_new (a := a24) 23) ?_
  refine x_wid (kc' := 6) (ks' := 1581) (Nat.le_of_ble_eq_true rfl) (Nat.le_of_ble_eq_true rfl) ?_
  refine x_putF (C := RX1) (T := TX1) (N := 33) (ci := 1) (ty := .array .int) 24 in_X1 tyX1 tyX1_ok nmX1 rfl (by decide) rfl rfl rfl q2852 dX1_init_122 (ph_o hm) (by decide) (by simp [mfsP]) rfl rfl rfl ?_
  refine x_h (ph_put (f := (pup (pup (pup (pup (pup (pup (pup (pup (pup (pup (pup (pup (pup (pup (fun _ => none) 1 a1) 3 a3) 4 a4) 5 a5) 9 a9) 11 a11) 13 a13) 14 a14) 18 a18) 19 a19) 20 a20) 21 a21) 22 a22) 23 a23)) (f' := pup (pup (pup (pup (pup (pup (pup (pup (pup (pup (pup (pup (pup (pup (pup (fun _ => none) 1 a1) 3 a3) 4 a4) 5 a5) 9 a9) 11 a11) 13 a13) 14 a14) 18 a18) 19 a19) 20 a20) 21 a21) 22 a22) 23 a23) 24 a24) hm) ?_
  refine x_aload_n dX1_init_125 rfl ?_
  refine x_bipush dX1_init_126 ?_
  refine x_newI (z := 11) 1 (by decide) q243 dX1_init_128 (by decide) (Nat.le_of_ble_eq_true rfl) (Nat.le_of_ble_eq_true rfl) (fun a25 n25 => ?_)
  have hm := pm_new 24 hm n25 rfl
  refine x_h (show _ = _ from ph_new (a := a25) 24) ?_
  refine x_wid (kc' := 5) (ks' := 1570) (Nat.le_of_ble_eq_true rfl) (Nat.le_of_ble_eq_true rfl) ?_
  refine x_putF (C := RX1) (T := TX1) (N := 33) (ci := 1) (ty := .array .int) 25 in_X1 tyX1 tyX1_ok nmX1 rfl (by decide) rfl rfl rfl q2853 dX1_init_130 (ph_o hm) (by decide) (by simp [mfsP]) rfl rfl rfl ?_
  refine x_h (ph_put (f := (pup (pup (pup (pup (pup (pup (pup (pup (pup (pup (pup (pup (pup (pup (pup (fun _ => none) 1 a1) 3 a3) 4 a4) 5 a5) 9 a9) 11 a11) 13 a13) 14 a14) 18 a18) 19 a19) 20 a20) 21 a21) 22 a22) 23 a23) 24 a24)) (f' := pup (pup (pup (pup (pup (pup (pup (pup (pup (pup (pup (pup (pup (pup (pup (pup (fun _ => none) 1 a1) 3 a3) 4 a4) 5 a5) 9 a9) 11 a11) 13 a13) 14 a14) 18 a18) 19 a19) 20 a20) 21 a21) 22 a22) 23 a23) 24 a24) 25 a25) hm) ?_
  refine x_aload_n dX1_init_133 rfl ?_
  refine x_sipush dX1_init_134 ?_
  refine x_newI (z := 225) 1 (by decide) q243 dX1_init_137 (by decide) (Nat.le_of_ble_eq_true rfl) (Nat.le_of_ble_eq_true rfl) (fun a26 n26 => ?_)
  have hm := pm_new 25 hm n26 rfl
  refine x_h (show _ = _ from ph_new (a := a26) 25) ?_
  refine x_wid (kc' := 4) (ks' := 1345) (Nat.le_of_ble_eq_true rfl) (Nat.le_of_ble_eq_true rfl) ?_
  refine x_putF (C := RX1) (T := TX1) (N := 33) (ci := 1) (ty := .array .int) 26 in_X1 tyX1 tyX1_ok nmX1 rfl (by decide) rfl rfl rfl q2854 dX1_init_139 (ph_o hm) (by decide) (by simp [mfsP]) rfl rfl rfl ?_
  refine x_h (ph_put (f := (pup (pup (pup (pup (pup (pup (pup (pup (pup (pup (pup (pup (pup (pup (pup (pup (fun _ => none) 1 a1) 3 a3) 4 a4) 5 a5) 9 a9) 11 a11) 13 a13) 14 a14) 18 a18) 19 a19) 20 a20) 21 a21) 22 a22) 23 a23) 24 a24) 25 a25)) (f' := pup (pup (pup (pup (pup (pup (pup (pup (pup (pup (pup (pup (pup (pup (pup (pup (pup (fun _ => none) 1 a1) 3 a3) 4 a4) 5 a5) 9 a9) 11 a11) 13 a13) 14 a14) 18 a18) 19 a19) 20 a20) 21 a21) 22 a22) 23 a23) 24 a24) 25 a25) 26 a26) hm) ?_
  refine x_aload_n dX1_init_142 rfl ?_
  refine x_sipush dX1_init_143 ?_
  refine x_newI (z := 1125) 1 (by decide) q243 dX1_init_146 (by decide) (Nat.le_of_ble_eq_true rfl) (Nat.le_of_ble_eq_true rfl) (fun a27 n27 => ?_)
  have hm := pm_new 26 hm n27 rfl
  refine x_h (show _ = _ from ph_new (a := a27) 26) ?_
  refine x_wid (kc' := 3) (ks' := 220) (Nat.le_of_ble_eq_true rfl) (Nat.le_of_ble_eq_true rfl) ?_
  refine x_putF (C := RX1) (T := TX1) (N := 33) (ci := 1) (ty := .array .int) 27 in_X1 tyX1 tyX1_ok nmX1 rfl (by decide) rfl rfl rfl q2855 dX1_init_148 (ph_o hm) (by decide) (by simp [mfsP]) rfl rfl rfl ?_
  refine x_h (ph_put (f := (pup (pup (pup (pup (pup (pup (pup (pup (pup (pup (pup (pup (pup (pup (pup (pup (pup (fun _ => none) 1 a1) 3 a3) 4 a4) 5 a5) 9 a9) 11 a11) 13 a13) 14 a14) 18 a18) 19 a19) 20 a20) 21 a21) 22 a22) 23 a23) 24 a24) 25 a25) 26 a26)) (f' := pup (pup (pup (pup (pup (pup (pup (pup (pup (pup (pup (pup (pup (pup (pup (pup (pup (pup (fun _ => none) 1 a1) 3 a3) 4 a4) 5 a5) 9 a9) 11 a11) 13 a13) 14 a14) 18 a18) 19 a19) 20 a20) 21 a21) 22 a22) 23 a23) 24 a24) 25 a25) 26 a26) 27 a27) hm) ?_
  refine x_aload_n dX1_init_151 rfl ?_
  refine x_bipush dX1_init_152 ?_
  refine x_newI (z := 14) 1 (by decide) q243 dX1_init_154 (by decide) (Nat.le_of_ble_eq_true rfl) (Nat.le_of_ble_eq_true rfl) (fun a28 n28 => ?_)
  have hm := pm_new 27 hm n28 rfl
  refine x_h (show _ = _ from ph_new (a := a28) 27) ?_
  refine x_wid (kc' := 2) (ks' := 206) (Nat.le_of_ble_eq_true rfl) (Nat.le_of_ble_eq_true rfl) ?_
  refine x_putF (C := RX1) (T := TX1) (N := 33) (ci := 1) (ty := .array .int) 28 in_X1 tyX1 tyX1_ok nmX1 rfl (by decide) rfl rfl rfl q2856 dX1_init_156 (ph_o hm) (by decide) (by simp [mfsP]) rfl rfl rfl ?_
  refine x_h (ph_put (f := (pup (pup (pup (pup (pup (pup (pup (pup (pup (pup (pup (pup (pup (pup (pup (pup (pup (pup (fun _ => none) 1 a1) 3 a3) 4 a4) 5 a5) 9 a9) 11 a11) 13 a13) 14 a14) 18 a18) 19 a19) 20 a20) 21 a21) 22 a22) 23 a23) 24 a24) 25 a25) 26 a26) 27 a27)) (f' := pup (pup (pup (pup (pup (pup (pup (pup (pup (pup (pup (pup (pup (pup (pup (pup (pup (pup (pup (fun _ => none) 1 a1) 3 a3) 4 a4) 5 a5) 9 a9) 11 a11) 13 a13) 14 a14) 18 a18) 19 a19) 20 a20) 21 a21) 22 a22) 23 a23) 24 a24) 25 a25) 26 a26) 27 a27) 28 a28) hm) ?_
  refine x_aload_n dX1_init_159 rfl ?_
  refine x_sipush dX1_init_160 ?_
  refine x_newI (z := 196) 1 (by decide) q243 dX1_init_163 (by decide) (Nat.le_of_ble_eq_true rfl) (Nat.le_of_ble_eq_true rfl) (fun a29 n29 => ?_)
  have hm := pm_new 28 hm n29 rfl
  refine x_h (show _ = _ from ph_new (a := a29) 28) ?_
  refine x_wid (kc' := 1) (ks' := 10) (Nat.le_of_ble_eq_true rfl) (Nat.le_of_ble_eq_true rfl) ?_
  refine x_putF (C := RX1) (T := TX1) (N := 33) (ci := 1) (ty := .array .int) 29 in_X1 tyX1 tyX1_ok nmX1 rfl (by decide) rfl rfl rfl q2857 dX1_init_165 (ph_o hm) (by decide) (by simp [mfsP]) rfl rfl rfl ?_
  refine x_h (ph_put (f := (pup (pup (pup (pup (pup (pup (pup (pup (pup (pup (pup (pup (pup (pup (pup (pup (pup (pup (pup (fun _ => none) 1 a1) 3 a3) 4 a4) 5 a5) 9 a9) 11 a11) 13 a13) 14 a14) 18 a18) 19 a19) 20 a20) 21 a21) 22 a22) 23 a23) 24 a24) 25 a25) 26 a26) 27 a27) 28 a28)) (f' := pup (pup (pup (pup (pup (pup (pup (pup (pup (pup (pup (pup (pup (pup (pup (pup (pup (pup (pup (pup (fun _ => none) 1 a1) 3 a3) 4 a4) 5 a5) 9 a9) 11 a11) 13 a13) 14 a14) 18 a18) 19 a19) 20 a20) 21 a21) 22 a22) 23 a23) 24 a24) 25 a25) 26 a26) 27 a27) 28 a28) 29 a29) hm) ?_
  refine x_aload_n dX1_init_168 rfl ?_
  refine x_bipush dX1_init_169 ?_
  refine x_newI (z := 10) 1 (by decide) q243 dX1_init_171 (by decide) (Nat.le_of_ble_eq_true rfl) (Nat.le_of_ble_eq_true rfl) (fun a31 n31 => ?_)
  have hm := pm_new 30 hm n31 rfl
  refine x_h (show _ = _ from ph_new (a := a31) 30) ?_
  refine x_wid (kc' := 0) (ks' := 0) (Nat.le_of_ble_eq_true rfl) (Nat.le_of_ble_eq_true rfl) ?_
  refine x_putF (C := RX1) (T := TX1) (N := 33) (ci := 1) (ty := .array .int) 31 in_X1 tyX1 tyX1_ok nmX1 rfl (by decide) rfl rfl rfl q2859 dX1_init_173 (ph_o hm) (by decide) (by simp [mfsP]) rfl rfl rfl ?_
  refine x_h (ph_put (f := (pup (pup (pup (pup (pup (pup (pup (pup (pup (pup (pup (pup (pup (pup (pup (pup (pup (pup (pup (pup (fun _ => none) 1 a1) 3 a3) 4 a4) 5 a5) 9 a9) 11 a11) 13 a13) 14 a14) 18 a18) 19 a19) 20 a20) 21 a21) 22 a22) 23 a23) 24 a24) 25 a25) 26 a26) 27 a27) 28 a28) 29 a29)) (f' := pup (pup (pup (pup (pup (pup (pup (pup (pup (pup (pup (pup (pup (pup (pup (pup (pup (pup (pup (pup (pup (fun _ => none) 1 a1) 3 a3) 4 a4) 5 a5) 9 a9) 11 a11) 13 a13) 14 a14) 18 a18) 19 a19) 20 a20) 21 a21) 22 a22) 23 a23) 24 a24) 25 a25) 26 a26) 27 a27) 28 a28) 29 a29) 31 a31) hm) ?_
  refine x_h (ph_mh hm rfl) ?_
  have hM := ph_ok hm (pAll_ok rfl)
  have hfr := hm.2.2.2.2
  generalize hMd : ((o, _, _) : Mg) = M at hM
  have hMo : M.1 = o := by rw [← hMd]
  have hMt : ∀ q, M.2.2 q ≠ none → B q = none := by rw [← hMd]; exact hfr
  clear hMd hfr hm
  subst hMo
  refine x_iconst dX1_init_176 ?_
  refine x_istore_n (lv' := [(0, _), (1, _)]) dX1_init_177 rfl (by decide) ?_
  have L178 : ∀ (n178 : Nat) (k : Nat), ((26 : Int) - k) < (n178 : Int) → ((k : Int) ≤ 26) → V G X cX1_init 2 yX1_init none 1 (q_X1_init G B M.1) (21) (2216) 178 [(0, .ref (M.1)), (1, iv (k))] [] (mh G M B (s_in k)) (0) (0) := by
    intro n178
    induction n178 with
    | zero =>
      intro k hm hk
      exact absurd hm (by omega)
    | succ n178 ih178 =>
      intro k hm178 hk
      refine x_iload_n dX1_init_178 rfl ?_
      refine x_bipush dX1_init_179 ?_
      refine x_icmp_ge 234 dX1_init_181 rfl (by omega) (by omega) (fun c_181 => ?_) (fun c_181 => ?_)
      · exact x_vret rfl ⟨M, rfl, rfl, hM, by rw [s_init, show (26 : Int) = (k : Int) by omega], hMt⟩ dX1_init_234
      · refine x_aload_n dX1_init_184 rfl ?_
        refine m_get_digitOf hM dX1_init_185 ?_
        refine x_iload_n dX1_init_188 rfl ?_
        have J227 : V G X cX1_init 2 yX1_init none 1 (q_X1_init G B M.1) (21) (2216) 227 [(0, .ref (M.1)), (1, iv (k))] [iv (dig0 k), iv (k), .ref (M.2.1 9)] (mh G M B (s_in k)) (0) (0) := by
          refine m_ast hM (N := 26) rfl (by omega) (by decide) dX1_init_227 ?_
          refine x_iinc (lv' := [(0, _), (1, _)]) dX1_init_228 rfl rfl (by decide) ?_
          refine x_goto 178 dX1_init_231 rfl ?_
          refine x_h (congrArg (mh G M B) (in_s k)) ?_
          exact ih178 (k + 1) (by omega) (by omega)
        refine x_iload_n dX1_init_189 rfl ?_
        refine x_bipush dX1_init_190 ?_
        refine x_icmp_ge 203 dX1_init_192 rfl (by omega) (by omega) (fun c_192 => ?_) (fun c_192 => ?_)
        · refine x_iload_n dX1_init_203 rfl ?_
          refine x_bipush dX1_init_204 ?_
          refine x_icmp_ge 214 dX1_init_206 rfl (by omega) (by omega) (fun c_206 => ?_) (fun c_206 => ?_)
          · refine x_iload_n dX1_init_214 rfl ?_
            refine x_bipush dX1_init_215 ?_
            refine x_icmp_ge 225 dX1_init_217 rfl (by omega) (by omega) (fun c_217 => ?_) (fun c_217 => ?_)
            · refine x_bipush dX1_init_225 ?_
              exact x_ji (by unfold dig0; rw [if_neg (by omega), if_neg (by omega), if_neg (by omega)]) J227
            · refine x_bipush dX1_init_220 ?_
              refine x_goto 227 dX1_init_222 rfl ?_
              exact x_ji (by unfold dig0; rw [if_neg (by omega), if_neg (by omega), if_pos (by omega)]) J227
          · refine x_bipush dX1_init_209 ?_
            refine x_goto 227 dX1_init_211 rfl ?_
            exact x_ji (by unfold dig0; rw [if_neg (by omega), if_pos (by omega)]) J227
        · refine x_iconst dX1_init_195 ?_
          refine x_iload_n dX1_init_196 rfl ?_
          refine x_iconst dX1_init_197 ?_
          refine x_idiv dX1_init_198 (by omega) (by decide) ?_
          refine x_iadd dX1_init_199 ?_
          refine x_goto 227 dX1_init_200 rfl ?_
          exact x_ji (by unfold dig0; rw [if_pos (by omega)]) J227
  exact L178 (27) (0) (by decide) (by omega)
