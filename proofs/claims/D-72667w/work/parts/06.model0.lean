/-! THE MODEL's LAYER: its heap is mh G M B S: M its addresses, B the rest of the heap, S its state (scalars by field number, arrays by field number) -/
set_option maxRecDepth 100000
abbrev Ms : Type := (Nat → Int) × (Nat → Int → Int)
abbrev Mg : Type := Nat × (Nat → Nat) × (Nat → Option Nat)
def msz : Nat → Nat := fun k => match k with
  | 1 => 50
  | 3 => 14
  | 4 => 112
  | 5 => 14
  | 9 => 26
  | 11 => 10
  | 13 => 14
  | 14 => 196
  | 18 => 14
  | 19 => 112
  | 20 => 14
  | 21 => 26
  | 22 => 11
  | 23 => 11
  | 24 => 11
  | 25 => 11
  | 26 => 225
  | 27 => 1125
  | 28 => 14
  | 29 => 196
  | 31 => 10
  | _ => 0
def mfs (ad : Nat → Nat) (v : Nat → Int) : List Value := [iv (v 0), .ref (ad 1), iv (v 2), .ref (ad 3), .ref (ad 4), .ref (ad 5), iv (v 6), iv (v 7), iv (v 8), .ref (ad 9), iv (v 10), .ref (ad 11), iv (v 12), .ref (ad 13), .ref (ad 14), iv (v 15), iv (v 16), iv (v 17), .ref (ad 18), .ref (ad 19), .ref (ad 20), .ref (ad 21), .ref (ad 22), .ref (ad 23), .ref (ad 24), .ref (ad 25), .ref (ad 26), .ref (ad 27), .ref (ad 28), .ref (ad 29), iv (v 30), .ref (ad 31), jv (v 32)]
def mh (G : Gw) (M : Mg) (B : Hp) (S : Ms) : Hp := fun q => match M.2.2 q with
  | none => B q
  | some 0 => some (1, ob 1 (mfs M.2.1 S.1))
  | some (k + 1) => some (1, ia G (msz (k + 1)) (fun j => S.2 (k + 1) j))
def MOk (M : Mg) : Prop := M.2.2 M.1 = some 0 ∧ (∀ k, 0 < msz k → M.2.2 (M.2.1 k) = some k) ∧ (∀ q, M.2.2 q = some 0 → q = M.1) ∧ ∀ q k, M.2.2 q = some (k + 1) → q = M.2.1 (k + 1)
def sv (S : Ms) (k : Nat) (x : Int) : Ms := (fup S.1 k x, S.2)
def sa (S : Ms) (k : Nat) (z : Int) (x : Int) : Ms := (S.1, fun q i => if q = k ∧ i = z then x else S.2 q i)
theorem mh_o {G : Gw} {M : Mg} {B : Hp} {S : Ms} (hM : MOk M) : mh G M B S M.1 = some (1, ob 1 (mfs M.2.1 S.1)) := by simp [mh, hM.1]
theorem msz_pos {k : Nat} (hk : 0 < msz k) : ∃ j, k = j + 1 := by
  cases k with
  | zero => exact absurd hk (by decide)
  | succ j => exact ⟨j, rfl⟩
theorem mh_a {G : Gw} {M : Mg} {B : Hp} {S : Ms} (hM : MOk M) {k : Nat} (hk : 0 < msz k) : mh G M B S (M.2.1 k) = some (1, ia G (msz k) (fun j => S.2 k j)) := by
  obtain ⟨j, rfl⟩ := msz_pos hk
  simp [mh, hM.2.1 _ hk]
theorem mh_sv {G : Gw} {M : Mg} {B : Hp} {S : Ms} (hM : MOk M) (k : Nat) (x : Int) : hup (mh G M B S) M.1 (1, ob 1 (mfs M.2.1 (fup S.1 k x))) = mh G M B (sv S k x) := by
  funext q
  by_cases n : q = M.1
  · subst n; rw [hup_s, mh_o hM]; rfl
  · rw [hup_n n]
    unfold mh
    split
    · rfl
    · rename_i u; exact absurd (hM.2.2.1 q u) n
    · rfl
theorem mh_sa {G : Gw} {M : Mg} {B : Hp} {S : Ms} (hM : MOk M) {k : Nat} (hk : 0 < msz k) {z : Int} (hz : 0 ≤ z) (x : Int) : hup (mh G M B S) (M.2.1 k) (1, ia G (msz k) (fup (fun j => S.2 k j) z.toNat x)) = mh G M B (sa S k z x) := by
  obtain ⟨i, rfl⟩ := msz_pos hk
  funext q
  by_cases n : q = M.2.1 (i + 1)
  · subst n
    rw [hup_s, mh_a hM hk]
    have e : fup (fun j : Nat => S.2 (i + 1) (j : Int)) z.toNat x = fun j : Nat => (sa S (i + 1) z x).2 (i + 1) (j : Int) := by
      funext j
      simp only [fup, sa, true_and]
      by_cases u : j = z.toNat
      · rw [if_pos u, if_pos (by omega)]
      · rw [if_neg u, if_neg (by omega)]
    rw [e]
  · rw [hup_n n]
    unfold mh
    split
    · rfl
    · rfl
    · rename_i u
      have e := hM.2.2.2 q _ u
      rename_i kk
      have : kk ≠ i := fun z => n (by rw [e, z])
      simp [sa, this]
section CORE2
variable {G : Gw} {X : Cx} {cc : ByteArray} {nL : Nat} {y : MethodName} {ret : Option FieldType} {dp : Nat} {P : Option Value → Hp → Prop} {mc ms pc : Nat} {lv : List (Nat × Value)} {st : List Value} {h : Hp} {kc ks : Nat}
theorem x_jt {b : Bool} (hb : b = true) (kk : V G X cc nL y ret dp P mc ms pc lv (iv (bI b) :: st) h kc ks) : V G X cc nL y ret dp P mc ms pc lv (iv 1 :: st) h kc ks := by subst hb; exact kk
theorem x_jf {b : Bool} (hb : b = false) (kk : V G X cc nL y ret dp P mc ms pc lv (iv (bI b) :: st) h kc ks) : V G X cc nL y ret dp P mc ms pc lv (iv 0 :: st) h kc ks := by subst hb; exact kk
theorem x_jb {b b' : Bool} (hb : b' = b) (kk : V G X cc nL y ret dp P mc ms pc lv (iv (bI b) :: st) h kc ks) : V G X cc nL y ret dp P mc ms pc lv (iv (bI b') :: st) h kc ks := by subst hb; exact kk
theorem x_ji {a a' : Int} (hb : a' = a) (kk : V G X cc nL y ret dp P mc ms pc lv (iv a :: st) h kc ks) : V G X cc nL y ret dp P mc ms pc lv (iv a' :: st) h kc ks := by subst hb; exact kk
theorem x_lvp {lv' : List (Nat × Value)} (ks' : List Nat) (hs : lv_pick lv ks' = lv') (kk : V G X cc nL y ret dp P mc ms pc lv' st h kc ks) : V G X cc nL y ret dp P mc ms pc lv st h kc ks := x_lv (fun q hq => by
  rw [← hs] at hq
  obtain ⟨k, -, hk⟩ := List.mem_filterMap.mp hq
  exact List.mem_of_getElem? hk) kk
theorem nar_b (b : Bool) : narrow .boolean (.int (Int32.ofInt (bI b))) = .int (Int32.ofInt (bI b)) := by cases b <;> decide
theorem rb1 {b : Bool} (h : b = true) : some (iv 1) = some (iv (bI b)) := by rw [h]; rfl
theorem rb0 {b : Bool} (h : b = false) : some (iv 0) = some (iv (bI b)) := by rw [h]; rfl
theorem ri {a b : Int} (h : a = b) : some (iv a) = some (iv b) := by rw [h]
end CORE2
section MODEL0
variable {G : Gw} {X : Cx} {cc : ByteArray} {nL : Nat} {y : MethodName} {ret : Option FieldType} {dp : Nat} {P : Option Value → Hp → Prop} {mc ms pc : Nat} {lv : List (Nat × Value)} {st : List Value} {kc ks : Nat} {M : Mg} {B : Hp} {S : Ms}
theorem m_ald (hM : MOk M) {k N : Nat} {z : Int} (hN : msz k = N) (hz : 0 ≤ z ∧ z < N) (hb : N ≤ 1125) (hd : decode cc pc = .ok (.iaload, 1)) (kk : V G X cc nL y ret dp P mc ms (pc + 1) lv (iv (S.2 k z) :: st) (mh G M B S) kc ks) : V G X cc nL y ret dp P mc ms pc lv (iv z :: .ref (M.2.1 k) :: st) (mh G M B S) kc ks := by
  subst hN
  refine x_iald (mh_a hM (by omega)) hz (by omega) hd ?_
  show V G X cc nL y ret dp P mc ms (pc + 1) lv (iv (S.2 k (z.toNat : Int)) :: st) (mh G M B S) kc ks
  rw [Int.toNat_of_nonneg hz.1]
  exact kk
theorem m_ast (hM : MOk M) {k N : Nat} {z x : Int} (hN : msz k = N) (hz : 0 ≤ z ∧ z < N) (hb : N ≤ 1125) (hd : decode cc pc = .ok (.iastore, 1)) (kk : V G X cc nL y ret dp P mc ms (pc + 1) lv st (mh G M B (sa S k z x)) kc ks) : V G X cc nL y ret dp P mc ms pc lv (iv x :: iv z :: .ref (M.2.1 k) :: st) (mh G M B S) kc ks := by
  subst hN
  refine x_iast (mh_a hM (by omega)) (by decide) hz (by omega) hd ?_
  rw [mh_sa hM (by omega) hz.1]
  exact kk
theorem m_get_pageLength (hM : MOk M) (hd : decode cc pc = .ok (.getfield 77, 3)) (kk : V G X cc nL y ret dp P mc ms (pc + 3) lv (iv (S.1 0) :: st) (mh G M B S) kc ks) (hy : y.cls = RX1 := by rfl) : V G X cc nL y ret dp P mc ms pc lv (.ref M.1 :: st) (mh G M B S) kc ks :=
  x_get (C := RX1) (T := TX1) (N := 33) (ci := 1) 0 in_X1 rfl (by decide) (by rw [hy]; exact q2828) hd (mh_o hM) rfl kk
theorem m_put_pageLength (hM : MOk M) {x : Int} (hd : decode cc pc = .ok (.putfield 77, 3)) (kk : V G X cc nL y ret dp P mc ms (pc + 3) lv st (mh G M B (sv S 0 x)) kc ks) (hy : y.cls = RX1 := by rfl) : V G X cc nL y ret dp P mc ms pc lv (iv x :: .ref M.1 :: st) (mh G M B S) kc ks := by
  refine x_put (C := RX1) (T := TX1) (N := 33) (ci := 1) (ty := .int) 0 in_X1 tyX1 tyX1_ok nmX1 rfl (by decide) rfl (by rw [hy]; exact q2828) hd (mh_o hM) (by decide) (by simp [mfs]) rfl rfl rfl ?_
  rw [show (mfs M.2.1 S.1).set 0 (iv x) = mfs M.2.1 (fup S.1 0 x) from rfl, mh_sv hM]
  exact kk
theorem m_get_page (hM : MOk M) (hd : decode cc pc = .ok (.getfield 7, 3)) (kk : V G X cc nL y ret dp P mc ms (pc + 3) lv (.ref (M.2.1 1) :: st) (mh G M B S) kc ks) (hy : y.cls = RX1 := by rfl) : V G X cc nL y ret dp P mc ms pc lv (.ref M.1 :: st) (mh G M B S) kc ks :=
  x_get (C := RX1) (T := TX1) (N := 33) (ci := 1) 1 in_X1 rfl (by decide) (by rw [hy]; exact q2829) hd (mh_o hM) rfl kk
theorem m_get_names (hM : MOk M) (hd : decode cc pc = .ok (.getfield 109, 3)) (kk : V G X cc nL y ret dp P mc ms (pc + 3) lv (iv (S.1 2) :: st) (mh G M B S) kc ks) (hy : y.cls = RX1 := by rfl) : V G X cc nL y ret dp P mc ms pc lv (.ref M.1 :: st) (mh G M B S) kc ks :=
  x_get (C := RX1) (T := TX1) (N := 33) (ci := 1) 2 in_X1 rfl (by decide) (by rw [hy]; exact q2830) hd (mh_o hM) rfl kk
theorem m_put_names (hM : MOk M) {x : Int} (hd : decode cc pc = .ok (.putfield 109, 3)) (kk : V G X cc nL y ret dp P mc ms (pc + 3) lv st (mh G M B (sv S 2 x)) kc ks) (hy : y.cls = RX1 := by rfl) : V G X cc nL y ret dp P mc ms pc lv (iv x :: .ref M.1 :: st) (mh G M B S) kc ks := by
  refine x_put (C := RX1) (T := TX1) (N := 33) (ci := 1) (ty := .int) 2 in_X1 tyX1 tyX1_ok nmX1 rfl (by decide) rfl (by rw [hy]; exact q2830) hd (mh_o hM) (by decide) (by simp [mfs]) rfl rfl rfl ?_
  rw [show (mfs M.2.1 S.1).set 2 (iv x) = mfs M.2.1 (fup S.1 2 x) from rfl, mh_sv hM]
  exact kk
theorem m_get_length (hM : MOk M) (hd : decode cc pc = .ok (.getfield 13, 3)) (kk : V G X cc nL y ret dp P mc ms (pc + 3) lv (.ref (M.2.1 3) :: st) (mh G M B S) kc ks) (hy : y.cls = RX1 := by rfl) : V G X cc nL y ret dp P mc ms pc lv (.ref M.1 :: st) (mh G M B S) kc ks :=
  x_get (C := RX1) (T := TX1) (N := 33) (ci := 1) 3 in_X1 rfl (by decide) (by rw [hy]; exact q2831) hd (mh_o hM) rfl kk
theorem m_get_letters (hM : MOk M) (hd : decode cc pc = .ok (.getfield 16, 3)) (kk : V G X cc nL y ret dp P mc ms (pc + 3) lv (.ref (M.2.1 4) :: st) (mh G M B S) kc ks) (hy : y.cls = RX1 := by rfl) : V G X cc nL y ret dp P mc ms pc lv (.ref M.1 :: st) (mh G M B S) kc ks :=
  x_get (C := RX1) (T := TX1) (N := 33) (ci := 1) 4 in_X1 rfl (by decide) (by rw [hy]; exact q2832) hd (mh_o hM) rfl kk
theorem m_get_uses (hM : MOk M) (hd : decode cc pc = .ok (.getfield 19, 3)) (kk : V G X cc nL y ret dp P mc ms (pc + 3) lv (.ref (M.2.1 5) :: st) (mh G M B S) kc ks) (hy : y.cls = RX1 := by rfl) : V G X cc nL y ret dp P mc ms pc lv (.ref M.1 :: st) (mh G M B S) kc ks :=
  x_get (C := RX1) (T := TX1) (N := 33) (ci := 1) 5 in_X1 rfl (by decide) (by rw [hy]; exact q2833) hd (mh_o hM) rfl kk
theorem m_get_listsRead (hM : MOk M) (hd : decode cc pc = .ok (.getfield 127, 3)) (kk : V G X cc nL y ret dp P mc ms (pc + 3) lv (iv (S.1 6) :: st) (mh G M B S) kc ks) (hy : y.cls = RX1 := by rfl) : V G X cc nL y ret dp P mc ms pc lv (.ref M.1 :: st) (mh G M B S) kc ks :=
  x_get (C := RX1) (T := TX1) (N := 33) (ci := 1) 6 in_X1 rfl (by decide) (by rw [hy]; exact q2834) hd (mh_o hM) rfl kk
theorem m_put_listsRead (hM : MOk M) {x : Int} (hd : decode cc pc = .ok (.putfield 127, 3)) (kk : V G X cc nL y ret dp P mc ms (pc + 3) lv st (mh G M B (sv S 6 x)) kc ks) (hy : y.cls = RX1 := by rfl) : V G X cc nL y ret dp P mc ms pc lv (iv x :: .ref M.1 :: st) (mh G M B S) kc ks := by
  refine x_put (C := RX1) (T := TX1) (N := 33) (ci := 1) (ty := .int) 6 in_X1 tyX1 tyX1_ok nmX1 rfl (by decide) rfl (by rw [hy]; exact q2834) hd (mh_o hM) (by decide) (by simp [mfs]) rfl rfl rfl ?_
  rw [show (mfs M.2.1 S.1).set 6 (iv x) = mfs M.2.1 (fup S.1 6 x) from rfl, mh_sv hM]
  exact kk
theorem m_get_dialsRead (hM : MOk M) (hd : decode cc pc = .ok (.getfield 136, 3)) (kk : V G X cc nL y ret dp P mc ms (pc + 3) lv (iv (S.1 7) :: st) (mh G M B S) kc ks) (hy : y.cls = RX1 := by rfl) : V G X cc nL y ret dp P mc ms pc lv (.ref M.1 :: st) (mh G M B S) kc ks :=
  x_get (C := RX1) (T := TX1) (N := 33) (ci := 1) 7 in_X1 rfl (by decide) (by rw [hy]; exact q2835) hd (mh_o hM) rfl kk
theorem m_put_dialsRead (hM : MOk M) {x : Int} (hd : decode cc pc = .ok (.putfield 136, 3)) (kk : V G X cc nL y ret dp P mc ms (pc + 3) lv st (mh G M B (sv S 7 x)) kc ks) (hy : y.cls = RX1 := by rfl) : V G X cc nL y ret dp P mc ms pc lv (iv x :: .ref M.1 :: st) (mh G M B S) kc ks := by
  refine x_put (C := RX1) (T := TX1) (N := 33) (ci := 1) (ty := .int) 7 in_X1 tyX1 tyX1_ok nmX1 rfl (by decide) rfl (by rw [hy]; exact q2835) hd (mh_o hM) (by decide) (by simp [mfs]) rfl rfl rfl ?_
  rw [show (mfs M.2.1 S.1).set 7 (iv x) = mfs M.2.1 (fup S.1 7 x) from rfl, mh_sv hM]
  exact kk
theorem m_get_gone (hM : MOk M) (hd : decode cc pc = .ok (.getfield 142, 3)) (kk : V G X cc nL y ret dp P mc ms (pc + 3) lv (iv (S.1 8) :: st) (mh G M B S) kc ks) (hy : y.cls = RX1 := by rfl) : V G X cc nL y ret dp P mc ms pc lv (.ref M.1 :: st) (mh G M B S) kc ks :=
  x_get (C := RX1) (T := TX1) (N := 33) (ci := 1) 8 in_X1 rfl (by decide) (by rw [hy]; exact q2836) hd (mh_o hM) rfl kk
theorem m_put_gone (hM : MOk M) {x : Int} (hd : decode cc pc = .ok (.putfield 142, 3)) (kk : V G X cc nL y ret dp P mc ms (pc + 3) lv st (mh G M B (sv S 8 x)) kc ks) (hy : y.cls = RX1 := by rfl) : V G X cc nL y ret dp P mc ms pc lv (iv x :: .ref M.1 :: st) (mh G M B S) kc ks := by
  refine x_put (C := RX1) (T := TX1) (N := 33) (ci := 1) (ty := .int) 8 in_X1 tyX1 tyX1_ok nmX1 rfl (by decide) rfl (by rw [hy]; exact q2836) hd (mh_o hM) (by decide) (by simp [mfs]) rfl rfl rfl ?_
  rw [show (mfs M.2.1 S.1).set 8 (iv x) = mfs M.2.1 (fup S.1 8 x) from rfl, mh_sv hM]
  exact kk
theorem m_get_digitOf (hM : MOk M) (hd : decode cc pc = .ok (.getfield 22, 3)) (kk : V G X cc nL y ret dp P mc ms (pc + 3) lv (.ref (M.2.1 9) :: st) (mh G M B S) kc ks) (hy : y.cls = RX1 := by rfl) : V G X cc nL y ret dp P mc ms pc lv (.ref M.1 :: st) (mh G M B S) kc ks :=
  x_get (C := RX1) (T := TX1) (N := 33) (ci := 1) 9 in_X1 rfl (by decide) (by rw [hy]; exact q2837) hd (mh_o hM) rfl kk
theorem m_get_typedMany (hM : MOk M) (hd : decode cc pc = .ok (.getfield 199, 3)) (kk : V G X cc nL y ret dp P mc ms (pc + 3) lv (iv (S.1 10) :: st) (mh G M B S) kc ks) (hy : y.cls = RX1 := by rfl) : V G X cc nL y ret dp P mc ms pc lv (.ref M.1 :: st) (mh G M B S) kc ks :=
  x_get (C := RX1) (T := TX1) (N := 33) (ci := 1) 10 in_X1 rfl (by decide) (by rw [hy]; exact q2838) hd (mh_o hM) rfl kk
theorem m_put_typedMany (hM : MOk M) {x : Int} (hd : decode cc pc = .ok (.putfield 199, 3)) (kk : V G X cc nL y ret dp P mc ms (pc + 3) lv st (mh G M B (sv S 10 x)) kc ks) (hy : y.cls = RX1 := by rfl) : V G X cc nL y ret dp P mc ms pc lv (iv x :: .ref M.1 :: st) (mh G M B S) kc ks := by
  refine x_put (C := RX1) (T := TX1) (N := 33) (ci := 1) (ty := .int) 10 in_X1 tyX1 tyX1_ok nmX1 rfl (by decide) rfl (by rw [hy]; exact q2838) hd (mh_o hM) (by decide) (by simp [mfs]) rfl rfl rfl ?_
  rw [show (mfs M.2.1 S.1).set 10 (iv x) = mfs M.2.1 (fup S.1 10 x) from rfl, mh_sv hM]
  exact kk
theorem m_get_typedAt (hM : MOk M) (hd : decode cc pc = .ok (.getfield 25, 3)) (kk : V G X cc nL y ret dp P mc ms (pc + 3) lv (.ref (M.2.1 11) :: st) (mh G M B S) kc ks) (hy : y.cls = RX1 := by rfl) : V G X cc nL y ret dp P mc ms pc lv (.ref M.1 :: st) (mh G M B S) kc ks :=
  x_get (C := RX1) (T := TX1) (N := 33) (ci := 1) 11 in_X1 rfl (by decide) (by rw [hy]; exact q2839) hd (mh_o hM) rfl kk
theorem m_get_width (hM : MOk M) (hd : decode cc pc = .ok (.getfield 130, 3)) (kk : V G X cc nL y ret dp P mc ms (pc + 3) lv (iv (S.1 12) :: st) (mh G M B S) kc ks) (hy : y.cls = RX1 := by rfl) : V G X cc nL y ret dp P mc ms pc lv (.ref M.1 :: st) (mh G M B S) kc ks :=
  x_get (C := RX1) (T := TX1) (N := 33) (ci := 1) 12 in_X1 rfl (by decide) (by rw [hy]; exact q2840) hd (mh_o hM) rfl kk
theorem m_put_width (hM : MOk M) {x : Int} (hd : decode cc pc = .ok (.putfield 130, 3)) (kk : V G X cc nL y ret dp P mc ms (pc + 3) lv st (mh G M B (sv S 12 x)) kc ks) (hy : y.cls = RX1 := by rfl) : V G X cc nL y ret dp P mc ms pc lv (iv x :: .ref M.1 :: st) (mh G M B S) kc ks := by
  refine x_put (C := RX1) (T := TX1) (N := 33) (ci := 1) (ty := .int) 12 in_X1 tyX1 tyX1_ok nmX1 rfl (by decide) rfl (by rw [hy]; exact q2840) hd (mh_o hM) (by decide) (by simp [mfs]) rfl rfl rfl ?_
  rw [show (mfs M.2.1 S.1).set 12 (iv x) = mfs M.2.1 (fup S.1 12 x) from rfl, mh_sv hM]
  exact kk
theorem m_get_pathLength (hM : MOk M) (hd : decode cc pc = .ok (.getfield 28, 3)) (kk : V G X cc nL y ret dp P mc ms (pc + 3) lv (.ref (M.2.1 13) :: st) (mh G M B S) kc ks) (hy : y.cls = RX1 := by rfl) : V G X cc nL y ret dp P mc ms pc lv (.ref M.1 :: st) (mh G M B S) kc ks :=
  x_get (C := RX1) (T := TX1) (N := 33) (ci := 1) 13 in_X1 rfl (by decide) (by rw [hy]; exact q2841) hd (mh_o hM) rfl kk
theorem m_get_steps (hM : MOk M) (hd : decode cc pc = .ok (.getfield 31, 3)) (kk : V G X cc nL y ret dp P mc ms (pc + 3) lv (.ref (M.2.1 14) :: st) (mh G M B S) kc ks) (hy : y.cls = RX1 := by rfl) : V G X cc nL y ret dp P mc ms pc lv (.ref M.1 :: st) (mh G M B S) kc ks :=
  x_get (C := RX1) (T := TX1) (N := 33) (ci := 1) 14 in_X1 rfl (by decide) (by rw [hy]; exact q2842) hd (mh_o hM) rfl kk
theorem m_get_built (hM : MOk M) (hd : decode cc pc = .ok (.getfield 259, 3)) (kk : V G X cc nL y ret dp P mc ms (pc + 3) lv (iv (S.1 15) :: st) (mh G M B S) kc ks) (hy : y.cls = RX1 := by rfl) : V G X cc nL y ret dp P mc ms pc lv (.ref M.1 :: st) (mh G M B S) kc ks :=
  x_get (C := RX1) (T := TX1) (N := 33) (ci := 1) 15 in_X1 rfl (by decide) (by rw [hy]; exact q2843) hd (mh_o hM) rfl kk
theorem m_put_built (hM : MOk M) {x : Int} (hd : decode cc pc = .ok (.putfield 259, 3)) (kk : V G X cc nL y ret dp P mc ms (pc + 3) lv st (mh G M B (sv S 15 x)) kc ks) (hy : y.cls = RX1 := by rfl) : V G X cc nL y ret dp P mc ms pc lv (iv x :: .ref M.1 :: st) (mh G M B S) kc ks := by
  refine x_put (C := RX1) (T := TX1) (N := 33) (ci := 1) (ty := .int) 15 in_X1 tyX1 tyX1_ok nmX1 rfl (by decide) rfl (by rw [hy]; exact q2843) hd (mh_o hM) (by decide) (by simp [mfs]) rfl rfl rfl ?_
  rw [show (mfs M.2.1 S.1).set 15 (iv x) = mfs M.2.1 (fup S.1 15 x) from rfl, mh_sv hM]
  exact kk
theorem m_get_stage (hM : MOk M) (hd : decode cc pc = .ok (.getfield 81, 3)) (kk : V G X cc nL y ret dp P mc ms (pc + 3) lv (iv (S.1 16) :: st) (mh G M B S) kc ks) (hy : y.cls = RX1 := by rfl) : V G X cc nL y ret dp P mc ms pc lv (.ref M.1 :: st) (mh G M B S) kc ks :=
  x_get (C := RX1) (T := TX1) (N := 33) (ci := 1) 16 in_X1 rfl (by decide) (by rw [hy]; exact q2844) hd (mh_o hM) rfl kk
theorem m_put_stage (hM : MOk M) {x : Int} (hd : decode cc pc = .ok (.putfield 81, 3)) (kk : V G X cc nL y ret dp P mc ms (pc + 3) lv st (mh G M B (sv S 16 x)) kc ks) (hy : y.cls = RX1 := by rfl) : V G X cc nL y ret dp P mc ms pc lv (iv x :: .ref M.1 :: st) (mh G M B S) kc ks := by
  refine x_put (C := RX1) (T := TX1) (N := 33) (ci := 1) (ty := .int) 16 in_X1 tyX1 tyX1_ok nmX1 rfl (by decide) rfl (by rw [hy]; exact q2844) hd (mh_o hM) (by decide) (by simp [mfs]) rfl rfl rfl ?_
  rw [show (mfs M.2.1 S.1).set 16 (iv x) = mfs M.2.1 (fup S.1 16 x) from rfl, mh_sv hM]
  exact kk
theorem m_get_newNames (hM : MOk M) (hd : decode cc pc = .ok (.getfield 84, 3)) (kk : V G X cc nL y ret dp P mc ms (pc + 3) lv (iv (S.1 17) :: st) (mh G M B S) kc ks) (hy : y.cls = RX1 := by rfl) : V G X cc nL y ret dp P mc ms pc lv (.ref M.1 :: st) (mh G M B S) kc ks :=
  x_get (C := RX1) (T := TX1) (N := 33) (ci := 1) 17 in_X1 rfl (by decide) (by rw [hy]; exact q2845) hd (mh_o hM) rfl kk
theorem m_put_newNames (hM : MOk M) {x : Int} (hd : decode cc pc = .ok (.putfield 84, 3)) (kk : V G X cc nL y ret dp P mc ms (pc + 3) lv st (mh G M B (sv S 17 x)) kc ks) (hy : y.cls = RX1 := by rfl) : V G X cc nL y ret dp P mc ms pc lv (iv x :: .ref M.1 :: st) (mh G M B S) kc ks := by
  refine x_put (C := RX1) (T := TX1) (N := 33) (ci := 1) (ty := .int) 17 in_X1 tyX1 tyX1_ok nmX1 rfl (by decide) rfl (by rw [hy]; exact q2845) hd (mh_o hM) (by decide) (by simp [mfs]) rfl rfl rfl ?_
  rw [show (mfs M.2.1 S.1).set 17 (iv x) = mfs M.2.1 (fup S.1 17 x) from rfl, mh_sv hM]
  exact kk
theorem m_get_newLength (hM : MOk M) (hd : decode cc pc = .ok (.getfield 34, 3)) (kk : V G X cc nL y ret dp P mc ms (pc + 3) lv (.ref (M.2.1 18) :: st) (mh G M B S) kc ks) (hy : y.cls = RX1 := by rfl) : V G X cc nL y ret dp P mc ms pc lv (.ref M.1 :: st) (mh G M B S) kc ks :=
  x_get (C := RX1) (T := TX1) (N := 33) (ci := 1) 18 in_X1 rfl (by decide) (by rw [hy]; exact q2846) hd (mh_o hM) rfl kk
theorem m_get_newLetters (hM : MOk M) (hd : decode cc pc = .ok (.getfield 37, 3)) (kk : V G X cc nL y ret dp P mc ms (pc + 3) lv (.ref (M.2.1 19) :: st) (mh G M B S) kc ks) (hy : y.cls = RX1 := by rfl) : V G X cc nL y ret dp P mc ms pc lv (.ref M.1 :: st) (mh G M B S) kc ks :=
  x_get (C := RX1) (T := TX1) (N := 33) (ci := 1) 19 in_X1 rfl (by decide) (by rw [hy]; exact q2847) hd (mh_o hM) rfl kk
theorem m_get_newUses (hM : MOk M) (hd : decode cc pc = .ok (.getfield 40, 3)) (kk : V G X cc nL y ret dp P mc ms (pc + 3) lv (.ref (M.2.1 20) :: st) (mh G M B S) kc ks) (hy : y.cls = RX1 := by rfl) : V G X cc nL y ret dp P mc ms pc lv (.ref M.1 :: st) (mh G M B S) kc ks :=
  x_get (C := RX1) (T := TX1) (N := 33) (ci := 1) 20 in_X1 rfl (by decide) (by rw [hy]; exact q2848) hd (mh_o hM) rfl kk
theorem m_get_newDigit (hM : MOk M) (hd : decode cc pc = .ok (.getfield 43, 3)) (kk : V G X cc nL y ret dp P mc ms (pc + 3) lv (.ref (M.2.1 21) :: st) (mh G M B S) kc ks) (hy : y.cls = RX1 := by rfl) : V G X cc nL y ret dp P mc ms pc lv (.ref M.1 :: st) (mh G M B S) kc ks :=
  x_get (C := RX1) (T := TX1) (N := 33) (ci := 1) 21 in_X1 rfl (by decide) (by rw [hy]; exact q2849) hd (mh_o hM) rfl kk
theorem m_get_ways (hM : MOk M) (hd : decode cc pc = .ok (.getfield 46, 3)) (kk : V G X cc nL y ret dp P mc ms (pc + 3) lv (.ref (M.2.1 22) :: st) (mh G M B S) kc ks) (hy : y.cls = RX1 := by rfl) : V G X cc nL y ret dp P mc ms pc lv (.ref M.1 :: st) (mh G M B S) kc ks :=
  x_get (C := RX1) (T := TX1) (N := 33) (ci := 1) 22 in_X1 rfl (by decide) (by rw [hy]; exact q2850) hd (mh_o hM) rfl kk
theorem m_get_loose (hM : MOk M) (hd : decode cc pc = .ok (.getfield 49, 3)) (kk : V G X cc nL y ret dp P mc ms (pc + 3) lv (.ref (M.2.1 23) :: st) (mh G M B S) kc ks) (hy : y.cls = RX1 := by rfl) : V G X cc nL y ret dp P mc ms pc lv (.ref M.1 :: st) (mh G M B S) kc ks :=
  x_get (C := RX1) (T := TX1) (N := 33) (ci := 1) 23 in_X1 rfl (by decide) (by rw [hy]; exact q2851) hd (mh_o hM) rfl kk
theorem m_get_sizes (hM : MOk M) (hd : decode cc pc = .ok (.getfield 52, 3)) (kk : V G X cc nL y ret dp P mc ms (pc + 3) lv (.ref (M.2.1 24) :: st) (mh G M B S) kc ks) (hy : y.cls = RX1 := by rfl) : V G X cc nL y ret dp P mc ms pc lv (.ref M.1 :: st) (mh G M B S) kc ks :=
  x_get (C := RX1) (T := TX1) (N := 33) (ci := 1) 24 in_X1 rfl (by decide) (by rw [hy]; exact q2852) hd (mh_o hM) rfl kk
theorem m_get_looseWays (hM : MOk M) (hd : decode cc pc = .ok (.getfield 55, 3)) (kk : V G X cc nL y ret dp P mc ms (pc + 3) lv (.ref (M.2.1 25) :: st) (mh G M B S) kc ks) (hy : y.cls = RX1 := by rfl) : V G X cc nL y ret dp P mc ms pc lv (.ref M.1 :: st) (mh G M B S) kc ks :=
  x_get (C := RX1) (T := TX1) (N := 33) (ci := 1) 25 in_X1 rfl (by decide) (by rw [hy]; exact q2853) hd (mh_o hM) rfl kk
theorem m_get_costs (hM : MOk M) (hd : decode cc pc = .ok (.getfield 58, 3)) (kk : V G X cc nL y ret dp P mc ms (pc + 3) lv (.ref (M.2.1 26) :: st) (mh G M B S) kc ks) (hy : y.cls = RX1 := by rfl) : V G X cc nL y ret dp P mc ms pc lv (.ref M.1 :: st) (mh G M B S) kc ks :=
  x_get (C := RX1) (T := TX1) (N := 33) (ci := 1) 26 in_X1 rfl (by decide) (by rw [hy]; exact q2854) hd (mh_o hM) rfl kk
theorem m_get_parts (hM : MOk M) (hd : decode cc pc = .ok (.getfield 61, 3)) (kk : V G X cc nL y ret dp P mc ms (pc + 3) lv (.ref (M.2.1 27) :: st) (mh G M B S) kc ks) (hy : y.cls = RX1 := by rfl) : V G X cc nL y ret dp P mc ms pc lv (.ref M.1 :: st) (mh G M B S) kc ks :=
  x_get (C := RX1) (T := TX1) (N := 33) (ci := 1) 27 in_X1 rfl (by decide) (by rw [hy]; exact q2855) hd (mh_o hM) rfl kk
theorem m_get_newPathLength (hM : MOk M) (hd : decode cc pc = .ok (.getfield 64, 3)) (kk : V G X cc nL y ret dp P mc ms (pc + 3) lv (.ref (M.2.1 28) :: st) (mh G M B S) kc ks) (hy : y.cls = RX1 := by rfl) : V G X cc nL y ret dp P mc ms pc lv (.ref M.1 :: st) (mh G M B S) kc ks :=
  x_get (C := RX1) (T := TX1) (N := 33) (ci := 1) 28 in_X1 rfl (by decide) (by rw [hy]; exact q2856) hd (mh_o hM) rfl kk
theorem m_get_newSteps (hM : MOk M) (hd : decode cc pc = .ok (.getfield 67, 3)) (kk : V G X cc nL y ret dp P mc ms (pc + 3) lv (.ref (M.2.1 29) :: st) (mh G M B S) kc ks) (hy : y.cls = RX1 := by rfl) : V G X cc nL y ret dp P mc ms pc lv (.ref M.1 :: st) (mh G M B S) kc ks :=
  x_get (C := RX1) (T := TX1) (N := 33) (ci := 1) 29 in_X1 rfl (by decide) (by rw [hy]; exact q2857) hd (mh_o hM) rfl kk
theorem m_get_asked (hM : MOk M) (hd : decode cc pc = .ok (.getfield 271, 3)) (kk : V G X cc nL y ret dp P mc ms (pc + 3) lv (iv (S.1 30) :: st) (mh G M B S) kc ks) (hy : y.cls = RX1 := by rfl) : V G X cc nL y ret dp P mc ms pc lv (.ref M.1 :: st) (mh G M B S) kc ks :=
  x_get (C := RX1) (T := TX1) (N := 33) (ci := 1) 30 in_X1 rfl (by decide) (by rw [hy]; exact q2858) hd (mh_o hM) rfl kk
theorem m_put_asked (hM : MOk M) {x : Int} (hd : decode cc pc = .ok (.putfield 271, 3)) (kk : V G X cc nL y ret dp P mc ms (pc + 3) lv st (mh G M B (sv S 30 x)) kc ks) (hy : y.cls = RX1 := by rfl) : V G X cc nL y ret dp P mc ms pc lv (iv x :: .ref M.1 :: st) (mh G M B S) kc ks := by
  refine x_put (C := RX1) (T := TX1) (N := 33) (ci := 1) (ty := .int) 30 in_X1 tyX1 tyX1_ok nmX1 rfl (by decide) rfl (by rw [hy]; exact q2858) hd (mh_o hM) (by decide) (by simp [mfs]) rfl rfl rfl ?_
  rw [show (mfs M.2.1 S.1).set 30 (iv x) = mfs M.2.1 (fup S.1 30 x) from rfl, mh_sv hM]
  exact kk
theorem m_get_askedAt (hM : MOk M) (hd : decode cc pc = .ok (.getfield 70, 3)) (kk : V G X cc nL y ret dp P mc ms (pc + 3) lv (.ref (M.2.1 31) :: st) (mh G M B S) kc ks) (hy : y.cls = RX1 := by rfl) : V G X cc nL y ret dp P mc ms pc lv (.ref M.1 :: st) (mh G M B S) kc ks :=
  x_get (C := RX1) (T := TX1) (N := 33) (ci := 1) 31 in_X1 rfl (by decide) (by rw [hy]; exact q2859) hd (mh_o hM) rfl kk
theorem m_get_h (hM : MOk M) (hd : decode cc pc = .ok (.getfield 300, 3)) (kk : V G X cc nL y ret dp P mc ms (pc + 3) lv (jv (S.1 32) :: st) (mh G M B S) kc ks) (hy : y.cls = RX1 := by rfl) : V G X cc nL y ret dp P mc ms pc lv (.ref M.1 :: st) (mh G M B S) kc ks :=
  x_get (C := RX1) (T := TX1) (N := 33) (ci := 1) 32 in_X1 rfl (by decide) (by rw [hy]; exact q2860) hd (mh_o hM) rfl kk
theorem m_put_h (hM : MOk M) {x : Int} (hd : decode cc pc = .ok (.putfield 300, 3)) (kk : V G X cc nL y ret dp P mc ms (pc + 3) lv st (mh G M B (sv S 32 x)) kc ks) (hy : y.cls = RX1 := by rfl) : V G X cc nL y ret dp P mc ms pc lv (jv x :: .ref M.1 :: st) (mh G M B S) kc ks := by
  refine x_put (C := RX1) (T := TX1) (N := 33) (ci := 1) (ty := .long) 32 in_X1 tyX1 tyX1_ok nmX1 rfl (by decide) rfl (by rw [hy]; exact q2860) hd (mh_o hM) (by decide) (by simp [mfs]) rfl rfl rfl ?_
  rw [show (mfs M.2.1 S.1).set 32 (jv x) = mfs M.2.1 (fup S.1 32 x) from rfl, mh_sv hM]
  exact kk
end MODEL0
