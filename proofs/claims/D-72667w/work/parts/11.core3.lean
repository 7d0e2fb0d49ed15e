/-! CORE 3: remainder and quotient, a long's end; words for what stays -/
section CORE3
variable {G : Gw} {X : Cx} {cc : ByteArray} {nL : Nat} {y : MethodName} {ret : Option FieldType} {dp : Nat} {P : Option Value → Hp → Prop} {mc ms pc : Nat} {lv : List (Nat × Value)} {st : List Value} {h : Hp} {kc ks : Nat}
theorem ofInt_nI {a : Int} (h : 0 ≤ a) : Int32.ofInt a = nI a.toNat := by
  rw [nI, ← Int32.ofInt_eq_ofNat, Int.toNat_of_nonneg h]
theorem x_irem {a b : Int} (hd : decode cc pc = .ok (.irem, 1)) (ha : 0 ≤ a ∧ a ≤ 2147483647) (hb : 0 < b ∧ b ≤ 2147483647) (kk : V G X cc nL y ret dp P mc ms (pc + 1) lv (iv (a % b) :: st) h kc ks) : V G X cc nL y ret dp P mc ms pc lv (iv b :: iv a :: st) h kc ks := by
  obtain ⟨p, l, e, s, m, args, below, meth, c⟩ := X
  intro O H locs cells slots ls r1 r2 r3 r4 r5
  have kk := kk O H locs cells slots ls r1 r2 r3 r4 r5
  have e0 : Int32.ofInt (a % b) = Int32.ofInt a - Int32.ofInt a / Int32.ofInt b * Int32.ofInt b := by
    rw [ofInt_nI ha.1, ofInt_nI (Int.le_of_lt hb.1), pk_rem (by omega) (by omega) (by omega), ofInt_nI (Int.emod_nonneg _ (by omega)), Int.toNat_emod ha.1 (by omega)]
  rw [iv, e0] at kk
  refine lv_irem O.1 O.2.1 hd (fun z => ?_) kk
  have := congrArg Int32.toInt z
  rw [ivT (by omega)] at this
  exact absurd this (by show ¬ b = 0; omega)
theorem x_idiv {a b : Int} (hd : decode cc pc = .ok (.idiv, 1)) (ha : 0 ≤ a ∧ a ≤ 2147483647) (hb : 0 < b ∧ b ≤ 2147483647) (kk : V G X cc nL y ret dp P mc ms (pc + 1) lv (iv (a / b) :: st) h kc ks) : V G X cc nL y ret dp P mc ms pc lv (iv b :: iv a :: st) h kc ks := by
  obtain ⟨p, l, e, s, m, args, below, meth, c⟩ := X
  intro O H locs cells slots ls r1 r2 r3 r4 r5
  have kk := kk O H locs cells slots ls r1 r2 r3 r4 r5
  have e0 : Int32.ofInt (a / b) = Int32.ofInt a / Int32.ofInt b := by
    rw [ofInt_nI ha.1, ofInt_nI (Int.le_of_lt hb.1), pk_div (by omega) (by omega) (by omega), ofInt_nI (Int.ediv_nonneg ha.1 (by omega))]
    congr 1
    obtain ⟨n, rfl⟩ := Int.eq_ofNat_of_zero_le ha.1
    obtain ⟨k, rfl⟩ := Int.eq_ofNat_of_zero_le (Int.le_of_lt hb.1)
    rfl
  rw [iv, e0] at kk
  refine lv_idiv O.1 O.2.1 hd (fun z => ?_) kk
  have := congrArg Int32.toInt z
  rw [ivT (by omega)] at this
  exact absurd this (by show ¬ b = 0; omega)
theorem x_lret {x : Int64} (hret : ret = some .long) (hP : P (some (.long x)) h) (hd : decode cc pc = .ok (.lreturn, 1)) : V G X cc nL y ret dp P mc ms pc lv [.long x] h kc ks := by
  obtain ⟨p, l, e, s, m, args, below, meth, c⟩ := X
  intro O H locs cells slots ls r1 r2 r3 r4 r5
  refine W.widen (k := mc) (n := ms) (by omega) (by omega) ?_
  exact W.lret O.1 O.2.1 (O.2.2.2.2.2.2.1.trans hret) (fun t ht _ => ⟨_, h, rfl, hP, by rw [ht]; exact r1⟩) r2 hd O.2.2.2.2.2.1
end CORE3
theorem bf {b : Bool} (h : b = false) : ¬ b = true := by rw [h]; decide
/-- scalars and arrays of the model's state that are no scratch -/
def cS (k : Nat) : Bool := !(k == 16 || k == 17 || k == 30 || k == 32)
def cA (k : Nat) : Bool := !(k == 18 || k == 19 || k == 20 || k == 21 || k == 22 || k == 23 || k == 24 || k == 25 || k == 26 || k == 27 || k == 28 || k == 29 || k == 31)
/-- T is S but for scratch -/
def Cs (S T : Ms) : Prop := (∀ k, cS k = true → T.1 k = S.1 k) ∧ ∀ k, cA k = true → T.2 k = S.2 k
theorem Cs.rf (S : Ms) : Cs S S := ⟨fun _ _ => rfl, fun _ _ => rfl⟩
theorem Cs.tr {S T U : Ms} (a : Cs S T) (b : Cs T U) : Cs S U := ⟨fun k h => (b.1 k h).trans (a.1 k h), fun k h => (b.2 k h).trans (a.2 k h)⟩
theorem Cs.sv {S T : Ms} (a : Cs S T) (k : Nat) (hk : cS k = false) (x : Int) : Cs S (sv T k x) := ⟨fun j h => by
  have : j ≠ k := fun z => by rw [z, hk] at h; cases h
  show fup T.1 k x j = _
  rw [fup_n this]; exact a.1 j h, a.2⟩
theorem Cs.sa {S T : Ms} (a : Cs S T) (k : Nat) (hk : cA k = false) (z x : Int) : Cs S (sa T k z x) := ⟨a.1, fun j h => by
  have : j ≠ k := fun z => by rw [z, hk] at h; cases h
  funext i
  show (if j = k ∧ i = z then x else T.2 j i) = _
  rw [if_neg (fun q => this q.1), a.2 j h]⟩
theorem sa_s (S : Ms) (k : Nat) (z x : Int) : (sa S k z x).2 k z = x := if_pos ⟨rfl, rfl⟩
theorem sa_n {S : Ms} {k j : Nat} {z i x : Int} (h : ¬ (j = k ∧ i = z)) : (sa S k z x).2 j i = S.2 j i := if_neg h
theorem sa_1 (S : Ms) (k : Nat) (z x : Int) : (sa S k z x).1 = S.1 := rfl
theorem sv_2 (S : Ms) (k : Nat) (x : Int) : (sv S k x).2 = S.2 := rfl
theorem sv_s (S : Ms) (k : Nat) (x : Int) : (sv S k x).1 k = x := if_pos rfl
theorem sv_n {S : Ms} {k j : Nat} {x : Int} (h : j ≠ k) : (sv S k x).1 j = S.1 j := if_neg h
theorem Wf.cs {S T : Ms} (h : Wf S) (c : Cs S T) : Wf T := by
  unfold Wf
  rw [c.1 2 rfl, c.2 3 rfl, c.2 4 rfl, c.2 5 rfl, c.2 9 rfl]
  exact h
/-- what is typed; the page -/
def Wt (S : Ms) : Prop := (0 ≤ S.1 10 ∧ S.1 10 ≤ 10) ∧ ∀ i : Int, 0 ≤ i → i < S.1 10 → 2 ≤ S.2 11 i ∧ S.2 11 i ≤ 9
def Wp (S : Ms) : Prop := (0 ≤ S.1 0 ∧ S.1 0 ≤ 50) ∧ ∀ i : Int, 0 ≤ i → i < S.1 0 → 32 ≤ S.2 1 i ∧ S.2 1 i ≤ 126
theorem Wt.cs {S T : Ms} (h : Wt S) (c : Cs S T) : Wt T := by
  unfold Wt
  rw [c.1 10 rfl, c.2 11 rfl]
  exact h
theorem Wp.cs {S T : Ms} (h : Wp S) (c : Cs S T) : Wp T := by
  unfold Wp
  rw [c.1 0 rfl, c.2 1 rfl]
  exact h
/-- answers and new states of the small ones -/
abbrev inB (v a b : Int) : Bool := decide (a ≤ v) && decide (v ≤ b)
def f_chosen (S : Ms) (a : Int) : Bool := decide (S.1 10 ≤ S.2 3 a) && allB (fun i => decide (f_code S a i = S.2 11 i)) (S.1 10).toNat
def f_chAhead (S : Ms) (a : Int) : Int := cntB (fun k => f_chosen S k && f_ahead S k a) (S.1 2).toNat
def f_choice (S : Ms) (p : Int) : Int := firstB (fun k => f_chosen S k && decide (f_chAhead S k = p)) (-101) (S.1 2).toNat 0
def f_fits (S : Ms) (a p : Int) : Bool := decide (p + S.2 3 a ≤ S.1 10) && allB (fun i => decide (f_code S a i = S.2 11 (p + i))) (S.2 3 a).toNat
def f_letter (S : Ms) (c : Int) : Int := if inB c 32 126 then (if S.1 0 = 50 then -104 else S.1 0 + 1) else -102
def s_letter (S : Ms) (c : Int) : Ms := if inB c 32 126 then (if S.1 0 = 50 then S else sv (sa S 1 (S.1 0) c) 0 (S.1 0 + 1)) else S
def f_press (S : Ms) (d : Int) : Int := if inB d 2 9 then (if S.1 10 = 10 then -104 else S.1 10 + 1) else -102
def s_press (S : Ms) (d : Int) : Ms := if inB d 2 9 then (if S.1 10 = 10 then S else sv (sa S 11 (S.1 10) d) 10 (S.1 10 + 1)) else S
def f_back (S : Ms) : Int := if S.1 10 = 0 then -103 else S.1 10 - 1
def s_back (S : Ms) : Ms := if S.1 10 = 0 then S else sv S 10 (S.1 10 - 1)
def f_typed (S : Ms) (p : Int) : Int := if inB p 0 (S.1 10 - 1) then S.2 11 p else -101
def f_use (S : Ms) (a v : Int) : Int := if inB a 0 (S.1 2 - 1) then (if inB v 1 99 then S.2 5 a else -102) else -101
def s_use (S : Ms) (a v : Int) : Ms := if inB a 0 (S.1 2 - 1) then (if inB v 1 99 then sa S 5 a v else S) else S
def f_many (S : Ms) (w : Int) : Int := if w = 0 then S.1 2 else if w = 1 then S.1 0 else if w = 2 then S.1 10 else if w = 3 then S.1 6 else if w = 4 then S.1 7 else if w = 5 then S.1 8 else -102
