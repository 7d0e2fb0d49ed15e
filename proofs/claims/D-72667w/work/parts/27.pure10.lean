/-! PURE 10: digits of an asked number; names that are led to -/
def dl : Nat → Int → Nat
  | 0, _ => 0
  | f + 1, n => if 0 < n then dl f (n / 10) + 1 else 0
def dlen (n : Int) : Nat := dl 11 n
def dq (n : Int) : Nat → Int
  | 0 => n
  | j + 1 => dq n j / 10
theorem dl_le : ∀ (k f : Nat) (n : Int), n < 10 ^ k → dl f n ≤ k := by
  intro k
  induction k with
  | zero =>
    intro f n h
    cases f with
    | zero => exact Nat.le_refl _
    | succ f => rw [dl, if_neg (by omega)]; exact Nat.le_refl _
  | succ k ih =>
    intro f n h
    cases f with
    | zero => exact Nat.zero_le _
    | succ f =>
      rw [dl]
      split
      · have := ih f (n / 10) (by rw [Int.pow_succ] at h; omega)
        omega
      · exact Nat.zero_le _
theorem dlen_le {n : Int} (h : n ≤ 2147483647) : dlen n ≤ 10 := dl_le 10 11 n (by omega)
theorem dq_R {n : Int} (h : 0 ≤ n ∧ n ≤ 2147483647) (j : Nat) : 0 ≤ dq n j ∧ dq n j ≤ 2147483647 := by
  induction j with
  | zero => exact h
  | succ j ih => rw [dq]; omega
def f_ask (n : Int) : Bool := decide (0 ≤ n) && allB (fun j => decide (0 < dq n j.toNat % 10)) (dlen n)
/-- the number's digits are laid -/
def AK (S : Ms) (n : Int) (T : Ms) : Prop := (∀ k, k ≠ 30 → T.1 k = S.1 k) ∧ T.1 30 = dlen n ∧ (∀ k, k ≠ 31 → T.2 k = S.2 k) ∧ ∀ j : Nat, j < dlen n → T.2 31 (dlen n - 1 - j) = dq n j % 10
def AKi (S : Ms) (n : Int) (m : Nat) (T : Ms) : Prop := (∀ k, k ≠ 30 → T.1 k = S.1 k) ∧ T.1 30 = dlen n ∧ (∀ k, k ≠ 31 → T.2 k = S.2 k) ∧ ∀ j : Nat, j < m → T.2 31 (dlen n - 1 - j) = dq n j % 10
theorem AKi.step {S T : Ms} {n k : Int} {m : Nat} (h : AKi S n m T) (hk : k = dlen n - 1 - m) : AKi S n (m + 1) (sa T 31 k (dq n m % 10)) := by
  refine ⟨h.1, h.2.1, fun q hq => by rw [← h.2.2.1 q hq]; funext i; exact sa_n (fun z => hq z.1), fun j hj => ?_⟩
  by_cases e : j = m
  · subst e; rw [← hk]; exact sa_s _ _ _ _
  · rw [sa_n (fun z => by have := z.2; omega)]; exact h.2.2.2 j (by omega)
theorem AK.cs {S T : Ms} {n : Int} (h : AK S n T) : Cs S T := ⟨fun k hk => h.1 k (fun z => by subst z; cases hk), fun k hk => h.2.2.1 k (fun z => by subst z; cases hk)⟩
theorem AK.cb {S T : Ms} {n : Int} (h : AK S n T) : Cb S T := ⟨h.cs, fun q => by unfold B29; rw [h.2.2.1 29 (by decide)]; exact q⟩
def f_led (S : Ms) (a : Int) : Bool := decide (S.1 30 ≤ S.2 13 a) && allB (fun i => decide (S.2 14 (14 * a + i) = S.2 31 i)) (S.1 30).toNat
/-- whether the number n leads to the name a -/
def g_led (S : Ms) (n a : Int) : Bool := decide ((dlen n : Int) ≤ S.2 13 a) && allB (fun i => decide (S.2 14 (14 * a + i) = dq n (dlen n - 1 - i.toNat) % 10)) (dlen n)
theorem AK.led {S T : Ms} {n : Int} (h : AK S n T) : f_led T = g_led S n := by
  funext a
  unfold f_led g_led
  rw [h.2.1, h.2.2.1 13 (by decide), h.2.2.1 14 (by decide)]
  congr 1
  refine allB_eq (fun i i0 i1 => ?_)
  have i1 : i < (dlen n : Int) := by omega
  have := h.2.2.2 (dlen n - 1 - i.toNat) (by omega)
  rw [show ((dlen n : Nat) : Int) - 1 - ((dlen n - 1 - i.toNat : Nat) : Int) = i by omega] at this
  rw [this]
def lastB (p : Int → Bool) : Nat → Int
  | 0 => -1
  | k + 1 => if p k then k else lastB p k
theorem lastB_R (p : Int → Bool) (n : Nat) : -1 ≤ lastB p n ∧ lastB p n < n := by
  induction n with
  | zero => exact ⟨Int.le_refl _, by show (-1 : Int) < 0; decide⟩
  | succ n ih => rw [lastB]; split <;> omega
def f_leads (S : Ms) (n : Int) : Int := if S.1 12 = 0 then -103 else if f_ask n then (if cntB (fun k => g_led S n k) (S.1 2).toNat = 0 then -101 else if cntB (fun k => g_led S n k) (S.1 2).toNat = 1 then lastB (fun k => g_led S n k) (S.1 2).toNat else -1) else -101
theorem maxZ_L {S : Ms} (h : Wm S) (n : Nat) (hn : n ≤ 14) : 0 ≤ maxZ 0 (fun k => S.2 13 k) n ∧ maxZ 0 (fun k => S.2 13 k) n ≤ 13 :=
  maxZ_R (fun i h0 h1 => (h.2.1 i h0 (by omega)).2) (by decide)
