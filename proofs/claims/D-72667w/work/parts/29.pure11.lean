/-! PURE 11: a list is read, sign by sign -/
theorem anyB_t {p : Int → Bool} {n : Nat} : anyB p n = true ↔ ∃ i : Int, 0 ≤ i ∧ i < n ∧ p i = true := by
  induction n with
  | zero => simp only [anyB]; constructor
            · intro h; cases h
            · rintro ⟨i, a, b, _⟩; omega
  | succ n ih =>
    rw [anyB, Bool.or_eq_true, ih]
    constructor
    · rintro (⟨i, a, b, c⟩ | h)
      · exact ⟨i, a, by omega, c⟩
      · exact ⟨n, by omega, by omega, h⟩
    · rintro ⟨i, a, b, c⟩
      by_cases e : i = n
      · subst e; exact Or.inr c
      · exact Or.inl ⟨i, a, by omega, c⟩
def f_sameN (S : Ms) (k : Int) : Bool := decide (S.2 18 k = S.2 18 (S.1 17)) && allB (fun i => decide (S.2 19 (8 * k + i) = S.2 19 (8 * S.1 17 + i))) (S.2 18 (S.1 17)).toNat
def f_twice (S : Ms) : Bool := anyB (fun k => f_sameN S k) (S.1 17).toNat
def s_goes (S : Ms) (b : Bool) (n : Int) : Ms := sv S 16 (if b then n else S.1 16)
def s_nm0 (S : Ms) : Ms := if S.1 16 = 0 then sa S 18 (S.1 17) 0 else S
def b_let (S : Ms) (c : Int) : Bool := inB c 97 122 && decide (S.2 18 (S.1 17) < 8)
def s_let (S : Ms) (c : Int) : Ms := if b_let S c then sa (sa S 19 (8 * S.1 17 + S.2 18 (S.1 17)) c) 18 (S.1 17) (S.2 18 (S.1 17) + 1) else S
def f_tName (S : Ms) (c : Int) : Bool := if c = 58 ∧ S.1 16 = 1 then !f_twice S else b_let (s_nm0 S) c
def s_tName (S : Ms) (c : Int) : Ms := if c = 58 ∧ S.1 16 = 1 then s_goes S (!f_twice S) 2 else s_goes (s_let (s_nm0 S) c) (b_let (s_nm0 S) c) 1
def f_tUse (S : Ms) (c : Int) : Bool := if S.1 16 = 2 then inB (c - 48) 1 9 else if c = 59 then decide (S.1 17 < 14) else decide (S.1 16 = 3) && inB (c - 48) 0 9
def s_tUse (S : Ms) (c : Int) : Ms := if S.1 16 = 2 then s_goes (sv (sa S 20 (S.1 17) (c - 48)) 17 (S.1 17 + bI (inB (c - 48) 1 9))) (inB (c - 48) 1 9) 3 else if c = 59 then s_goes S (decide (S.1 17 < 14)) 0 else s_goes (if decide (S.1 16 = 3) && inB (c - 48) 0 9 then sa S 20 (S.1 17 - 1) (10 * S.2 20 (S.1 17 - 1) + (c - 48)) else S) (decide (S.1 16 = 3) && inB (c - 48) 0 9) 4
def f_takes (S : Ms) (c : Int) : Bool := if S.1 16 < 2 then f_tName S c else f_tUse S c
def s_takes (S : Ms) (c : Int) : Ms := if S.1 16 < 2 then s_tName S c else s_tUse S c
/-- what holds while a list is read -/
def RI (S : Ms) : Prop := (0 ≤ S.1 16 ∧ S.1 16 ≤ 4) ∧ (0 ≤ S.1 17 ∧ S.1 17 ≤ 14) ∧ (S.1 16 < 3 → S.1 17 < 14) ∧ (3 ≤ S.1 16 → 1 ≤ S.1 17) ∧
  (∀ k : Int, 0 ≤ k → k < S.1 17 → (1 ≤ S.2 18 k ∧ S.2 18 k ≤ 8) ∧ (1 ≤ S.2 20 k ∧ S.2 20 k ≤ 99) ∧ ∀ i : Int, 0 ≤ i → i < S.2 18 k → 97 ≤ S.2 19 (8 * k + i) ∧ S.2 19 (8 * k + i) ≤ 122) ∧
  ((S.1 16 = 1 ∨ S.1 16 = 2) → (1 ≤ S.2 18 (S.1 17) ∧ S.2 18 (S.1 17) ≤ 8) ∧ ∀ i : Int, 0 ≤ i → i < S.2 18 (S.1 17) → 97 ≤ S.2 19 (8 * S.1 17 + i) ∧ S.2 19 (8 * S.1 17 + i) ≤ 122) ∧ (S.1 16 = 3 → S.2 20 (S.1 17 - 1) ≤ 9)
/-- the first k signs: how many were taken, whether all, the state -/
def rd (S : Ms) : Nat → Int × Bool × Ms
  | 0 => (0, true, sv (sv S 16 0) 17 0)
  | k + 1 => if (rd S k).2.1 then (if f_takes (rd S k).2.2 (S.2 1 k) then ((k : Int) + 1, true, s_takes (rd S k).2.2 (S.2 1 k)) else (k, false, s_takes (rd S k).2.2 (S.2 1 k))) else rd S k
theorem rd_f {S : Ms} {k n : Nat} (h : k ≤ n) (hf : (rd S k).2.1 = false) : rd S n = rd S k := by
  induction n with
  | zero => rw [show k = 0 by omega]
  | succ n ih =>
    by_cases e : k = n + 1
    · rw [e]
    · have := ih (by omega)
      rw [rd, this, hf]; rfl
def f_read (S : Ms) : Int := (rd S (S.1 0).toNat).1
def s_read (S : Ms) : Ms := (rd S (S.1 0).toNat).2.2
theorem goes_cs {S T : Ms} (h : Cs S T) (b : Bool) (n : Int) : Cs S (s_goes T b n) := h.sv 16 rfl _
theorem takes_cs {S T : Ms} (h : Cs S T) (c : Int) : Cs S (s_takes T c) := by
  unfold s_takes s_tName s_tUse
  split
  · split
    · exact goes_cs h _ _
    · refine goes_cs ?_ _ _
      have h0 : Cs S (s_nm0 T) := by
        unfold s_nm0
        split
        · exact h.sa 18 rfl _ _
        · exact h
      unfold s_let
      split
      · exact (h0.sa 19 rfl _ _).sa 18 rfl _ _
      · exact h0
  · split
    · exact goes_cs ((h.sa 20 rfl _ _).sv 17 rfl _) _ _
    · split
      · exact goes_cs h _ _
      · refine goes_cs ?_ _ _
        split
        · exact h.sa 20 rfl _ _
        · exact h
theorem rd_cs (S : Ms) (k : Nat) : Cs S (rd S k).2.2 := by
  induction k with
  | zero => exact ((Cs.rf S).sv 16 rfl _).sv 17 rfl _
  | succ k ih =>
    rw [rd]
    split
    · split
      · exact takes_cs ih _
      · exact takes_cs ih _
    · exact ih
theorem RI.goes {S : Ms} {b : Bool} {n : Int} (hb : b = false) : s_goes S b n = sv S 16 (S.1 16) := by unfold s_goes; rw [hb]; rfl
theorem sv_id (S : Ms) (k : Nat) : sv S k (S.1 k) = S := by
  refine Prod.ext (funext fun j => ?_) rfl
  show fup S.1 k (S.1 k) j = _
  unfold fup; split
  · rename_i e; rw [e]
  · rfl
