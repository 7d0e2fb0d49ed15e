/-! PURE 14: a dial is read: letters so far, digit, whether a letter stands in its group, whether all is well, the state -/
abbrev D5 : Type := Int × Int × Bool × Bool × Ms
def dstep (c : Int) (r : D5) : D5 := if c = 44 then (r.1, r.2.1 + 1, false, r.2.2.1 && decide (r.2.1 < 9), r.2.2.2.2) else if decide (r.1 < 26) && decide (c = 97 + r.1) then (r.1 + 1, r.2.1, true, true, sa r.2.2.2.2 21 r.1 r.2.1) else (r.1, r.2.1, r.2.2.1, false, r.2.2.2.2)
def dS (S : Ms) : Nat → D5
  | 0 => (0, 2, false, true, S)
  | k + 1 => if (dS S k).2.2.2.1 then dstep (S.2 1 k) (dS S k) else dS S k
theorem dS_f {S : Ms} {k n : Nat} (h : k ≤ n) (hf : (dS S k).2.2.2.1 = false) : dS S n = dS S k := by
  induction n with
  | zero => rw [show k = 0 by omega]
  | succ n ih =>
    by_cases e : k = n + 1
    · rw [e]
    · have := ih (by omega)
      rw [dS, this, hf]; rfl
def dDial (S : Ms) : D5 := dS S (S.1 0).toNat
def f_isDial (S : Ms) : Bool := (dDial S).2.2.2.1 && (decide ((dDial S).1 = 26) && (decide ((dDial S).2.1 = 9) && (dDial S).2.2.1))
def s_isDial (S : Ms) : Ms := (dDial S).2.2.2.2
/-- what holds of the state while a dial is read -/
def DI (S : Ms) (k : Nat) (r : D5) : Prop := r.2.2.2.2.1 = S.1 ∧ (∀ q, q ≠ 21 → r.2.2.2.2.2 q = S.2 q) ∧ (0 ≤ r.1 ∧ r.1 ≤ 26) ∧ (2 ≤ r.2.1 ∧ r.2.1 ≤ 2 + k) ∧ (r.2.2.2.1 = true → r.2.1 ≤ 9) ∧ ∀ i : Int, 0 ≤ i → i < r.1 → 2 ≤ r.2.2.2.2.2 21 i ∧ r.2.2.2.2.2 21 i ≤ r.2.1
theorem dS_DI (S : Ms) (k : Nat) : DI S k (dS S k) := by
  induction k with
  | zero => exact ⟨rfl, fun _ _ => rfl, by show (0 : Int) ≤ 0 ∧ (0 : Int) ≤ 26; decide, by show (2 : Int) ≤ 2 ∧ (2 : Int) ≤ 2 + ((0 : Nat) : Int); decide, fun _ => by show (2 : Int) ≤ 9; decide, fun i a b => by have b : i < 0 := b; omega⟩
  | succ k ih =>
    obtain ⟨h1, h2, h3, h4, h5, h6⟩ := ih
    rw [dS]
    split
    · rename_i q
      generalize dS S k = r at *
      obtain ⟨l, d, m, b, T⟩ := r
      dsimp only at h1 h2 h3 h4 h5 h6 q
      unfold dstep
      dsimp only
      split
      · refine ⟨h1, h2, h3, by dsimp only; omega, fun z => ?_, fun i a b => ?_⟩
        · dsimp only at z ⊢
          rw [Bool.and_eq_true, decide_eq_true_eq] at z; omega
        · have := h6 i a b; dsimp only; omega
      · split
        · rename_i z
          rw [Bool.and_eq_true, decide_eq_true_eq, decide_eq_true_eq] at z
          have h5 := h5 q
          refine ⟨h1, fun p hp => ?_, by dsimp only; omega, by dsimp only; omega, fun _ => h5, fun i a b => ?_⟩
          · rw [← h2 p hp]; funext i; exact sa_n (fun u => hp u.1)
          · dsimp only at b ⊢
            by_cases e : i = l
            · rw [e, sa_s]; omega
            · rw [sa_n (fun u => e u.2)]; exact h6 i a (by omega)
        · refine ⟨h1, h2, h3, by dsimp only; omega, fun z => ?_, h6⟩
          cases z
    · exact ⟨h1, h2, h3, by omega, h5, h6⟩
theorem isDial_cs (S : Ms) : Cs S (s_isDial S) := by
  have h := dS_DI S (S.1 0).toNat
  exact ⟨fun k _ => by unfold s_isDial dDial; rw [h.1], fun k hk => h.2.1 k (fun z => by subst z; cases hk)⟩
theorem isDial_cb (S : Ms) : Cb S (s_isDial S) := ⟨isDial_cs S, fun q => by
  have h := dS_DI S (S.1 0).toNat
  unfold B29 s_isDial dDial
  rw [h.2.1 29 (by decide)]; exact q⟩
theorem isDial_R {S : Ms} (h : f_isDial S = true) : ∀ i : Int, 0 ≤ i → i < 26 → 2 ≤ (s_isDial S).2 21 i ∧ (s_isDial S).2 21 i ≤ 9 := by
  have hd := dS_DI S (S.1 0).toNat
  unfold f_isDial at h
  rw [Bool.and_eq_true, Bool.and_eq_true, decide_eq_true_eq, Bool.and_eq_true, decide_eq_true_eq] at h
  obtain ⟨-, a1, a2, -⟩ := h
  intro i i0 i1
  have := hd.2.2.2.2.2 i i0 (by show i < (dDial S).1; omega)
  unfold s_isDial
  have e : (dS S (S.1 0).toNat).2.1 = 9 := a2
  rw [e] at this
  exact this
def f_cntD (S : Ms) (x : Int) : Int := cntB (fun k => decide ((s_isDial S).2 21 k = x)) 26
def f_dial (S : Ms) : Int := if f_isDial S then maxZ 0 (fun j => f_cntD S (2 + j)) 8 else -103
def s_c3 (S : Ms) (n : Int) : Ms := (S.1, fun k i => if k = 9 ∧ (0 ≤ i ∧ i < n) then S.2 21 i else S.2 k i)
theorem c3_0 (S : Ms) : S = s_c3 S 0 := by
  refine Prod.ext rfl (funext fun k => funext fun i => ?_)
  show _ = if _ then _ else _
  rw [if_neg (by omega)]
theorem c3_s (S : Ms) (n : Nat) : sa (s_c3 S n) 9 n (S.2 21 n) = s_c3 S ((n + 1 : Nat) : Int) := by
  refine Prod.ext rfl (funext fun k => funext fun i => ?_)
  simp only [sa, s_c3]
  by_cases hk : k = 9
  · subst hk
    by_cases hi : i = n
    · subst hi; rw [if_pos ⟨rfl, rfl⟩, if_pos ⟨rfl, by omega⟩]
    · rw [if_neg (fun z => hi z.2)]
      by_cases h : 0 ≤ i ∧ i < (n : Int)
      · rw [if_pos ⟨rfl, h⟩, if_pos ⟨rfl, by omega⟩]
      · rw [if_neg (fun z => h z.2), if_neg (fun z => by omega)]
  · simp [hk]
def s_dial (S : Ms) : Ms := if f_isDial S then sv (sv (s_c3 (s_isDial S) 26) 7 (S.1 7 + 1)) 0 0 else s_isDial S
theorem maxZ_D (S : Ms) (n : Nat) : 0 ≤ maxZ 0 (fun j => f_cntD S (2 + j)) n ∧ maxZ 0 (fun j => f_cntD S (2 + j)) n ≤ 26 :=
  maxZ_R (fun i _ _ => (cntB_R (p := fun k => decide ((s_isDial S).2 21 k = 2 + i)) (n := 26)).2) (by decide)
