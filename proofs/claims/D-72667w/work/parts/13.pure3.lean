/-! PURE 3: a name moved, a name dropped; spellings -/
def s_mv (S : Ms) (a b n : Int) : Ms := (S.1, fun k i => if k = 3 ∧ i = b then S.2 3 a else if k = 5 ∧ i = b then S.2 5 a else if k = 4 ∧ (8 * b ≤ i ∧ i < 8 * b + n) then S.2 4 (8 * a + (i - 8 * b)) else S.2 k i)
theorem s_mv_0 (S : Ms) (a b : Int) : sa (sa S 3 b (S.2 3 a)) 5 b (S.2 5 a) = s_mv S a b 0 := by
  refine Prod.ext rfl (funext fun k => funext fun i => ?_)
  simp only [sa, s_mv]
  by_cases h3 : k = 3
  · subst h3; simp
  · by_cases h5 : k = 5
    · subst h5; simp
    · simp only [h3, h5, false_and, if_false]
      rw [if_neg (by omega)]
theorem s_mv_s {S : Ms} {a b n : Int} (hab : a ≠ b) (hn : 0 ≤ n ∧ n < 8) : sa (s_mv S a b n) 4 (8 * b + n) ((s_mv S a b n).2 4 (8 * a + n)) = s_mv S a b (n + 1) := by
  refine Prod.ext rfl (funext fun k => funext fun i => ?_)
  simp only [sa, s_mv]
  by_cases h4 : k = 4
  · subst h4
    simp only [show ¬ (4 = 3) by decide, show ¬ (4 = 5) by decide, false_and, if_false, true_and]
    by_cases hi : i = 8 * b + n
    · rw [if_pos hi, if_neg (by omega), if_pos (by omega)]
      exact congrArg (S.2 4) (by omega)
    · rw [if_neg hi]
      by_cases h : 8 * b ≤ i ∧ i < 8 * b + n
      · rw [if_pos h, if_pos (by omega)]
      · rw [if_neg h, if_neg (by omega)]
  · simp only [h4, false_and, if_false]
def s_dr (S : Ms) (a n : Int) : Ms := (fup S.1 2 (S.1 2 - 1), fun k i => if (k = 3 ∨ k = 5) ∧ (a ≤ i ∧ i < n) then S.2 k (i + 1) else if k = 4 ∧ (8 * a ≤ i ∧ i < 8 * n) then S.2 4 (i + 8) else S.2 k i)
theorem s_dr_0 (S : Ms) (a : Int) : sv S 2 (S.1 2 - 1) = s_dr S a a := by
  refine Prod.ext rfl (funext fun k => funext fun i => ?_)
  simp only [sv, s_dr]
  rw [if_neg (by omega), if_neg (by omega)]
theorem s_dr_s {S : Ms} {a n : Int} (h : a ≤ n) : s_mv (s_dr S a n) (n + 1) n 8 = s_dr S a (n + 1) := by
  refine Prod.ext rfl (funext fun k => funext fun i => ?_)
  simp only [s_mv, s_dr]
  by_cases h3 : k = 3
  · subst h3
    simp only [true_or, true_and, show ¬ (3 = 5) by decide, show ¬ (3 = 4) by decide, false_and, if_false]
    by_cases hi : i = n
    · subst hi; rw [if_pos rfl, if_neg (by omega), if_pos (by omega)]
    · rw [if_neg hi]
      by_cases h : a ≤ i ∧ i < n
      · rw [if_pos h, if_pos (by omega)]
      · rw [if_neg h, if_neg (by omega)]
  · by_cases h5 : k = 5
    · subst h5
      simp only [or_true, true_and, show ¬ (5 = 3) by decide, show ¬ (5 = 4) by decide, false_and, if_false]
      by_cases hi : i = n
      · subst hi; rw [if_pos rfl, if_neg (by omega), if_pos (by omega)]
      · rw [if_neg hi]
        by_cases h : a ≤ i ∧ i < n
        · rw [if_pos h, if_pos (by omega)]
        · rw [if_neg h, if_neg (by omega)]
    · by_cases h4 : k = 4
      · subst h4
        simp only [show ¬ (4 = 3) by decide, show ¬ (4 = 5) by decide, or_self, false_and, if_false, true_and]
        by_cases h : 8 * n ≤ i ∧ i < 8 * n + 8
        · rw [if_pos h, if_neg (by omega), if_pos (by omega)]
          exact congrArg (S.2 4) (by omega)
        · rw [if_neg h]
          by_cases h6 : 8 * a ≤ i ∧ i < 8 * n
          · rw [if_pos h6, if_pos (by omega)]
          · rw [if_neg h6, if_neg (by omega)]
      · simp only [h3, h5, h4, or_self, false_and, if_false]
def f_drop (S : Ms) (a : Int) : Int := if inB a 0 (S.1 2 - 1) then S.1 2 - 1 else -101
def s_drop (S : Ms) (a : Int) : Ms := if inB a 0 (S.1 2 - 1) then sv (sv (s_dr S a (S.1 2 - 1)) 8 (S.1 8 + 1)) 12 0 else S
/-! spellings: of each place: ways, loose digits, sizes, ways with so few loose -/
abbrev Q4 : Type := Int × Int × Int × Int
def qc (k : Nat) (A : Q4) : Int := if k = 22 then A.1 else if k = 23 then A.2.1 else if k = 24 then A.2.2.1 else A.2.2.2
def getp (S : Ms) (p : Int) : Q4 := (S.2 22 p, S.2 23 p, S.2 24 p, S.2 25 p)
def setp (S : Ms) (p : Int) (A : Q4) : Ms := (S.1, fun k i => if (22 ≤ k ∧ k ≤ 25) ∧ i = p then qc k A else S.2 k i)
/-- one more piece -/
def tkp (A N : Q4) (more : Int) : Q4 :=
  if N.2.1 + more < A.2.1 then ((A.1 + N.1) % 1000000, N.2.1 + more, (if N.2.2.1 + 1 < 268435456 then N.2.2.1 + 1 else 268435456), N.2.2.2 % 1000000)
  else if N.2.1 + more = A.2.1 then ((A.1 + N.1) % 1000000, A.2.1, (if N.2.2.1 + 1 < A.2.2.1 then N.2.2.1 + 1 else A.2.2.1), (A.2.2.2 + N.2.2.2) % 1000000)
  else ((A.1 + N.1) % 1000000, A.2.1, A.2.2.1, A.2.2.2)
def tOk (A : Q4) : Prop := (0 ≤ A.1 ∧ A.1 < 1000000) ∧ (0 ≤ A.2.1 ∧ A.2.1 ≤ 268435456) ∧ (0 ≤ A.2.2.1 ∧ A.2.2.1 ≤ 268435456) ∧ (0 ≤ A.2.2.2 ∧ A.2.2.2 < 1000000)
theorem tkp_ok {A N : Q4} {more : Int} (hA : tOk A) (hN : tOk N) (hm : 0 ≤ more ∧ more ≤ 1) : tOk (tkp A N more) := by
  obtain ⟨a1, a2, a3, a4⟩ := hA
  obtain ⟨b1, b2, b3, b4⟩ := hN
  unfold tkp
  split
  · refine ⟨by dsimp only; omega, by dsimp only; omega, ?_, by dsimp only; omega⟩
    dsimp only; split <;> omega
  · split
    · refine ⟨by dsimp only; omega, by dsimp only; omega, ?_, by dsimp only; omega⟩
      dsimp only; split <;> omega
    · exact ⟨by dsimp only; omega, a2, a3, a4⟩
theorem setp_get (S : Ms) (p : Int) (A : Q4) : getp (setp S p A) p = A := by
  simp [getp, setp, qc]
theorem setp_getn {S : Ms} {p q : Int} (h : q ≠ p) (A : Q4) : getp (setp S p A) q = getp S q := by
  simp [getp, setp, h]
theorem setp_setp (S : Ms) (p : Int) (A C : Q4) : setp (setp S p A) p C = setp S p C := by
  refine Prod.ext rfl (funext fun k => funext fun i => ?_)
  simp only [setp]
  split <;> rfl
theorem setp_cs (S : Ms) (p : Int) (A : Q4) : Cs S (setp S p A) := by
  refine ⟨fun _ _ => rfl, fun k hk => funext fun i => ?_⟩
  simp only [setp]
  rw [if_neg]
  rintro ⟨⟨h1, h2⟩, -⟩
  have : k = 22 ∨ k = 23 ∨ k = 24 ∨ k = 25 := by omega
  rcases this with rfl | rfl | rfl | rfl <;> cases hk
/-- four stores are one -/
theorem setp_4 (S : Ms) (p w lo si lw : Int) : sa (sa (sa (sa S 22 p w) 23 p lo) 24 p si) 25 p lw = setp S p (w, lo, si, lw) := by
  refine Prod.ext rfl (funext fun k => funext fun i => ?_)
  simp only [sa, setp, qc]
  by_cases hi : i = p
  · subst hi
    by_cases h2 : k = 22
    · subst h2; simp
    · by_cases h3 : k = 23
      · subst h3; simp
      · by_cases h4 : k = 24
        · subst h4; simp
        · by_cases h5 : k = 25
          · subst h5; simp
          · simp only [h2, h3, h4, h5, false_and, if_false]
            rw [if_neg (by omega)]
  · simp [hi]
theorem sa_sa (S : Ms) (k : Nat) (p x z : Int) : sa (sa S k p x) k p z = sa S k p z := by
  refine Prod.ext rfl (funext fun q => funext fun i => ?_)
  simp only [sa]
  split <;> rfl
theorem sa_comm {k j : Nat} (h : j ≠ k) (S : Ms) (p q x z : Int) : sa (sa S k p x) j q z = sa (sa S j q z) k p x := by
  refine Prod.ext rfl (funext fun r => funext fun i => ?_)
  simp only [sa]
  by_cases h1 : r = k
  · subst h1; simp [Ne.symm h]
  · simp [h1]
theorem sa_id (S : Ms) (k : Nat) (p : Int) : sa S k p (S.2 k p) = S := by
  refine Prod.ext rfl (funext fun q => funext fun i => ?_)
  simp only [sa]
  split
  · rename_i u; rw [u.1, u.2]
  · rfl
/-- the three ends of a piece -/
theorem tk_1 {S : Ms} {p n m : Int} (c : S.2 23 n + m < S.2 23 p) : setp S p (tkp (getp S p) (getp S n) m) = sa (sa (sa (sa S 22 p ((S.2 22 p + S.2 22 n) % 1000000)) 23 p (S.2 23 n + m)) 24 p (if S.2 24 n + 1 < 268435456 then S.2 24 n + 1 else 268435456)) 25 p (S.2 25 n % 1000000) := by
  have c' : (getp S n).2.1 + m < (getp S p).2.1 := c
  rw [setp_4]; unfold tkp; rw [if_pos c']; rfl
theorem tk_2 {S : Ms} {p n m : Int} (c : S.2 23 n + m = S.2 23 p) : setp S p (tkp (getp S p) (getp S n) m) = sa (sa (sa S 22 p ((S.2 22 p + S.2 22 n) % 1000000)) 24 p (if S.2 24 n + 1 < S.2 24 p then S.2 24 n + 1 else S.2 24 p)) 25 p ((S.2 25 p + S.2 25 n) % 1000000) := by
  have e := sa_id (sa S 22 p ((S.2 22 p + S.2 22 n) % 1000000)) 23 p
  rw [← e, show (sa S 22 p ((S.2 22 p + S.2 22 n) % 1000000)).2 23 p = S.2 23 p from rfl, setp_4]; unfold tkp
  have c' : (getp S n).2.1 + m = (getp S p).2.1 := c
  rw [if_neg (by show ¬ S.2 23 n + m < S.2 23 p; omega), if_pos c']; rfl
theorem tk_3 {S : Ms} {p n m : Int} (c1 : ¬ S.2 23 n + m < S.2 23 p) (c2 : ¬ S.2 23 n + m = S.2 23 p) : setp S p (tkp (getp S p) (getp S n) m) = sa S 22 p ((S.2 22 p + S.2 22 n) % 1000000) := by
  have e1 := sa_id (sa S 22 p ((S.2 22 p + S.2 22 n) % 1000000)) 23 p
  have e2 := sa_id (sa (sa S 22 p ((S.2 22 p + S.2 22 n) % 1000000)) 23 p (S.2 23 p)) 24 p
  have e3 := sa_id (sa (sa (sa S 22 p ((S.2 22 p + S.2 22 n) % 1000000)) 23 p (S.2 23 p)) 24 p (S.2 24 p)) 25 p
  rw [← e1, show (sa S 22 p ((S.2 22 p + S.2 22 n) % 1000000)).2 23 p = S.2 23 p from rfl, ← e2, show (sa (sa S 22 p ((S.2 22 p + S.2 22 n) % 1000000)) 23 p (S.2 23 p)).2 24 p = S.2 24 p from rfl, ← e3, show (sa (sa (sa S 22 p ((S.2 22 p + S.2 22 n) % 1000000)) 23 p (S.2 23 p)) 24 p (S.2 24 p)).2 25 p = S.2 25 p from rfl, setp_4]
  have c3 : ¬ (getp S n).2.1 + m < (getp S p).2.1 := c1
  have c4 : ¬ (getp S n).2.1 + m = (getp S p).2.1 := c2
  unfold tkp; rw [if_neg c3, if_neg c4]; rfl
theorem tk_1' {S : Ms} {p n m : Int} (c : S.2 23 n + m < S.2 23 p) {X Y : Int} (hX : X = if S.2 24 n + 1 < 268435456 then S.2 24 n + 1 else 268435456) (hY : Y = S.2 25 n % 1000000) : sa (sa (sa (sa (sa (sa S 22 p ((S.2 22 p + S.2 22 n) % 1000000)) 23 p (S.2 23 n + m)) 24 p 268435456) 25 p 0) 24 p X) 25 p Y = setp S p (tkp (getp S p) (getp S n) m) := by
  rw [sa_comm (k := 25) (j := 24) (by decide), sa_sa, sa_sa, tk_1 c, hX, hY]
theorem tk_2' {S : Ms} {p n m : Int} (c : S.2 23 n + m = S.2 23 p) {X : Int} (hX : X = if S.2 24 n + 1 < S.2 24 p then S.2 24 n + 1 else S.2 24 p) : sa (sa (sa S 22 p ((S.2 22 p + S.2 22 n) % 1000000)) 24 p X) 25 p ((S.2 25 p + S.2 25 n) % 1000000) = setp S p (tkp (getp S p) (getp S n) m) := by
  rw [tk_2 c, hX]
