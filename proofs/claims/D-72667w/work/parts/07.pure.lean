/-! PURE: counting words, and what the model's methods answer, as functions of its state S -/
def allB (p : Int → Bool) : Nat → Bool
  | 0 => true
  | n + 1 => allB p n && p n
def anyB (p : Int → Bool) : Nat → Bool
  | 0 => false
  | n + 1 => anyB p n || p n
def cntB (p : Int → Bool) : Nat → Int
  | 0 => 0
  | n + 1 => cntB p n + bI (p n)
def sumZ (f : Int → Int) : Nat → Int
  | 0 => 0
  | n + 1 => sumZ f n + f n
/-- the greatest of a start and f 0 .. f (n-1) -/
def maxZ (m : Int) (f : Int → Int) : Nat → Int
  | 0 => m
  | n + 1 => if maxZ m f n < f n then f n else maxZ m f n
def minZ (m : Int) (f : Int → Int) : Nat → Int
  | 0 => m
  | n + 1 => if f n < minZ m f n then f n else minZ m f n
/-- the first place from i on, n places, with p; else d -/
def firstB (p : Int → Bool) (d : Int) : Nat → Int → Int
  | 0, _ => d
  | n + 1, i => if p i then i else firstB p d n (i + 1)
theorem allB_t {p : Int → Bool} {n : Nat} : allB p n = true ↔ ∀ i : Int, 0 ≤ i → i < n → p i = true := by
  induction n with
  | zero => simp only [allB, true_iff]; intro i h0 h1; omega
  | succ n ih =>
    rw [allB, Bool.and_eq_true, ih]
    constructor
    · rintro ⟨h1, h2⟩ i h0 h3
      by_cases h : i = n
      · rw [h]; exact h2
      · exact h1 i h0 (by omega)
    · intro h
      exact ⟨fun i h0 h1 => h i h0 (by omega), h n (by omega) (by omega)⟩
theorem allB_f {p : Int → Bool} {n : Nat} (i : Nat) (h : i ≤ n) (hf : allB p i = false) : allB p n = false := by
  cases hh : allB p n with
  | false => rfl
  | true =>
    rw [allB_t.mpr (fun j h0 h1 => allB_t.mp hh j h0 (by omega))] at hf
    cases hf
theorem cntB_R {p : Int → Bool} {n : Nat} : 0 ≤ cntB p n ∧ cntB p n ≤ n := by
  induction n with
  | zero => simp [cntB]
  | succ n ih => rw [cntB]; cases p n <;> simp [bI] <;> omega
theorem sumZ_R {f : Int → Int} {n : Nat} {a b : Int} (h : ∀ i : Int, 0 ≤ i → i < n → a ≤ f i ∧ f i ≤ b) : a * n ≤ sumZ f n ∧ sumZ f n ≤ b * n := by
  induction n with
  | zero => simp [sumZ]
  | succ n ih =>
    have h1 := ih (fun i h0 h1 => h i h0 (by omega))
    have h2 := h n (by omega) (by omega)
    rw [sumZ]
    have e1 : a * ((n + 1 : Nat) : Int) = a * n + a := by rw [Int.natCast_succ, Int.mul_add, Int.mul_one]
    have e2 : b * ((n + 1 : Nat) : Int) = b * n + b := by rw [Int.natCast_succ, Int.mul_add, Int.mul_one]
    omega
theorem tN {z : Int} (h : 0 ≤ z) : ((z.toNat : Nat) : Int) = z := Int.toNat_of_nonneg h
abbrev NM (S : Ms) : Int := S.1 2
abbrev LN (S : Ms) (k : Int) : Int := S.2 3 k
abbrev LT (S : Ms) (k i : Int) : Int := S.2 4 (8 * k + i)
abbrev US (S : Ms) (k : Int) : Int := S.2 5 k
def f_code (S : Ms) (k i : Int) : Int := S.2 9 (S.2 4 (8 * k + i) - 97)
def f_begins (S : Ms) (a m b : Int) : Bool := decide (m ≤ S.2 3 b) && allB (fun i => decide (f_code S a i = f_code S b i)) m.toNat
def f_twin (S : Ms) (a b : Int) : Bool := !decide (a = b) && (decide (S.2 3 a = S.2 3 b) && f_begins S a (S.2 3 a) b)
def f_twins (S : Ms) (a : Int) : Int := cntB (fun k => f_twin S a k) (S.1 2).toNat
def f_alone (S : Ms) (a m : Int) : Bool := allB (fun k => decide (k = a) || !f_begins S a m k) (S.1 2).toNat
def f_telling (S : Ms) (a : Int) : Int := firstB (fun m => f_alone S a m) (-1) (S.2 3 a + 1).toNat 0
def f_ahead (S : Ms) (a b : Int) : Bool := decide (S.2 5 b < S.2 5 a) || (decide (S.2 5 a = S.2 5 b) && decide (a < b))
def f_place (S : Ms) (a m : Int) : Int := cntB (fun k => f_begins S a m k && f_ahead S k a) (S.1 2).toNat
def f_presses (S : Ms) (a : Int) : Int := minZ 268435456 (fun m => m + f_place S a m + 1) (S.2 3 a + 1).toNat
/-- the names are in order -/
def Wf (S : Ms) : Prop :=
  (0 ≤ S.1 2 ∧ S.1 2 ≤ 14) ∧
  (∀ k : Int, 0 ≤ k → k < S.1 2 → (1 ≤ S.2 3 k ∧ S.2 3 k ≤ 8) ∧ (1 ≤ S.2 5 k ∧ S.2 5 k ≤ 99) ∧ ∀ i : Int, 0 ≤ i → i < S.2 3 k → 97 ≤ S.2 4 (8 * k + i) ∧ S.2 4 (8 * k + i) ≤ 122) ∧
  (∀ i : Int, 0 ≤ i → i < 26 → 2 ≤ S.2 9 i ∧ S.2 9 i ≤ 9)
theorem Wf.nm {S : Ms} (h : Wf S) : 0 ≤ S.1 2 ∧ S.1 2 ≤ 14 := h.1
theorem Wf.len {S : Ms} (h : Wf S) {k : Int} (h0 : 0 ≤ k ∧ k < S.1 2) : 1 ≤ S.2 3 k ∧ S.2 3 k ≤ 8 := (h.2.1 k h0.1 h0.2).1
theorem Wf.use {S : Ms} (h : Wf S) {k : Int} (h0 : 0 ≤ k ∧ k < S.1 2) : 1 ≤ S.2 5 k ∧ S.2 5 k ≤ 99 := (h.2.1 k h0.1 h0.2).2.1
theorem Wf.let {S : Ms} (h : Wf S) {k i : Int} (h0 : 0 ≤ k ∧ k < S.1 2) (h1 : 0 ≤ i ∧ i < S.2 3 k) : 97 ≤ S.2 4 (8 * k + i) ∧ S.2 4 (8 * k + i) ≤ 122 := (h.2.1 k h0.1 h0.2).2.2 i h1.1 h1.2
theorem Wf.code {S : Ms} (h : Wf S) {k i : Int} (h0 : 0 ≤ k ∧ k < S.1 2) (h1 : 0 ≤ i ∧ i < S.2 3 k) : 2 ≤ f_code S k i ∧ f_code S k i ≤ 9 := by
  have := h.let h0 h1
  exact h.2.2 _ (by omega) (by omega)
