/-! PURE 2 -/
theorem firstB_t {p : Int → Bool} {d i : Int} {n : Nat} (h : p i = true) (hn : 0 < n) : firstB p d n i = i := by
  cases n with
  | zero => omega
  | succ n => rw [firstB, if_pos h]
theorem firstB_s {p : Int → Bool} {d i : Int} {n : Nat} (h : p i = false) (hn : 0 < n) : firstB p d n i = firstB p d (n - 1) (i + 1) := by
  cases n with
  | zero => omega
  | succ n => rw [firstB, if_neg (by rw [h]; decide)]; rfl
theorem firstB_R {p : Int → Bool} {d : Int} : ∀ {n : Nat} {i : Int}, firstB p d n i = d ∨ (i ≤ firstB p d n i ∧ firstB p d n i < i + n) := by
  intro n
  induction n with
  | zero => intro i; exact Or.inl rfl
  | succ n ih =>
    intro i
    rw [firstB]
    split
    · exact Or.inr ⟨Int.le_refl _, by omega⟩
    · rcases ih (i := i + 1) with h | h
      · exact Or.inl h
      · exact Or.inr ⟨by omega, by omega⟩
theorem minZ_R {m a : Int} {f : Int → Int} {n : Nat} (h : ∀ i : Int, 0 ≤ i → i < n → a ≤ f i) (hm : a ≤ m) : a ≤ minZ m f n ∧ minZ m f n ≤ m := by
  induction n with
  | zero => exact ⟨hm, Int.le_refl _⟩
  | succ n ih =>
    have h1 := ih (fun i h0 h1 => h i h0 (by omega))
    have h2 := h n (by omega) (by omega)
    rw [minZ]
    split <;> omega
theorem maxZ_R {m b : Int} {f : Int → Int} {n : Nat} (h : ∀ i : Int, 0 ≤ i → i < n → f i ≤ b) (hm : m ≤ b) : m ≤ maxZ m f n ∧ maxZ m f n ≤ b := by
  induction n with
  | zero => exact ⟨Int.le_refl _, hm⟩
  | succ n ih =>
    have h1 := ih (fun i h0 h1 => h i h0 (by omega))
    have h2 := h n (by omega) (by omega)
    rw [maxZ]
    split <;> omega
def f_uses (S : Ms) : Int := sumZ (fun k => S.2 5 k) (S.1 2).toNat
def f_withTwins (S : Ms) : Int := cntB (fun k => decide (0 < f_twins S k)) (S.1 2).toNat
def f_codes (S : Ms) : Int := cntB (fun k => allB (fun e => !f_twin S k e) k.toNat) (S.1 2).toNat
def f_most (S : Ms) : Int := maxZ (-1) (fun k => f_telling S k) (S.1 2).toNat
def f_pressAll (S : Ms) : Int := sumZ (fun k => S.2 5 k * f_presses S k) (S.1 2).toNat
def f_digits (S : Ms) : Int := sumZ (fun k => S.2 5 k * S.2 3 k) (S.1 2).toNat
theorem f_twins_R {S : Ms} {a : Int} (h : Wf S) : 0 ≤ f_twins S a ∧ f_twins S a ≤ 14 := by
  have h1 := cntB_R (p := fun k => f_twin S a k) (n := (S.1 2).toNat)
  have h2 := h.nm
  unfold f_twins; omega
theorem f_place_R {S : Ms} {a m : Int} (h : Wf S) : 0 ≤ f_place S a m ∧ f_place S a m ≤ 14 := by
  have h1 := cntB_R (p := fun k => f_begins S a m k && f_ahead S k a) (n := (S.1 2).toNat)
  have h2 := h.nm
  unfold f_place; omega
theorem f_telling_R {S : Ms} {a : Int} (h : Wf S) (ha : 0 ≤ a ∧ a < S.1 2) : -1 ≤ f_telling S a ∧ f_telling S a ≤ S.2 3 a := by
  have h2 := h.len ha
  unfold f_telling
  rcases firstB_R (p := fun m => f_alone S a m) (d := -1) (n := (S.2 3 a + 1).toNat) (i := 0) with h | h <;> omega
theorem f_presses_R {S : Ms} {a : Int} (h : Wf S) : 1 ≤ f_presses S a ∧ f_presses S a ≤ 268435456 := by
  unfold f_presses
  exact minZ_R (fun i h0 _ => by have := f_place_R (S := S) (a := a) (m := i) h; show 1 ≤ i + f_place S a i + 1; omega) (by decide)
theorem minZ_PR {S : Ms} {a : Int} (h : Wf S) (n : Nat) : 1 ≤ minZ 268435456 (fun m => m + f_place S a m + 1) n ∧ minZ 268435456 (fun m => m + f_place S a m + 1) n ≤ 268435456 :=
  minZ_R (fun i h0 _ => by have := f_place_R (S := S) (a := a) (m := i) h; show 1 ≤ i + f_place S a i + 1; omega) (by decide)
theorem maxZ_TR {S : Ms} (h : Wf S) (n : Nat) (hn : (n : Int) ≤ S.1 2) : -1 ≤ maxZ (-1) (fun k => f_telling S k) n ∧ maxZ (-1) (fun k => f_telling S k) n ≤ 8 :=
  maxZ_R (fun i h0 h1 => by have a1 := f_telling_R h (a := i) ⟨h0, by omega⟩; have a2 := h.len (k := i) ⟨h0, by omega⟩; show f_telling S i ≤ 8; omega) (by decide)
