/-! PURE 5: costs of stretches, as read in a state; the table of costs -/
theorem minZ_eq {m : Int} {f g : Int → Int} {n : Nat} (h : ∀ i : Int, 0 ≤ i → i < n → f i = g i) : minZ m f n = minZ m g n := by
  induction n with
  | zero => rfl
  | succ n ih => rw [minZ, minZ, ih (fun i h0 h1 => h i h0 (by omega)), h n (by omega) (by omega)]
theorem sumZ_eq {f g : Int → Int} {n : Nat} (h : ∀ i : Int, 0 ≤ i → i < n → f i = g i) : sumZ f n = sumZ g n := by
  induction n with
  | zero => rfl
  | succ n ih => rw [sumZ, sumZ, ih (fun i h0 h1 => h i h0 (by omega)), h n (by omega) (by omega)]
def bnd (x : Int) : Prop := 0 ≤ x ∧ x ≤ 268440000
def f_usesOf (S : Ms) (f t : Int) : Int := sumZ (fun j => S.2 5 (f + j)) (t - f).toNat
def f_now (S : Ms) (m f t c : Int) : Int := if S.2 27 (225 * (m - 1) + 15 * c + t) = 268435456 then 268435456 else S.2 26 (15 * f + c) + S.2 27 (225 * (m - 1) + 15 * c + t)
def f_bestP (S : Ms) (m f t : Int) : Int := minZ 268435456 (fun j => f_now S m f t (f + 1 + j)) (t - f - 1).toNat
def f_leastP (S : Ms) (b f t : Int) : Int := minZ 268435456 (fun j => f_bestP S (2 + j) f t) (b - 1).toNat
def f_costE (S : Ms) (b f t : Int) : Int := if t - f = 1 then 0 else f_leastP S b f t + f_usesOf S f t
/-- the stretch's entries for 2 .. n-1 parts are laid -/
def s_st (S : Ms) (f t n : Int) : Ms := (S.1, fun k i => if k = 27 ∧ (450 ≤ i - (15 * f + t) ∧ (i - (15 * f + t)) % 225 = 0 ∧ (i - (15 * f + t)) / 225 < n) then f_bestP S ((i - (15 * f + t)) / 225) f t else S.2 k i)
def s_str (S : Ms) (b f t : Int) : Ms := sa (sa (s_st S f t (b + 1)) 26 (15 * f + t) (f_costE S b f t)) 27 (225 + 15 * f + t) (f_costE S b f t)
theorem st_0 (S : Ms) (f t : Int) : S = s_st S f t 2 := by
  refine Prod.ext rfl (funext fun k => funext fun i => ?_)
  show S.2 k i = if _ then _ else _
  rw [if_neg (by omega)]
theorem st_s (S : Ms) {f t n : Int} (hn : 2 ≤ n) : sa (s_st S f t n) 27 (225 * n + 15 * f + t) (f_bestP S n f t) = s_st S f t (n + 1) := by
  refine Prod.ext rfl (funext fun k => funext fun i => ?_)
  simp only [sa, s_st]
  by_cases hk : k = 27
  · subst hk
    by_cases hi : i = 225 * n + 15 * f + t
    · rw [if_pos ⟨rfl, hi⟩, if_pos ⟨rfl, by omega⟩, show (i - (15 * f + t)) / 225 = n by omega]
    · rw [if_neg (fun q => hi q.2)]
      by_cases h : 450 ≤ i - (15 * f + t) ∧ (i - (15 * f + t)) % 225 = 0 ∧ (i - (15 * f + t)) / 225 < n
      · rw [if_pos ⟨rfl, h⟩, if_pos ⟨rfl, by omega⟩]
      · rw [if_neg (fun q => h q.2), if_neg (fun q => by omega)]
  · simp [hk]
theorem st_26 (S : Ms) (f t n : Int) : (s_st S f t n).2 26 = S.2 26 := by
  funext i
  simp [s_st]
theorem st_27 {S : Ms} {f t n m c : Int} (h : f < c ∧ c < f + 15) : (s_st S f t n).2 27 (225 * (m - 1) + 15 * c + t) = S.2 27 (225 * (m - 1) + 15 * c + t) := by
  simp only [s_st]
  rw [if_neg (by omega)]
theorem st_bestP {S : Ms} {f t n m : Int} (h : t ≤ f + 15) : f_bestP (s_st S f t n) m f t = f_bestP S m f t := by
  unfold f_bestP
  refine minZ_eq (fun i h0 h1 => ?_)
  unfold f_now
  rw [st_26, st_27 (by omega)]
theorem usesOf_R {S : Ms} (h : Wf S) {f t : Int} (h0 : 0 ≤ f) (h1 : t ≤ S.1 2) : 0 ≤ f_usesOf S f t ∧ f_usesOf S f t ≤ 1386 := by
  have h2 := h.nm
  unfold f_usesOf
  have := sumZ_R (f := fun j => S.2 5 (f + j)) (n := (t - f).toNat) (a := 0) (b := 99) (fun i h0 h1 => by
    have := h.use (k := f + i) (by omega)
    show 0 ≤ S.2 5 (f + i) ∧ S.2 5 (f + i) ≤ 99
    omega)
  omega
theorem bestP_R {S : Ms} {m f t : Int} (h : ∀ c : Int, f < c → c < t → bnd (S.2 26 (15 * f + c)) ∧ bnd (S.2 27 (225 * (m - 1) + 15 * c + t))) : 0 ≤ f_bestP S m f t ∧ f_bestP S m f t ≤ 268435456 := by
  unfold f_bestP
  refine minZ_R (fun i h0 h1 => ?_) (by decide)
  have := h (f + 1 + i) (by omega) (by omega)
  unfold bnd at this
  show 0 ≤ f_now S m f t (f + 1 + i)
  unfold f_now
  split <;> omega
theorem leastP_R {S : Ms} {b f t : Int} (h : ∀ m : Int, 2 ≤ m → m ≤ b → 0 ≤ f_bestP S m f t) (n : Nat) (hn : (n : Int) ≤ b - 1) : 0 ≤ minZ 268435456 (fun j => f_bestP S (2 + j) f t) n ∧ minZ 268435456 (fun j => f_bestP S (2 + j) f t) n ≤ 268435456 :=
  minZ_R (fun i h0 h1 => h (2 + i) (by omega) (by omega)) (by decide)
