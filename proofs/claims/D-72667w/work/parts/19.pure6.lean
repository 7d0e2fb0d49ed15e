/-! PURE 6: the table of costs: PT S b m f t: names f .. t-1 in m parts (1: as one stretch) -/
def e_now (T : Int → Int → Int → Int) (m f t c : Int) : Int := if T (m - 1) c t = 268435456 then 268435456 else T 1 f c + T (m - 1) c t
def e_best (T : Int → Int → Int → Int) (m f t : Int) : Int := minZ 268435456 (fun j => e_now T m f t (f + 1 + j)) (t - f - 1).toNat
def e_cost (S : Ms) (T : Int → Int → Int → Int) (b f t : Int) : Int := if t - f = 1 then 0 else minZ 268435456 (fun j => e_best T (2 + j) f t) (b - 1).toNat + f_usesOf S f t
def tb (S : Ms) (b : Int) : Nat → Int → Int → Int → Int
  | 0 => fun _ _ _ => 0
  | n + 1 => fun m f t => if t - f = n + 1 then (if m = 1 then e_cost S (tb S b n) b f t else e_best (tb S b n) m f t) else tb S b n m f t
def PT (S : Ms) (b m f t : Int) : Int := tb S b (t - f).toNat m f t
theorem tb_up {S : Ms} {b m f t : Int} {n : Nat} (h : t - f ≤ n) (h0 : f < t) : tb S b n m f t = PT S b m f t := by
  induction n with
  | zero => omega
  | succ n ih =>
    by_cases e : t - f = n + 1
    · unfold PT; rw [show (t - f).toNat = n + 1 by omega]
    · rw [show tb S b (n + 1) m f t = if t - f = n + 1 then (if m = 1 then e_cost S (tb S b n) b f t else e_best (tb S b n) m f t) else tb S b n m f t from rfl, if_neg e]
      exact ih (by omega)
theorem best_tb {S : Ms} {b m f t : Int} {n : Nat} (h : t - f = n + 1) : e_best (tb S b n) m f t = e_best (PT S b) m f t := by
  unfold e_best
  refine minZ_eq (fun i h0 h1 => ?_)
  unfold e_now
  rw [tb_up (by omega) (by omega), tb_up (by omega) (by omega)]
theorem PT_m {S : Ms} {b m f t : Int} (h : f < t) (hm : m ≠ 1) : PT S b m f t = e_best (PT S b) m f t := by
  obtain ⟨n, hn⟩ : ∃ n : Nat, t - f = n + 1 := ⟨(t - f - 1).toNat, by omega⟩
  rw [show PT S b m f t = tb S b (t - f).toNat m f t from rfl, show (t - f).toNat = n + 1 by omega, show tb S b (n + 1) m f t = if t - f = n + 1 then (if m = 1 then e_cost S (tb S b n) b f t else e_best (tb S b n) m f t) else tb S b n m f t from rfl, if_pos hn, if_neg hm, best_tb hn]
theorem PT_1 {S : Ms} {b f t : Int} (h : f < t) : PT S b 1 f t = e_cost S (PT S b) b f t := by
  obtain ⟨n, hn⟩ : ∃ n : Nat, t - f = n + 1 := ⟨(t - f - 1).toNat, by omega⟩
  rw [show PT S b 1 f t = tb S b (t - f).toNat 1 f t from rfl, show (t - f).toNat = n + 1 by omega, show tb S b (n + 1) 1 f t = if t - f = n + 1 then (if (1 : Int) = 1 then e_cost S (tb S b n) b f t else e_best (tb S b n) 1 f t) else tb S b n 1 f t from rfl, if_pos hn, if_pos rfl]
  unfold e_cost
  rw [show (fun j => e_best (tb S b n) (2 + j) f t) = fun j => e_best (PT S b) (2 + j) f t from funext fun j => best_tb hn]
theorem PT_bnd {S : Ms} (hW : Wf S) {b : Int} : ∀ (n : Nat) (m f t : Int), t - f ≤ n → 0 ≤ f → f < t → t ≤ S.1 2 → 1 ≤ m → (0 ≤ PT S b m f t ∧ PT S b m f t ≤ 268435456 + 1386) ∧ (m ≠ 1 → PT S b m f t ≤ 268435456) := by
  intro n
  induction n with
  | zero => intro m f t h h0 h1; omega
  | succ n ih =>
    intro m f t h h0 h1 h2 hm
    have key : ∀ m : Int, 2 ≤ m → 0 ≤ e_best (PT S b) m f t ∧ e_best (PT S b) m f t ≤ 268435456 := by
      intro m hm
      unfold e_best
      refine minZ_R (fun i g0 g1 => ?_) (by decide)
      have a1 := (ih (m - 1) (f + 1 + i) t (by omega) (by omega) (by omega) h2 (by omega)).1
      have a2 := (ih 1 f (f + 1 + i) (by omega) h0 (by omega) (by omega) (by omega)).1
      show 0 ≤ e_now (PT S b) m f t (f + 1 + i)
      unfold e_now
      split <;> omega
    by_cases h3 : m = 1
    · subst h3
      rw [PT_1 h1]
      unfold e_cost
      have hu := usesOf_R hW h0 h2
      split
      · omega
      · have := minZ_R (m := 268435456) (a := 0) (f := fun j => e_best (PT S b) (2 + j) f t) (n := (b - 1).toNat) (fun i g0 _ => (key (2 + i) (by omega)).1) (by decide)
        omega
    · rw [PT_m h1 h3]
      have := key m (by omega)
      omega
theorem PT_R {S : Ms} (hW : Wf S) {b m f t : Int} (h0 : 0 ≤ f) (h1 : f < t) (h2 : t ≤ S.1 2) (hm : 1 ≤ m) : bnd (PT S b m f t) ∧ (m ≠ 1 → PT S b m f t ≤ 268435456) := by
  have := PT_bnd hW (b := b) (t - f).toNat m f t (by omega) h0 h1 h2 hm
  unfold bnd
  omega
/-- of the stretches with P the entries are right -/
def LCi (S : Ms) (b : Int) (P : Int → Int → Prop) (T : Ms) : Prop := T.1 = S.1 ∧ (∀ k, k ≠ 26 → k ≠ 27 → T.2 k = S.2 k) ∧ ∀ f t : Int, 0 ≤ f → f < t → t ≤ S.1 2 → P f t → T.2 26 (15 * f + t) = PT S b 1 f t ∧ ∀ m : Int, 1 ≤ m → m ≤ b → T.2 27 (225 * m + 15 * f + t) = PT S b m f t
theorem LCi.cs {S T : Ms} {b : Int} {P : Int → Int → Prop} (h : LCi S b P T) : Cs S T := ⟨fun k _ => by rw [h.1], fun k hk => h.2.1 k (fun z => by subst z; cases hk) (fun z => by subst z; cases hk)⟩
theorem LCi.mono {S T : Ms} {b : Int} {P Q : Int → Int → Prop} (h : LCi S b P T) (hq : ∀ f t : Int, 0 ≤ f → f < t → t ≤ S.1 2 → Q f t → P f t) : LCi S b Q T := ⟨h.1, h.2.1, fun f t h0 h1 h2 h3 => h.2.2 f t h0 h1 h2 (hq f t h0 h1 h2 h3)⟩
theorem LCi.best {S T : Ms} {b m f t : Int} {P : Int → Int → Prop} (h : LCi S b P T) (h0 : 0 ≤ f) (h2 : t ≤ S.1 2) (hm : 2 ≤ m ∧ m ≤ b) (hc : ∀ f' t' : Int, f ≤ f' → f' < t' → t' ≤ t → t' - f' < t - f → P f' t') : f_bestP T m f t = e_best (PT S b) m f t := by
  unfold f_bestP e_best
  refine minZ_eq (fun i g0 g1 => ?_)
  unfold f_now e_now
  rw [(h.2.2 (f + 1 + i) t (by omega) (by omega) h2 (hc _ _ (by omega) (by omega) (by omega) (by omega))).2 (m - 1) (by omega) (by omega), (h.2.2 f (f + 1 + i) h0 (by omega) (by omega) (hc _ _ (by omega) (by omega) (by omega) (by omega))).1]
theorem str_27 {T : Ms} {b f t m : Int} (hm : 2 ≤ m ∧ m ≤ b) : (s_str T b f t).2 27 (225 * m + 15 * f + t) = f_bestP T m f t := by
  unfold s_str
  rw [sa_n (by omega), sa_n (by omega)]
  show (if _ then _ else _) = _
  rw [if_pos ⟨rfl, by omega⟩, show (225 * m + 15 * f + t - (15 * f + t)) / 225 = m by omega]
theorem str_n {T : Ms} {b f t m f' t' : Int} (hf : 0 ≤ f ∧ f < 15) (ht : 0 ≤ t ∧ t < 15) (hf' : 0 ≤ f' ∧ f' < 15) (ht' : 0 ≤ t' ∧ t' < 15) (hm : 1 ≤ m) (h : ¬ (f' = f ∧ t' = t)) : (s_str T b f t).2 27 (225 * m + 15 * f' + t') = T.2 27 (225 * m + 15 * f' + t') ∧ (s_str T b f t).2 26 (15 * f' + t') = T.2 26 (15 * f' + t') := by
  unfold s_str
  constructor
  · rw [sa_n (by omega), sa_n (by omega)]
    show (if _ then _ else _) = _
    rw [if_neg (by omega)]
  · rw [sa_n (by omega), sa_n (by omega), st_26]
theorem LCi.str {S T : Ms} {b f t : Int} {P : Int → Int → Prop} (hW : Wf S) (h : LCi S b P T) (hb : 2 ≤ b ∧ b ≤ 4) (h0 : 0 ≤ f) (h1 : f < t) (h2 : t ≤ S.1 2) (hc : ∀ f' t' : Int, f ≤ f' → f' < t' → t' ≤ t → t' - f' < t - f → P f' t') : LCi S b (fun f' t' => P f' t' ∨ (f' = f ∧ t' = t)) (s_str T b f t) := by
  have hn := hW.nm
  refine ⟨h.1, fun k k1 k2 => ?_, fun f' t' g0 g1 g2 g3 => ?_⟩
  · rw [← h.2.1 k k1 k2]
    funext i
    unfold s_str
    rw [sa_n (fun z => k2 z.1), sa_n (fun z => k1 z.1)]
    show (if _ then _ else _) = _
    rw [if_neg (fun z => k2 z.1)]
  · by_cases e : f' = f ∧ t' = t
    · obtain ⟨rfl, rfl⟩ := e
      have eb : ∀ m : Int, 2 ≤ m → m ≤ b → f_bestP T m f' t' = e_best (PT S b) m f' t' := fun m a1 a2 => h.best h0 h2 ⟨a1, a2⟩ hc
      have ec : f_costE T b f' t' = PT S b 1 f' t' := by
        rw [PT_1 h1]
        unfold f_costE e_cost f_leastP
        rw [show f_usesOf T f' t' = f_usesOf S f' t' from by unfold f_usesOf; rw [h.2.1 5 (by decide) (by decide)], minZ_eq (f := fun j => f_bestP T (2 + j) f' t') (g := fun j => e_best (PT S b) (2 + j) f' t') (fun i a1 a2 => eb (2 + i) (by omega) (by omega))]
      refine ⟨?_, fun m m1 m2 => ?_⟩
      · unfold s_str
        rw [sa_n (fun z => by cases z.1), sa_s, ec]
      · by_cases e1 : m = 1
        · subst e1
          unfold s_str
          rw [show 225 * (1 : Int) + 15 * f' + t' = 225 + 15 * f' + t' by omega, sa_s, ec]
        · rw [str_27 (by omega), eb m (by omega) m2, PT_m h1 e1]
    · have g4 := g3.resolve_right e
      have g5 := h.2.2 f' t' g0 g1 g2 g4
      refine ⟨?_, fun m m1 m2 => ?_⟩
      · rw [(str_n (m := 1) (by omega) (by omega) (by omega) (by omega) (by omega) e).2]; exact g5.1
      · rw [(str_n (m := m) (by omega) (by omega) (by omega) (by omega) m1 e).1]; exact g5.2 m m1 m2
theorem LCi.bd {S T : Ms} {b f t : Int} {P : Int → Int → Prop} (hW : Wf S) (h : LCi S b P T) (h0 : 0 ≤ f) (h2 : t ≤ S.1 2) (hc : ∀ f' t' : Int, f ≤ f' → f' < t' → t' ≤ t → t' - f' < t - f → P f' t') : ∀ m c : Int, 1 ≤ m → m < b → f < c → c < t → bnd (T.2 26 (15 * f + c)) ∧ bnd (T.2 27 (225 * m + 15 * c + t)) := by
  intro m c m1 m2 c1 c2
  rw [(h.2.2 f c h0 c1 (by omega) (hc _ _ (by omega) (by omega) (by omega) (by omega))).1, (h.2.2 c t (by omega) c2 h2 (hc _ _ (by omega) (by omega) (by omega) (by omega))).2 m m1 (by omega)]
  exact ⟨(PT_R hW h0 c1 (by omega) (by omega)).1, (PT_R hW (by omega) c2 h2 m1).1⟩
