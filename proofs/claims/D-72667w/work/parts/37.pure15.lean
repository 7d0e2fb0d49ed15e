/-! PURE 15: the digest -/
def mixZ (f : Int → Int) (h : Int) : Nat → Int
  | 0 => h
  | n + 1 => 31 * mixZ f h n + f n
/-- mixing until f says d -/
def mixW (f : Int → Int) (d : Int) : Nat → Int → Int → Int
  | 0, _, h => h
  | n + 1, p, h => if f p = d then h else mixW f d n (p + 1) (31 * h + f p)
def m_name (S : Ms) (a h : Int) : Int := mixZ (fun i => f_code S a i) (mixZ (fun w => f_name S a w) (mixZ (fun i => S.2 4 (8 * a + i)) h (S.2 3 a).toNat) 8) (S.2 3 a).toNat
def m_typed (S : Ms) (h : Int) : Int := mixW (fun p => f_piece S p) (-101) 13 0 (mixZ (fun w => f_spell S w) (mixW (fun p => f_choice S p) (-101) 16 0 (mixZ (fun i => S.2 11 i) h (S.1 10).toNat)) 4)
def mixP (S : Ms) (h : Int) : Nat → Int
  | 0 => h
  | k + 1 => mixZ (fun i => S.2 14 (14 * k + i)) (mixP S h k) (S.2 13 k).toNat
def m_menu (S : Ms) (h : Int) : Int := mixP S (mixZ (fun w => f_menu S w) h 7) (S.1 2).toNat
def mixN (S : Ms) (h : Int) : Nat → Int
  | 0 => h
  | k + 1 => m_name S k (mixN S h k)
def m_upto (S : Ms) : Int := m_typed S (mixZ (fun w => f_about S w) (mixN S (mixZ (fun i => S.2 9 i) 1571 26) (S.1 2).toNat) 7)
def m_digest (S : Ms) : Int := mixZ (fun w => f_many S w) (mixZ (fun i => S.2 1 i) (if 0 < S.1 12 then m_menu S (m_upto S) else m_upto S) (S.1 0).toNat) 6
theorem Cb.h {S T : Ms} (c : Cb S T) (x : Int) : Cb S (sv T 32 x) := ⟨c.1.sv 32 rfl x, c.2⟩
theorem lay_cb (S : Ms) : Cb S (s_lay S) := ⟨lay_cs S, fun q i => by
  have e : (s_lay S).2 29 i = S.2 29 i := by
    show (if (22 ≤ 29 ∧ 29 ≤ 25) ∧ (S.1 10 - ((S.1 10).toNat : Int) ≤ i ∧ i ≤ S.1 10) then qc 29 (tab S (S.1 10).toNat i) else S.2 29 i) = _
    rw [if_neg (fun z => by omega)]
  rw [e]; exact q i⟩
theorem f_name_R {S : Ms} (hW : Wf S) (hM : Wm S) {a w : Int} (ha : 0 ≤ a ∧ a < S.1 2) : -2147483648 ≤ f_name S a w ∧ f_name S a w ≤ 2147483647 := by
  have hn := hW.nm
  have h1 := hW.len ha
  have h2 := hW.use ha
  have h3 := f_twins_R (a := a) hW
  have h4 := f_telling_R hW ha
  have h5 := f_presses_R (a := a) hW
  have h6 := f_place_R (a := a) (m := S.2 3 a) hW
  have h7 := hM.2.1 a ha.1 (by omega)
  have h8 := g_len hW (b := 3) (by decide) ha
  unfold f_name
  repeat' split
  all_goals omega
theorem choice_R {S : Ms} (hW : Wf S) (p : Int) : -101 ≤ f_choice S p ∧ f_choice S p ≤ 14 := by
  have hn := hW.nm
  unfold f_choice
  rcases firstB_R (p := fun k => f_chosen S k && decide (f_chAhead S k = p)) (d := -101) (n := (S.1 2).toNat) (i := 0) with h | h <;> omega
theorem firstB_no {p : Int → Bool} {d : Int} : ∀ {n : Nat} {i : Int}, (∀ j : Int, p j = false) → firstB p d n i = d := by
  intro n
  induction n with
  | zero => intro i _; rfl
  | succ n ih => intro i h; rw [firstB, h i, if_neg (by decide)]; exact ih h
theorem choice_no {S : Ms} (hW : Wf S) {p : Int} (h : 15 ≤ p) : f_choice S p = -101 := by
  have hn := hW.nm
  unfold f_choice
  refine firstB_no (fun j => ?_)
  have := cntB_R (p := fun k => f_chosen S k && f_ahead S k j) (n := (S.1 2).toNat)
  rw [decide_eq_false (show ¬ f_chAhead S j = p from fun e => by unfold f_chAhead at e; omega)]
  simp
theorem pcs_no {T : Ms} {q : Int} : ∀ (f : Nat) (p n : Int), n + f ≤ q → pcs T q f p n = -101 := by
  intro f
  induction f with
  | zero => intro p n _; rfl
  | succ f ih =>
    intro p n h
    rw [pcs]
    split
    · rfl
    · rw [if_neg (by omega)]; exact ih _ _ (by omega)
theorem piece_no {S : Ms} {q : Int} (h : 12 ≤ q) : f_piece S q = -101 := pcs_no 12 0 0 (by omega)
theorem pcs_R {T : Ms} {q : Int} (hW : Wf T) (ht : ∀ i : Int, 0 ≤ i → i < T.1 10 → 2 ≤ T.2 11 i ∧ T.2 11 i ≤ 9) : ∀ (f : Nat) (p n : Int), 0 ≤ p → -101 ≤ pcs T q f p n ∧ pcs T q f p n ≤ 14 := by
  intro f
  have hn := hW.nm
  induction f with
  | zero => intro p n _; show -101 ≤ (-101 : Int) ∧ (-101 : Int) ≤ 14; decide
  | succ f ih =>
    intro p n h
    have hb := f_best_is hW p
    rw [pcs]
    split
    · decide
    · split
      · split
        · have := ht p h (by omega); omega
        · omega
      · refine ih _ _ ?_
        split
        · omega
        · rename_i e
          have := hW.len (hb.resolve_left e).2
          omega
theorem piece_R {S : Ms} (hW : Wf S) (hT : Wt S) (q : Int) : -101 ≤ f_piece S q ∧ f_piece S q ≤ 14 := by
  have hc := lay_cs S
  exact pcs_R (hW.cs hc) (hT.cs hc).2 12 0 0 (by omega)
theorem spell_R (S : Ms) (w : Int) : 0 ≤ f_spell S w ∧ f_spell S w ≤ 268435456 := by
  obtain ⟨a1, a2, a3, a4⟩ := tab_ok S (S.1 10).toNat 0
  unfold f_spell
  repeat' split
  all_goals omega
theorem pfold_cs {S T : Ms} (c : Cs S T) (t : Int → Q4) (p : Int) (k : Nat) : pfold T t p k = pfold S t p k := by
  induction k with
  | zero => rfl
  | succ k ih => rw [pfold, pfold, ih, f_fits_cs c, c.2 3 rfl]
theorem tab_cs {S T : Ms} (c : Cs S T) (j : Nat) : tab T j = tab S j := by
  induction j with
  | zero => rfl
  | succ j ih =>
    funext i
    show (if i = T.1 10 - 1 - j then pfold T (tab T j) i (T.1 2).toNat else tab T j i) = if i = S.1 10 - 1 - j then pfold S (tab S j) i (S.1 2).toNat else tab S j i
    rw [ih, c.1 10 rfl, c.1 2 rfl, pfold_cs c]
theorem f_spell_cs {S T : Ms} (c : Cs S T) : f_spell T = f_spell S := by
  funext w; unfold f_spell; rw [c.1 10 rfl, tab_cs c]
theorem f_best_cs2 {S T : Ms} (c : Cs S T) (hT : Wt S) {p : Int} (hW : Wf S) (hp : 0 ≤ p ∧ p ≤ S.1 10) : f_best (s_lay T) p = f_best (s_lay S) p := by
  have hn := hW.nm
  have hT2 := hT.cs c
  have cT : Cs S (s_lay T) := c.tr (lay_cs T)
  have cS := lay_cs S
  have e1 : ∀ i : Int, 0 ≤ i ∧ i ≤ S.1 10 → getp (s_lay T) i = getp (s_lay S) i := fun i hi => by
    rw [lay_get hT2 (by rw [c.1 10 rfl]; exact hi), lay_get hT hi, c.1 10 rfl, tab_cs c]
  have e23 : ∀ i : Int, 0 ≤ i ∧ i ≤ S.1 10 → (s_lay T).2 23 i = (s_lay S).2 23 i ∧ (s_lay T).2 24 i = (s_lay S).2 24 i := fun i hi => by
    have := e1 i hi
    unfold getp at this
    rw [Prod.mk.injEq, Prod.mk.injEq, Prod.mk.injEq] at this
    exact ⟨this.2.1, this.2.2.1⟩
  unfold f_best
  rw [cT.1 2 rfl, cS.1 2 rfl, f_fits_cs cT, f_fits_cs cS, cT.2 3 rfl, cS.2 3 rfl]
  refine firstB_eq (fun k k0 k1 => ?_)
  cases hf : f_fits S k p with
  | false => rfl
  | true =>
    have h1 := f_fits_le hf
    have h2 := hW.len (k := k) (by omega)
    rw [(e23 (p + S.2 3 k) (by omega)).1, (e23 (p + S.2 3 k) (by omega)).2, (e23 p hp).1, (e23 p hp).2]
theorem pcs_cs {S T : Ms} (c : Cs S T) (hT : Wt S) (hW : Wf S) {q : Int} : ∀ (f : Nat) (p n : Int), 0 ≤ p → pcs (s_lay T) q f p n = pcs (s_lay S) q f p n := by
  intro f
  have cT : Cs S (s_lay T) := c.tr (lay_cs T)
  have cS := lay_cs S
  induction f with
  | zero => intro p n _; rfl
  | succ f ih =>
    intro p n h
    rw [pcs, pcs, cT.1 10 rfl, cS.1 10 rfl]
    split
    · rfl
    · rename_i hp
      have hb := f_best_is (hW.cs cS) p
      rw [f_best_cs2 c hT hW (by omega), cT.2 11 rfl, cS.2 11 rfl, cT.2 3 rfl, cS.2 3 rfl]
      split
      · rfl
      · refine ih _ _ ?_
        split
        · omega
        · rename_i e
          have hx := (hb.resolve_left e).2
          rw [cS.1 2 rfl] at hx
          have := hW.len hx
          omega
theorem f_piece_cs {S T : Ms} (c : Cs S T) (hT : Wt S) (hW : Wf S) (q : Int) : f_piece T q = f_piece S q := pcs_cs c hT hW 12 0 0 (by omega)
/-- counts are small -/
def Wc (S : Ms) : Prop := (0 ≤ S.1 6 ∧ S.1 6 ≤ 1000) ∧ (0 ≤ S.1 7 ∧ S.1 7 ≤ 1000) ∧ (0 ≤ S.1 8 ∧ S.1 8 ≤ 1000) ∧ (0 ≤ S.1 15 ∧ S.1 15 ≤ 1000)
theorem f_same_cs {S T : Ms} (c : Cs S T) : f_same T = f_same S := by
  funext a b m; unfold f_same; rw [c.2 13 rfl, c.2 14 rfl]
theorem mxW_cs {S T : Ms} (c : Cs S T) (k : Nat) : mxW T k = mxW S k := by
  induction k with
  | zero => rfl
  | succ k ih => rw [mxW, mxW, ih, c.2 13 rfl, c.2 14 rfl]
theorem f_menu_cs {S T : Ms} (c : Cs S T) : f_menu T = f_menu S := by
  funext w; unfold f_menu f_least f_longest f_menus; rw [c.1 12 rfl, c.1 2 rfl, c.1 15 rfl, c.2 13 rfl, f_costNow_cs c, PT_cs c, f_same_cs c, mxW_cs c]
theorem f_menu_R {S : Ms} (hW : Wf S) (hM : Wm S) (hC : Wc S) (h : ¬ S.1 12 = 0) (w : Int) : -2147483648 ≤ f_menu S w ∧ f_menu S w ≤ 2147483647 := by
  have hn := hW.nm
  have h1 := hM.1
  have h2 := costNow_R hW hM
  have h3 := least_R hW hM h
  have h4 := maxZ_L hM (S.1 2).toNat (by omega)
  have h5 := mxW_R hM (S.1 2).toNat (by omega)
  have h6 := hC.2.2.2
  have h7 : 0 ≤ f_menus S ∧ f_menus S ≤ 182 := by
    have := sumZ_R (f := fun k => cntB (fun m => decide (k = 0) || !f_same S (k - 1) k m) (S.2 13 k).toNat) (n := (S.1 2).toNat) (a := 0) (b := 13) (fun i i0 i1 => by
      have a1 := cntB_R (p := fun m => decide (i = 0) || !f_same S (i - 1) i m) (n := (S.2 13 i).toNat)
      have a2 := hM.2.1 i i0 (by omega)
      show 0 ≤ cntB (fun m => decide (i = 0) || !f_same S (i - 1) i m) (S.2 13 i).toNat ∧ cntB (fun m => decide (i = 0) || !f_same S (i - 1) i m) (S.2 13 i).toNat ≤ 13
      omega)
    unfold f_menus; omega
  unfold f_menu f_longest
  repeat' split
  all_goals omega
theorem presses_R {S : Ms} (hW : Wf S) {a : Int} (ha : 0 ≤ a ∧ a < S.1 2) : 1 ≤ f_presses S a ∧ f_presses S a ≤ 15 := by
  have h1 := f_presses_R (a := a) hW
  have h2 := hW.len ha
  have h3 := minZ_le (m := 268435456) (f := fun m => m + f_place S a m + 1) (n := (S.2 3 a + 1).toNat) 0 (by omega) (by omega)
  have h4 := f_place_R (a := a) (m := 0) hW
  refine ⟨h1.1, ?_⟩
  unfold f_presses
  have h3 : minZ 268435456 (fun m => m + f_place S a m + 1) (S.2 3 a + 1).toNat ≤ 0 + f_place S a 0 + 1 := h3
  omega
theorem f_about_R {S : Ms} (hW : Wf S) (w : Int) : -2147483648 ≤ f_about S w ∧ f_about S w ≤ 2147483647 := by
  have hn := hW.nm
  have h1 := sumZ_R (f := fun k => S.2 5 k) (n := (S.1 2).toNat) (a := 0) (b := 99) (fun i i0 i1 => by have := hW.use (k := i) (by omega); show 0 ≤ S.2 5 i ∧ S.2 5 i ≤ 99; omega)
  have h2 := cntB_R (p := fun k => decide (0 < f_twins S k)) (n := (S.1 2).toNat)
  have h3 := cntB_R (p := fun k => allB (fun e => !f_twin S k e) k.toNat) (n := (S.1 2).toNat)
  have h4 := maxZ_TR hW (S.1 2).toNat (by omega)
  have h5 := sumZ_R (f := fun k => S.2 5 k * f_presses S k) (n := (S.1 2).toNat) (a := 0) (b := 1485) (fun i i0 i1 => by
    have a1 := hW.use (k := i) (by omega)
    have a2 := presses_R hW (a := i) (by omega)
    exact mulR (c := 99) (d := 15) ⟨by omega, a1.2⟩ ⟨by omega, a2.2⟩)
  have h6 := sumZ_R (f := fun k => S.2 5 k * S.2 3 k) (n := (S.1 2).toNat) (a := 0) (b := 792) (fun i i0 i1 => by
    have a1 := hW.use (k := i) (by omega)
    have a2 := hW.len (k := i) (by omega)
    exact mulR (c := 99) (d := 8) ⟨by omega, a1.2⟩ ⟨by omega, a2.2⟩)
  unfold f_about f_uses f_withTwins f_codes f_most f_pressAll f_digits
  repeat' split
  all_goals omega
theorem f_many_R {S : Ms} (hW : Wf S) (hp : Wp S) (hT : Wt S) (hC : Wc S) (w : Int) : -2147483648 ≤ f_many S w ∧ f_many S w ≤ 2147483647 := by
  have h1 := hW.nm
  have h2 := hp.1
  have h3 := hT.1
  obtain ⟨c1, c2, c3, c4⟩ := hC
  unfold f_many
  repeat' split
  all_goals omega
theorem f_many_cs {S T : Ms} (c : Cs S T) : f_many T = f_many S := by
  funext w; unfold f_many; rw [c.1 2 rfl, c.1 0 rfl, c.1 10 rfl, c.1 6 rfl, c.1 7 rfl, c.1 8 rfl]
theorem mixW_e {f : Int → Int} {d : Int} {n : Nat} {p h : Int} (e : f p = d) : mixW f d n p h = h := by
  cases n with
  | zero => rfl
  | succ n => rw [mixW, if_pos e]
theorem mixW_s {f : Int → Int} {d : Int} {n : Nat} {p h : Int} (e : ¬ f p = d) (hn : 0 < n) : mixW f d n p h = mixW f d (n - 1) (p + 1) (31 * h + f p) := by
  cases n with
  | zero => omega
  | succ n => rw [mixW, if_neg e]; rfl
theorem Wc.cs {S T : Ms} (h : Wc S) (c : Cs S T) : Wc T := by
  unfold Wc
  rw [c.1 6 rfl, c.1 7 rfl, c.1 8 rfl, c.1 15 rfl]
  exact h
theorem m_name_cs {S T : Ms} (c : Cs S T) : m_name T = m_name S := by
  funext a h; unfold m_name; rw [f_code_cs c, f_name_cs c, c.2 3 rfl, c.2 4 rfl]
theorem m_typed_cs {S T : Ms} (c : Cs S T) (hT : Wt S) (hW : Wf S) : m_typed T = m_typed S := by
  funext h; unfold m_typed
  rw [f_choice_cs c, f_spell_cs c, c.2 11 rfl, c.1 10 rfl, show (fun p => f_piece T p) = fun p => f_piece S p from funext fun p => f_piece_cs c hT hW p]
theorem mixP_cs {S T : Ms} (c : Cs S T) (h : Int) (k : Nat) : mixP T h k = mixP S h k := by
  induction k with
  | zero => rfl
  | succ k ih => rw [mixP, mixP, ih, c.2 13 rfl, c.2 14 rfl]
theorem m_menu_cs {S T : Ms} (c : Cs S T) : m_menu T = m_menu S := by
  funext h; unfold m_menu; rw [f_menu_cs c, c.1 2 rfl, mixP_cs c]
