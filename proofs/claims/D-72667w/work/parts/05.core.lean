/-! CORE: the judgement V: a method's run over an abstract heap h (address -> region, cell); all whole numbers as Int. -/
set_option maxRecDepth 100000
/-- an abstract heap: of each known cell its region (0: of the start, read only) and what it holds -/
abbrev Hp : Type := Nat → Option (Nat × va_E)
/-- the world: the law's start, the script's address, classes and their slots, array classes -/
abbrev Gw : Type := State × Nat × va_G × (Nat → ClassId)
abbrev Cx : Type := Program × Launch × Env × State × MethodId × Array Value × List Frame × Method × Code
def iv (z : Int) : Value := .int (Int32.ofInt z)
def jv (z : Int) : Value := .long (Int64.ofInt z)
def bI (b : Bool) : Int := if b then 1 else 0
def hup (h : Hp) (a : Nat) (x : Nat × va_E) : Hp := fun q => if q = a then some x else h q
def fup (f : Nat → Int) (k : Nat) (x : Int) : Nat → Int := fun j => if j = k then x else f j
theorem hup_s (h : Hp) (a : Nat) (x : Nat × va_E) : hup h a x a = some x := if_pos rfl
theorem hup_n {h : Hp} {a q : Nat} {x : Nat × va_E} (n : q ≠ a) : hup h a x q = h q := if_neg n
theorem fup_s (f : Nat → Int) (k : Nat) (x : Int) : fup f k x k = x := if_pos rfl
theorem fup_n {f : Nat → Int} {k j : Nat} {x : Int} (n : j ≠ k) : fup f k x j = f j := if_neg n

def clAll : List vw_C := [(RX0, TX0, 18), (RX1, TX1, 33), (RX2, TX2, 4), (RX3, TX3, 3), (RX4, TX4, 2), (RX5, TX5, 4), (RJ2, TJ2, 3), (RJ9, TJ9, 2), (RJ11, TJ11, 4), (RJ12, TJ12, 4), (RJ15, TJ15, 4), (RJ16, TJ16, 4), (RJ17, TJ17, 4), (RJ21, TJ21, 5), (RJ31, TJ31, 3), (RJ33, TJ33, 9), (RJ37, TJ37, 1), (RJ38, TJ38, 6), (RJ40, TJ40, 1), (RJ42, TJ42, 4), (RJ48, TJ48, 4), (RJ49, TJ49, 3), (RJ50, TJ50, 3), (RJ51, TJ51, 1)]
def tyAll (dA : Nat → ClassId) : List (ClassId × FieldType) := [(dA 0, .int), (dA 1, .byte), (dA 2, .long), (dA 3, .object "java/lang/Object"), (dA 4, .array .int), (dA 5, .array (.array .int))]
/-- an array of ints, by Ints; of bytes; of references -/
def ia (G : Gw) (n : Nat) (f : Nat → Int) : va_E := .inl (G.2.2.2 0, n, .inl (fun j => Int32.ofInt (f j)))
def ba (G : Gw) (n : Nat) (f : Nat → Int) : va_E := .inl (G.2.2.2 1, n, .inl (fun j => Int32.ofInt (f j)))
def ra (G : Gw) (n : Nat) (f : Nat → Option Nat) : va_E := .inl (G.2.2.2 3, n, .inr (.inr (.inr (.inr f))))
/-- an object of class number ci with its fields -/
def ob (ci : Nat) (fs : List Value) : va_E := .inr (ci, fs)
def Rl (G : Gw) (h : Hp) (H : Heap) : Prop :=
  G.1.heap.size ≤ H.size ∧ (∀ q : Nat, q < G.1.heap.size → H[q]? = G.1.heap[q]?) ∧ (∀ (a : Nat) (e : va_E), h a = some (0, e) → a < G.1.heap.size) ∧
  (∀ (a r : Nat) (e : va_E), h a = some (r, e) → r ≠ 0 → G.1.heap.size ≤ a) ∧ ∀ (a r : Nat) (e : va_E), h a = some (r, e) → va_at G.2.2.1 clAll (a, e) H
def GOk (l : Launch) (G : Gw) : Prop := l.flags = flags0 ∧ (∀ w ∈ lw_tbl, w.before #[Value.ref G.2.1] G.1 = true) ∧ (Jvm.Cond.and given_1 narrow_1).before #[Value.ref G.2.1] G.1 = true ∧ va_K G.2.2.1 clAll (tyAll G.2.2.2) G.1
def VQ (G : Gw) (P : Option Value → Hp → Prop) : Array Value → State → Outcome → State → Prop := fun _ _ o t => ∃ (v : Option Value) (h : Hp), o = .returned v ∧ P v h ∧ Rl G h t.heap
abbrev Rm (dp mc ms : Nat) : Room := { frames := dp, cells := mc, slots := ms, locals := 64 * dp }
/-- what stands fast in a method's run -/
def Ok (G : Gw) (p : Program) (l : Launch) (s : State) (m : MethodId) (args : Array Value) (meth : Method) (c : Code) (cc : ByteArray) (nL : Nat) (y : MethodName) (ret : Option FieldType) : Prop :=
  p.tables.exec = Jvm.exec ∧ c.code = cc ∧ c.maxLocals = nL ∧ s.vm.findClass y.cls = some m.cls ∧ (∀ w ∈ lw_all, w.before args s = true) ∧ meth.locks = false ∧ meth.sig.returnType = ret ∧ meth.name = y.name ∧ G.1.WarmedH s.vm ∧ GOk l G
/-- from here the method comes to its end, with P of its answer and of the heap -/
def V (G : Gw) : Cx → ByteArray → Nat → MethodName → Option FieldType → Nat → (Option Value → Hp → Prop) → Nat → Nat → Nat → List (Nat × Value) → List Value → Hp → Nat → Nat → Prop :=
  fun (p, l, e, s, m, args, below, meth, c) cc nL y ret dp P mc ms pc lv st h kc ks =>
    Ok G p l s m args meth c cc nL y ret → ∀ (H : Heap) (locs : List Loc) (cells slots : Nat) (ls : Array Slot), Rl G h H → (∀ q ∈ locs, G.1.heap.size ≤ q.base) → cells + kc ≤ mc → slots + ks ≤ ms → lv_has ls nL lv →
      W p l e (Rm dp mc ms) s m args below meth c H locs cells slots (MQ below (VQ G P) args s mc ms (fun q => G.1.heap.size ≤ q)) (F0 m pc ls st)
/-- a contract -/
def Mt (l : Launch) (G : Gw) (y : MethodName) (cc : ByteArray) (nL : Nat) (ret : Option FieldType) (dp : Nat) (av : List Value) (h : Hp) (P : Option Value → Hp → Prop) (mc ms : Nat) : Prop :=
  Met l y (ws_ y cc nL ret) (Rm dp mc ms) (va_Pc av (fun U => GOk l G ∧ G.1.WarmedH U.vm ∧ Rl G h U.heap)) (VQ G P) mc ms (fun q => G.1.heap.size ≤ q)
/-- locals: a value stored -/
def lset (i : Nat) (v : Value) : List (Nat × Value) → List (Nat × Value)
  | [] => [(i, v)]
  | q :: t => if q.1 = i then (i, v) :: t.filter (fun q => !(q.1 == i) && (!(q.1 + 1 == i && q.2.category == 2) && !(q.1 == i + 1 && v.category == 2))) else if (q.1 + 1 = i ∧ q.2.category = 2) ∨ (q.1 = i + 1 ∧ v.category = 2) then lset i v t else q :: lset i v t
theorem lset_mem {i : Nat} {v : Value} : ∀ {lv : List (Nat × Value)} {q : Nat × Value}, q ∈ lset i v lv → q = (i, v) ∨ (q ∈ lv ∧ q.1 ≠ i ∧ ¬ (q.1 + 1 = i ∧ q.2.category = 2) ∧ ¬ (q.1 = i + 1 ∧ v.category = 2)) ∨ (q ∈ lv ∧ q.1 = i ∧ False) := by
  intro lv
  induction lv with
  | nil => intro q h; simp only [lset, List.mem_singleton] at h; exact Or.inl h
  | cons x t ih =>
    intro q h
    unfold lset at h
    split at h
    · rcases List.mem_cons.mp h with h | h
      · exact Or.inl h
      · obtain ⟨h1, h2⟩ := List.mem_filter.mp h
        simp only [Bool.and_eq_true, Bool.not_eq_true', beq_eq_false_iff_ne, Bool.and_eq_false_iff, ne_eq] at h2
        refine Or.inr (Or.inl ⟨List.mem_cons_of_mem _ h1, h2.1, fun z => ?_, fun z => ?_⟩)
        · rcases h2.2.1 with u | u
          · exact u z.1
          · exact u z.2
        · rcases h2.2.2 with u | u
          · exact u z.1
          · exact u z.2
    · split at h
      · rcases ih h with h | ⟨h1, h2⟩ | ⟨_, _, h⟩
        · exact Or.inl h
        · exact Or.inr (Or.inl ⟨List.mem_cons_of_mem _ h1, h2⟩)
        · exact h.elim
      · rename_i n1 n2
        rcases List.mem_cons.mp h with h | h
        · subst h
          exact Or.inr (Or.inl ⟨List.mem_cons_self, n1, fun z => n2 (Or.inl z), fun z => n2 (Or.inr z)⟩)
        · rcases ih h with h | ⟨h1, h2⟩ | ⟨_, _, h⟩
          · exact Or.inl h
          · exact Or.inr (Or.inl ⟨List.mem_cons_of_mem _ h1, h2⟩)
          · exact h.elim
theorem lset_has1 {ls : Array Slot} {nL i : Nat} {v : Value} {lv : List (Nat × Value)} (hc : v.category = 1) (h : lv_has ls nL ((i, v) :: lv.filter (fun q => !(q.1 == i) && !(q.1 + 1 == i && q.2.category == 2)))) : lv_has ls nL (lset i v lv) := by
  refine ⟨h.1, h.2.1, fun q hq => h.2.2 q ?_⟩
  rcases lset_mem hq with z | ⟨z1, z2, z3, -⟩ | ⟨_, _, z⟩
  · rw [z]; exact List.mem_cons_self
  · refine List.mem_cons_of_mem _ (List.mem_filter.mpr ⟨z1, ?_⟩)
    simp only [Bool.and_eq_true, Bool.not_eq_true', beq_eq_false_iff_ne, ne_eq, Bool.and_eq_false_iff]
    refine ⟨z2, ?_⟩
    by_cases u : q.1 + 1 = i
    · exact Or.inr fun k => z3 ⟨u, k⟩
    · exact Or.inl u
  · exact z.elim
theorem lset_has2 {ls : Array Slot} {nL i : Nat} {v : Value} {lv : List (Nat × Value)} (hc : v.category = 2) (h : lv_has ls nL ((i, v) :: lv.filter (fun q => !(q.1 == i) && (!(q.1 == i + 1) && !(q.1 + 1 == i && q.2.category == 2))))) : lv_has ls nL (lset i v lv) := by
  refine ⟨h.1, h.2.1, fun q hq => h.2.2 q ?_⟩
  rcases lset_mem hq with z | ⟨z1, z2, z3, z4⟩ | ⟨_, _, z⟩
  · rw [z]; exact List.mem_cons_self
  · refine List.mem_cons_of_mem _ (List.mem_filter.mpr ⟨z1, ?_⟩)
    simp only [Bool.and_eq_true, Bool.not_eq_true', beq_eq_false_iff_ne, ne_eq, Bool.and_eq_false_iff]
    refine ⟨z2, fun k => z4 ⟨k, hc⟩, ?_⟩
    by_cases u : q.1 + 1 = i
    · exact Or.inr fun k => z3 ⟨u, k⟩
    · exact Or.inl u
  · exact z.elim
theorem lk_has {ls : Array Slot} {nL i : Nat} {v : Value} {lv : List (Nat × Value)} (h : lv_has ls nL lv) (hk : lv.lookup i = some v) : ls[i]? = some (.val v) := by
  refine h.2.2 (i, v) ?_
  clear h
  induction lv with
  | nil => cases hk
  | cons x t ih =>
    obtain ⟨j, w⟩ := x
    by_cases hj : i = j
    · subst hj
      simp only [List.lookup, beq_self_eq_true, Option.some.injEq] at hk
      rw [hk]; exact List.mem_cons_self
    · rw [show List.lookup i ((j, w) :: t) = List.lookup i t by simp [List.lookup, beq_eq_false_iff_ne.mpr hj]] at hk
      exact List.mem_cons_of_mem _ (ih hk)
/-! the heap's picture under writes and new cells -/
theorem Rl.lt {G : Gw} {h : Hp} {H : Heap} (R : Rl G h H) {a r : Nat} {e : va_E} (ha : h a = some (r, e)) : a < H.size := (R.2.2.2.2 a r e ha).lt
theorem Rl.set {G : Gw} {h : Hp} {H H1 : Heap} (R : Rl G h H) {a r : Nat} {e e' : va_E} (ha : h a = some (r, e)) (hr : r ≠ 0) (h1 : va_at G.2.2.1 clAll (a, e') H1) (hz : H1.size = H.size) (ho : ∀ q : Nat, q ≠ a → H1[q]? = H[q]?) : Rl G (hup h a (r, e')) H1 := by
  have hge := R.2.2.2.1 a r e ha hr
  refine ⟨by rw [hz]; exact R.1, fun q hq => by rw [ho q (by omega)]; exact R.2.1 q hq, fun x y hx => ?_, fun x k y hx hk => ?_, fun x k y hx => ?_⟩
  · by_cases n : x = a
    · subst n; rw [hup_s] at hx; cases hx; exact absurd rfl hr
    · rw [hup_n n] at hx; exact R.2.2.1 x y hx
  · by_cases n : x = a
    · subst n; exact hge
    · rw [hup_n n] at hx; exact R.2.2.2.1 x k y hx hk
  · by_cases n : x = a
    · subst n; rw [hup_s] at hx; cases hx; exact h1
    · rw [hup_n n] at hx; exact (R.2.2.2.2 x k y hx).kept (ho x n)
theorem Rl.push {G : Gw} {h : Hp} {H H1 : Heap} (R : Rl G h H) (r : Nat) {e : va_E} (hr : r ≠ 0) (h1 : va_at G.2.2.1 clAll (H.size, e) H1) (hz : H1.size = H.size + 1) (ho : ∀ q : Nat, q < H.size → H1[q]? = H[q]?) : Rl G (hup h H.size (r, e)) H1 ∧ h H.size = none := by
  have hn : h H.size = none := by
    cases hh : h H.size with
    | none => rfl
    | some x => exact absurd (R.lt (a := H.size) (r := x.1) (e := x.2) hh) (Nat.lt_irrefl _)
  refine ⟨⟨by rw [hz]; exact Nat.le_succ_of_le R.1, fun q hq => by rw [ho q (Nat.lt_of_lt_of_le hq R.1)]; exact R.2.1 q hq, fun x y hx => ?_, fun x k y hx hk => ?_, fun x k y hx => ?_⟩, hn⟩
  · by_cases n : x = H.size
    · subst n; rw [hup_s] at hx; cases hx; exact absurd rfl hr
    · rw [hup_n n] at hx; exact R.2.2.1 x y hx
  · by_cases n : x = H.size
    · subst n; exact R.1
    · rw [hup_n n] at hx; exact R.2.2.2.1 x k y hx hk
  · by_cases n : x = H.size
    · subst n; rw [hup_s] at hx; cases hx; exact h1
    · rw [hup_n n] at hx; exact (R.2.2.2.2 x k y hx).kept (ho x (R.lt hx))
/-- a heap that knows less -/
def Le (h h' : Hp) : Prop := ∀ (a : Nat) (x : Nat × va_E), h a = some x → h' a = some x
theorem Le.rf {h : Hp} : Le h h := fun _ _ q => q
theorem Le.tr {h1 h2 h3 : Hp} (a : Le h1 h2) (b : Le h2 h3) : Le h1 h3 := fun q x k => b q x (a q x k)
theorem Le.new {h : Hp} {a : Nat} {x : Nat × va_E} (n : h a = none) : Le h (hup h a x) := fun q y k => by
  rw [hup_n (fun z => by rw [z, n] at k; cases k)]; exact k
theorem Le.put {h h' : Hp} {a : Nat} {x : Nat × va_E} (L : Le h h') (n : h a = none) : Le h (hup h' a x) := fun q y k => by
  rw [hup_n (fun z => by rw [z, n] at k; cases k)]; exact L q y k
theorem Rl.less {G : Gw} {h h' : Hp} {H : Heap} (R : Rl G h' H) (L : Le h h') : Rl G h H := ⟨R.1, R.2.1, fun a e q => R.2.2.1 a e (L a _ q), fun a r e q => R.2.2.2.1 a r e (L a _ q), fun a r e q => R.2.2.2.2 a r e (L a _ q)⟩
theorem ivT {z : Int} (h : -2147483648 ≤ z ∧ z ≤ 2147483647) : (Int32.ofInt z).toInt = z := Int32.toInt_ofInt_of_le (by omega) (by omega)
theorem iv_of (x : Int32) : Value.int x = iv x.toInt := by rw [iv, Int32.ofInt_toInt]
theorem iv_eq {a b : Int} (h : a = b) : iv a = iv b := congrArg iv h
theorem i32R (x : Int32) : -2147483648 ≤ x.toInt ∧ x.toInt ≤ 2147483647 := ⟨x.le_toInt, by have := x.toInt_lt; omega⟩
theorem iv_in {z : Int} {n : Nat} (h0 : 0 ≤ z) (h1 : z < n) (h2 : z ≤ 2147483647) : vp_in (Int32.ofInt z) n := vp_in_iff.mpr (by rw [ivT ⟨by omega, h2⟩]; exact ⟨h0, h1⟩)
theorem iv_cl {z : Int} (h0 : 0 ≤ z) (h2 : z ≤ 2147483647) : (Int32.ofInt z).toNatClampNeg = z.toNat := Int32.toNatClampNeg_ofInt_of_le (by omega) (by omega)
section CORE
variable {G : Gw} {X : Cx} {cc : ByteArray} {nL : Nat} {y : MethodName} {ret : Option FieldType} {dp : Nat} {P : Option Value → Hp → Prop} {mc ms pc : Nat} {lv : List (Nat × Value)} {st : List Value} {h : Hp} {kc ks : Nat}
/-- less is known of the heap -/
theorem x_less {h' : Hp} (L : Le h' h) (kk : V G X cc nL y ret dp P mc ms pc lv st h' kc ks) : V G X cc nL y ret dp P mc ms pc lv st h kc ks := by
  obtain ⟨p, l, e, s, m, args, below, meth, c⟩ := X
  intro O H locs cells slots ls r1 r2 r3 r4 r5
  exact kk O H locs cells slots ls (r1.less L) r2 r3 r4 r5
/-- less room is taken -/
theorem x_wid {kc' ks' : Nat} (h1 : kc' ≤ kc) (h2 : ks' ≤ ks) (kk : V G X cc nL y ret dp P mc ms pc lv st h kc' ks') : V G X cc nL y ret dp P mc ms pc lv st h kc ks := by
  obtain ⟨p, l, e, s, m, args, below, meth, c⟩ := X
  intro O H locs cells slots ls r1 r2 r3 r4 r5
  exact kk O H locs cells slots ls r1 r2 (by omega) (by omega) r5
/-- fewer locals are known -/
theorem x_lv {lv' : List (Nat × Value)} (hs : ∀ q ∈ lv', q ∈ lv) (kk : V G X cc nL y ret dp P mc ms pc lv' st h kc ks) : V G X cc nL y ret dp P mc ms pc lv st h kc ks := by
  obtain ⟨p, l, e, s, m, args, below, meth, c⟩ := X
  intro O H locs cells slots ls r1 r2 r3 r4 r5
  exact kk O H locs cells slots ls r1 r2 r3 r4 ⟨r5.1, r5.2.1, fun q hq => r5.2.2 q (hs q hq)⟩
theorem x_eq {st' : List Value} (e : st = st') (kk : V G X cc nL y ret dp P mc ms pc lv st' h kc ks) : V G X cc nL y ret dp P mc ms pc lv st h kc ks := e ▸ kk
theorem x_h {h' : Hp} (e : h = h') (kk : V G X cc nL y ret dp P mc ms pc lv st h' kc ks) : V G X cc nL y ret dp P mc ms pc lv st h kc ks := e ▸ kk
theorem x_P {P' : Option Value → Hp → Prop} (e : ∀ v h, P' v h → P v h) (kk : V G X cc nL y ret dp P' mc ms pc lv st h kc ks) : V G X cc nL y ret dp P mc ms pc lv st h kc ks := by
  obtain ⟨p, l, e', s, m, args, below, meth, c⟩ := X
  intro O H locs cells slots ls r1 r2 r3 r4 r5 T hT XX
  obtain ⟨t, a, o, b1, b2, ⟨v, h', c1, c2, c3⟩, b4⟩ := kk O H locs cells slots ls r1 r2 r3 r4 r5 T hT XX
  exact ⟨t, a, o, b1, b2, ⟨v, h', c1, e v h' c2, c3⟩, b4⟩
theorem x_iconst {n : Int} (hd : decode cc pc = .ok (.iconst n, 1)) (kk : V G X cc nL y ret dp P mc ms (pc + 1) lv (iv n :: st) h kc ks) : V G X cc nL y ret dp P mc ms pc lv st h kc ks := by
  obtain ⟨p, l, e, s, m, args, below, meth, c⟩ := X
  intro O H locs cells slots ls r1 r2 r3 r4 r5
  exact lv_iconst O.1 O.2.1 hd rfl (kk O H locs cells slots ls r1 r2 r3 r4 r5)
theorem x_bipush {n : Int} (hd : decode cc pc = .ok (.bipush n, 2)) (kk : V G X cc nL y ret dp P mc ms (pc + 2) lv (iv n :: st) h kc ks) (hn : (Int8.ofInt n).toInt32 = Int32.ofInt n := by decide) : V G X cc nL y ret dp P mc ms pc lv st h kc ks := by
  obtain ⟨p, l, e, s, m, args, below, meth, c⟩ := X
  intro O H locs cells slots ls r1 r2 r3 r4 r5
  exact lv_bipush O.1 O.2.1 hd hn (kk O H locs cells slots ls r1 r2 r3 r4 r5)
theorem x_sipush {n : Int} (hd : decode cc pc = .ok (.sipush n, 3)) (kk : V G X cc nL y ret dp P mc ms (pc + 3) lv (iv n :: st) h kc ks) (hn : (Int16.ofInt n).toInt32 = Int32.ofInt n := by decide) : V G X cc nL y ret dp P mc ms pc lv st h kc ks := by
  obtain ⟨p, l, e, s, m, args, below, meth, c⟩ := X
  intro O H locs cells slots ls r1 r2 r3 r4 r5
  exact lv_sipush O.1 O.2.1 hd hn (kk O H locs cells slots ls r1 r2 r3 r4 r5)
theorem x_ldc {i : Nat} {v : Int32} (n : Int) (hw : Cond.constant y.cls i v ∈ lw_all) (hd : decode cc pc = .ok (.ldc i, 2)) (hn : v = Int32.ofInt n) (kk : V G X cc nL y ret dp P mc ms (pc + 2) lv (iv n :: st) h kc ks) : V G X cc nL y ret dp P mc ms pc lv st h kc ks := by
  obtain ⟨p, l, e, s, m, args, below, meth, c⟩ := X
  intro O H locs cells slots ls r1 r2 r3 r4 r5
  subst hn
  exact lv_ldc O.1 O.2.1 O.2.2.2.1 (O.2.2.2.2.1 _ hw) hd (kk O H locs cells slots ls r1 r2 r3 r4 r5)
theorem x_ldc2 {i : Nat} {v : Int64} (n : Int) (hw : Cond.constantLong y.cls i v ∈ lw_all) (hd : decode cc pc = .ok (.ldc2_w i, 3)) (hn : v = Int64.ofInt n) (kk : V G X cc nL y ret dp P mc ms (pc + 3) lv (jv n :: st) h kc ks) : V G X cc nL y ret dp P mc ms pc lv st h kc ks := by
  obtain ⟨p, l, e, s, m, args, below, meth, c⟩ := X
  intro O H locs cells slots ls r1 r2 r3 r4 r5
  subst hn
  exact lv_ldc2 O.1 O.2.1 O.2.2.2.1 (O.2.2.2.2.1 _ hw) hd (kk O H locs cells slots ls r1 r2 r3 r4 r5)
theorem x_iload_n {k : Fin 4} {x : Int32} (hd : decode cc pc = .ok (.iload_n k, 1)) (hl : lv.lookup (k : Nat) = some (.int x)) (kk : V G X cc nL y ret dp P mc ms (pc + 1) lv (.int x :: st) h kc ks) : V G X cc nL y ret dp P mc ms pc lv st h kc ks := by
  obtain ⟨p, l, e, s, m, args, below, meth, c⟩ := X
  intro O H locs cells slots ls r1 r2 r3 r4 r5
  exact lv_iload_n O.1 O.2.1 hd rfl (lk_has r5 hl) (kk O H locs cells slots ls r1 r2 r3 r4 r5)
theorem x_iload {i : Nat} {x : Int32} (hd : decode cc pc = .ok (.iload i, 2)) (hl : lv.lookup i = some (.int x)) (kk : V G X cc nL y ret dp P mc ms (pc + 2) lv (.int x :: st) h kc ks) : V G X cc nL y ret dp P mc ms pc lv st h kc ks := by
  obtain ⟨p, l, e, s, m, args, below, meth, c⟩ := X
  intro O H locs cells slots ls r1 r2 r3 r4 r5
  exact lv_iload O.1 O.2.1 hd (lk_has r5 hl) (kk O H locs cells slots ls r1 r2 r3 r4 r5)
theorem x_istore_n {k : Fin 4} {x : Int32} {lv' : List (Nat × Value)} (hd : decode cc pc = .ok (.istore_n k, 1)) (hl : lset (k : Nat) (.int x) lv = lv') (hn : (k : Nat) < nL) (kk : V G X cc nL y ret dp P mc ms (pc + 1) lv' st h kc ks) : V G X cc nL y ret dp P mc ms pc lv (.int x :: st) h kc ks := by
  obtain ⟨p, l, e, s, m, args, below, meth, c⟩ := X
  intro O H locs cells slots ls r1 r2 r3 r4 r5
  subst hl
  exact lv_istore_n O.1 O.2.1 hd rfl r5 hn rfl (fun ls' q => kk O H locs cells slots ls' r1 r2 r3 r4 (lset_has1 rfl q))
theorem x_istore {i : Nat} {x : Int32} {lv' : List (Nat × Value)} (hd : decode cc pc = .ok (.istore i, 2)) (hl : lset i (.int x) lv = lv') (hn : i < nL) (kk : V G X cc nL y ret dp P mc ms (pc + 2) lv' st h kc ks) : V G X cc nL y ret dp P mc ms pc lv (.int x :: st) h kc ks := by
  obtain ⟨p, l, e, s, m, args, below, meth, c⟩ := X
  intro O H locs cells slots ls r1 r2 r3 r4 r5
  subst hl
  exact lv_istore O.1 O.2.1 hd r5 hn rfl (fun ls' q => kk O H locs cells slots ls' r1 r2 r3 r4 (lset_has1 rfl q))
theorem x_lload_n {k : Fin 4} {x : Int64} (hd : decode cc pc = .ok (.lload_n k, 1)) (hl : lv.lookup (k : Nat) = some (.long x)) (kk : V G X cc nL y ret dp P mc ms (pc + 1) lv (.long x :: st) h kc ks) : V G X cc nL y ret dp P mc ms pc lv st h kc ks := by
  obtain ⟨p, l, e, s, m, args, below, meth, c⟩ := X
  intro O H locs cells slots ls r1 r2 r3 r4 r5
  exact lv_lload_n O.1 O.2.1 hd rfl (lk_has r5 hl) (kk O H locs cells slots ls r1 r2 r3 r4 r5)
theorem x_lload {i : Nat} {x : Int64} (hd : decode cc pc = .ok (.lload i, 2)) (hl : lv.lookup i = some (.long x)) (kk : V G X cc nL y ret dp P mc ms (pc + 2) lv (.long x :: st) h kc ks) : V G X cc nL y ret dp P mc ms pc lv st h kc ks := by
  obtain ⟨p, l, e, s, m, args, below, meth, c⟩ := X
  intro O H locs cells slots ls r1 r2 r3 r4 r5
  exact lv_lload O.1 O.2.1 hd (lk_has r5 hl) (kk O H locs cells slots ls r1 r2 r3 r4 r5)
theorem x_lstore_n {k : Fin 4} {x : Int64} {lv' : List (Nat × Value)} (hd : decode cc pc = .ok (.lstore_n k, 1)) (hl : lset (k : Nat) (.long x) lv = lv') (hn : (k : Nat) + 1 < nL) (kk : V G X cc nL y ret dp P mc ms (pc + 1) lv' st h kc ks) : V G X cc nL y ret dp P mc ms pc lv (.long x :: st) h kc ks := by
  obtain ⟨p, l, e, s, m, args, below, meth, c⟩ := X
  intro O H locs cells slots ls r1 r2 r3 r4 r5
  subst hl
  exact lv_lstore_n O.1 O.2.1 hd rfl r5 hn rfl (fun ls' q => kk O H locs cells slots ls' r1 r2 r3 r4 (lset_has2 rfl q))
theorem x_lstore {i : Nat} {x : Int64} {lv' : List (Nat × Value)} (hd : decode cc pc = .ok (.lstore i, 2)) (hl : lset i (.long x) lv = lv') (hn : i + 1 < nL) (kk : V G X cc nL y ret dp P mc ms (pc + 2) lv' st h kc ks) : V G X cc nL y ret dp P mc ms pc lv (.long x :: st) h kc ks := by
  obtain ⟨p, l, e, s, m, args, below, meth, c⟩ := X
  intro O H locs cells slots ls r1 r2 r3 r4 r5
  subst hl
  exact lv_lstore O.1 O.2.1 hd r5 hn rfl (fun ls' q => kk O H locs cells slots ls' r1 r2 r3 r4 (lset_has2 rfl q))
theorem x_aload_n {k : Fin 4} {x : Nat} (hd : decode cc pc = .ok (.aload_n k, 1)) (hl : lv.lookup (k : Nat) = some (.ref x)) (kk : V G X cc nL y ret dp P mc ms (pc + 1) lv (.ref x :: st) h kc ks) : V G X cc nL y ret dp P mc ms pc lv st h kc ks := by
  obtain ⟨p, l, e, s, m, args, below, meth, c⟩ := X
  intro O H locs cells slots ls r1 r2 r3 r4 r5
  exact lv_aload_n O.1 O.2.1 hd rfl (lk_has r5 hl) (kk O H locs cells slots ls r1 r2 r3 r4 r5)
theorem x_aload {i : Nat} {x : Nat} (hd : decode cc pc = .ok (.aload i, 2)) (hl : lv.lookup i = some (.ref x)) (kk : V G X cc nL y ret dp P mc ms (pc + 2) lv (.ref x :: st) h kc ks) : V G X cc nL y ret dp P mc ms pc lv st h kc ks := by
  obtain ⟨p, l, e, s, m, args, below, meth, c⟩ := X
  intro O H locs cells slots ls r1 r2 r3 r4 r5
  exact lv_aload O.1 O.2.1 hd (lk_has r5 hl) (kk O H locs cells slots ls r1 r2 r3 r4 r5)
theorem x_astore_n {k : Fin 4} {x : Nat} {lv' : List (Nat × Value)} (hd : decode cc pc = .ok (.astore_n k, 1)) (hl : lset (k : Nat) (.ref x) lv = lv') (hn : (k : Nat) < nL) (kk : V G X cc nL y ret dp P mc ms (pc + 1) lv' st h kc ks) : V G X cc nL y ret dp P mc ms pc lv (.ref x :: st) h kc ks := by
  obtain ⟨p, l, e, s, m, args, below, meth, c⟩ := X
  intro O H locs cells slots ls r1 r2 r3 r4 r5
  subst hl
  exact lv_astore_n O.1 O.2.1 hd rfl r5 hn rfl (fun ls' q => kk O H locs cells slots ls' r1 r2 r3 r4 (lset_has1 rfl q))
theorem x_astore {i : Nat} {x : Nat} {lv' : List (Nat × Value)} (hd : decode cc pc = .ok (.astore i, 2)) (hl : lset i (.ref x) lv = lv') (hn : i < nL) (kk : V G X cc nL y ret dp P mc ms (pc + 2) lv' st h kc ks) : V G X cc nL y ret dp P mc ms pc lv (.ref x :: st) h kc ks := by
  obtain ⟨p, l, e, s, m, args, below, meth, c⟩ := X
  intro O H locs cells slots ls r1 r2 r3 r4 r5
  subst hl
  exact lv_astore O.1 O.2.1 hd r5 hn rfl (fun ls' q => kk O H locs cells slots ls' r1 r2 r3 r4 (lset_has1 rfl q))
theorem x_iinc {i : Nat} {n z : Int} {lv' : List (Nat × Value)} (hd : decode cc pc = .ok (.iinc i n, 3)) (hl : lv.lookup i = some (iv z)) (hl2 : lset i (iv (z + n)) lv = lv') (hn : i < nL) (kk : V G X cc nL y ret dp P mc ms (pc + 3) lv' st h kc ks) : V G X cc nL y ret dp P mc ms pc lv st h kc ks := by
  obtain ⟨p, l, e, s, m, args, below, meth, c⟩ := X
  intro O H locs cells slots ls r1 r2 r3 r4 r5
  subst hl2
  have hm : lv_has ls nL ((i, iv z) :: lv) := ⟨r5.1, r5.2.1, fun q hq => by
    rcases List.mem_cons.mp hq with u | u
    · rw [u]; exact lk_has r5 hl
    · exact r5.2.2 q u⟩
  refine lv_iinc (v := Int32.ofInt (z + n)) O.1 O.2.1 hd hm (k := 0) rfl (by rw [Int32.ofInt_add]) hn rfl (fun ls' q => kk O H locs cells slots ls' r1 r2 r3 r4 (lset_has1 rfl ?_))
  refine ⟨q.1, q.2.1, fun x hx => q.2.2 x ?_⟩
  rcases List.mem_cons.mp hx with u | u
  · rw [u]; exact List.mem_cons_self
  · obtain ⟨u1, u2⟩ := List.mem_filter.mp u
    exact List.mem_cons_of_mem _ (List.mem_filter.mpr ⟨List.mem_cons_of_mem _ u1, u2⟩)
theorem x_iadd {a b : Int} (hd : decode cc pc = .ok (.iadd, 1)) (kk : V G X cc nL y ret dp P mc ms (pc + 1) lv (iv (a + b) :: st) h kc ks) : V G X cc nL y ret dp P mc ms pc lv (iv b :: iv a :: st) h kc ks := by
  obtain ⟨p, l, e, s, m, args, below, meth, c⟩ := X
  intro O H locs cells slots ls r1 r2 r3 r4 r5
  have kk := kk O H locs cells slots ls r1 r2 r3 r4 r5
  rw [iv, Int32.ofInt_add] at kk
  exact lv_iadd O.1 O.2.1 hd  kk
theorem x_isub {a b : Int} (hd : decode cc pc = .ok (.isub, 1)) (kk : V G X cc nL y ret dp P mc ms (pc + 1) lv (iv (a - b) :: st) h kc ks) : V G X cc nL y ret dp P mc ms pc lv (iv b :: iv a :: st) h kc ks := by
  obtain ⟨p, l, e, s, m, args, below, meth, c⟩ := X
  intro O H locs cells slots ls r1 r2 r3 r4 r5
  have kk := kk O H locs cells slots ls r1 r2 r3 r4 r5
  rw [iv, Int32.ofInt_sub] at kk
  exact lv_isub O.1 O.2.1 hd  kk
theorem x_imul {a b : Int} (hd : decode cc pc = .ok (.imul, 1)) (kk : V G X cc nL y ret dp P mc ms (pc + 1) lv (iv (a * b) :: st) h kc ks) : V G X cc nL y ret dp P mc ms pc lv (iv b :: iv a :: st) h kc ks := by
  obtain ⟨p, l, e, s, m, args, below, meth, c⟩ := X
  intro O H locs cells slots ls r1 r2 r3 r4 r5
  have kk := kk O H locs cells slots ls r1 r2 r3 r4 r5
  rw [iv, Int32.ofInt_mul] at kk
  exact lv_imul O.1 O.2.1 hd  kk
theorem x_ladd {a b : Int} (hd : decode cc pc = .ok (.ladd, 1)) (kk : V G X cc nL y ret dp P mc ms (pc + 1) lv (jv (a + b) :: st) h kc ks) : V G X cc nL y ret dp P mc ms pc lv (jv b :: jv a :: st) h kc ks := by
  obtain ⟨p, l, e, s, m, args, below, meth, c⟩ := X
  intro O H locs cells slots ls r1 r2 r3 r4 r5
  have kk := kk O H locs cells slots ls r1 r2 r3 r4 r5
  rw [jv, Int64.ofInt_add] at kk
  exact lv_ladd O.1 O.2.1 hd  kk
theorem x_lsub {a b : Int} (hd : decode cc pc = .ok (.lsub, 1)) (kk : V G X cc nL y ret dp P mc ms (pc + 1) lv (jv (a - b) :: st) h kc ks) : V G X cc nL y ret dp P mc ms pc lv (jv b :: jv a :: st) h kc ks := by
  obtain ⟨p, l, e, s, m, args, below, meth, c⟩ := X
  intro O H locs cells slots ls r1 r2 r3 r4 r5
  have kk := kk O H locs cells slots ls r1 r2 r3 r4 r5
  rw [jv, Int64.ofInt_sub] at kk
  exact lv_lsub O.1 O.2.1 hd  kk
theorem x_lmul {a b : Int} (hd : decode cc pc = .ok (.lmul, 1)) (kk : V G X cc nL y ret dp P mc ms (pc + 1) lv (jv (a * b) :: st) h kc ks) : V G X cc nL y ret dp P mc ms pc lv (jv b :: jv a :: st) h kc ks := by
  obtain ⟨p, l, e, s, m, args, below, meth, c⟩ := X
  intro O H locs cells slots ls r1 r2 r3 r4 r5
  have kk := kk O H locs cells slots ls r1 r2 r3 r4 r5
  rw [jv, Int64.ofInt_mul] at kk
  exact lv_lmul O.1 O.2.1 hd  kk
theorem x_ineg {a : Int} (hd : decode cc pc = .ok (.ineg, 1)) (kk : V G X cc nL y ret dp P mc ms (pc + 1) lv (iv (-a) :: st) h kc ks) : V G X cc nL y ret dp P mc ms pc lv (iv a :: st) h kc ks := by
  obtain ⟨p, l, e, s, m, args, below, meth, c⟩ := X
  intro O H locs cells slots ls r1 r2 r3 r4 r5
  have kk := kk O H locs cells slots ls r1 r2 r3 r4 r5
  rw [iv, Int32.ofInt_neg] at kk
  exact lv_ineg O.1 O.2.1 hd  kk
theorem x_iand {a b : Int32} (hd : decode cc pc = .ok (.iand, 1)) (kk : V G X cc nL y ret dp P mc ms (pc + 1) lv (.int (a &&& b) :: st) h kc ks) : V G X cc nL y ret dp P mc ms pc lv (.int b :: .int a :: st) h kc ks := by
  obtain ⟨p, l, e, s, m, args, below, meth, c⟩ := X
  intro O H locs cells slots ls r1 r2 r3 r4 r5
  have kk := kk O H locs cells slots ls r1 r2 r3 r4 r5
  exact lv_iand O.1 O.2.1 hd  kk
theorem x_ior {a b : Int32} (hd : decode cc pc = .ok (.ior, 1)) (kk : V G X cc nL y ret dp P mc ms (pc + 1) lv (.int (a ||| b) :: st) h kc ks) : V G X cc nL y ret dp P mc ms pc lv (.int b :: .int a :: st) h kc ks := by
  obtain ⟨p, l, e, s, m, args, below, meth, c⟩ := X
  intro O H locs cells slots ls r1 r2 r3 r4 r5
  have kk := kk O H locs cells slots ls r1 r2 r3 r4 r5
  exact lv_ior O.1 O.2.1 hd  kk
theorem x_ixor {a b : Int32} (hd : decode cc pc = .ok (.ixor, 1)) (kk : V G X cc nL y ret dp P mc ms (pc + 1) lv (.int (a ^^^ b) :: st) h kc ks) : V G X cc nL y ret dp P mc ms pc lv (.int b :: .int a :: st) h kc ks := by
  obtain ⟨p, l, e, s, m, args, below, meth, c⟩ := X
  intro O H locs cells slots ls r1 r2 r3 r4 r5
  have kk := kk O H locs cells slots ls r1 r2 r3 r4 r5
  exact lv_ixor O.1 O.2.1 hd  kk
theorem x_land {a b : Int64} (hd : decode cc pc = .ok (.land, 1)) (kk : V G X cc nL y ret dp P mc ms (pc + 1) lv (.long (a &&& b) :: st) h kc ks) : V G X cc nL y ret dp P mc ms pc lv (.long b :: .long a :: st) h kc ks := by
  obtain ⟨p, l, e, s, m, args, below, meth, c⟩ := X
  intro O H locs cells slots ls r1 r2 r3 r4 r5
  have kk := kk O H locs cells slots ls r1 r2 r3 r4 r5
  exact lv_land O.1 O.2.1 hd  kk
theorem x_lor {a b : Int64} (hd : decode cc pc = .ok (.lor, 1)) (kk : V G X cc nL y ret dp P mc ms (pc + 1) lv (.long (a ||| b) :: st) h kc ks) : V G X cc nL y ret dp P mc ms pc lv (.long b :: .long a :: st) h kc ks := by
  obtain ⟨p, l, e, s, m, args, below, meth, c⟩ := X
  intro O H locs cells slots ls r1 r2 r3 r4 r5
  have kk := kk O H locs cells slots ls r1 r2 r3 r4 r5
  exact lv_lor O.1 O.2.1 hd  kk
theorem x_lxor {a b : Int64} (hd : decode cc pc = .ok (.lxor, 1)) (kk : V G X cc nL y ret dp P mc ms (pc + 1) lv (.long (a ^^^ b) :: st) h kc ks) : V G X cc nL y ret dp P mc ms pc lv (.long b :: .long a :: st) h kc ks := by
  obtain ⟨p, l, e, s, m, args, below, meth, c⟩ := X
  intro O H locs cells slots ls r1 r2 r3 r4 r5
  have kk := kk O H locs cells slots ls r1 r2 r3 r4 r5
  exact lv_lxor O.1 O.2.1 hd  kk
theorem x_i2l {a : Int} (hd : decode cc pc = .ok (.i2l, 1)) (ha : -2147483648 ≤ a ∧ a ≤ 2147483647) (kk : V G X cc nL y ret dp P mc ms (pc + 1) lv (jv a :: st) h kc ks) : V G X cc nL y ret dp P mc ms pc lv (iv a :: st) h kc ks := by
  obtain ⟨p, l, e, s, m, args, below, meth, c⟩ := X
  intro O H locs cells slots ls r1 r2 r3 r4 r5
  exact lv_i2l O.1 O.2.1 hd (by rw [← Int64.ofInt_int32ToInt, ivT ha]) (kk O H locs cells slots ls r1 r2 r3 r4 r5)
theorem x_dup {v : Value} (hd : decode cc pc = .ok (.dup, 1)) (kk : V G X cc nL y ret dp P mc ms (pc + 1) lv (v :: v :: st) h kc ks) (hv : v.category = 1 := by rfl) : V G X cc nL y ret dp P mc ms pc lv (v :: st) h kc ks := by
  obtain ⟨p, l, e, s, m, args, below, meth, c⟩ := X
  intro O H locs cells slots ls r1 r2 r3 r4 r5
  exact lv_dup O.1 O.2.1 hd hv (kk O H locs cells slots ls r1 r2 r3 r4 r5)
theorem x_pop {v : Value} (hd : decode cc pc = .ok (.pop, 1)) (kk : V G X cc nL y ret dp P mc ms (pc + 1) lv (st) h kc ks) (hv : v.category = 1 := by rfl) : V G X cc nL y ret dp P mc ms pc lv (v :: st) h kc ks := by
  obtain ⟨p, l, e, s, m, args, below, meth, c⟩ := X
  intro O H locs cells slots ls r1 r2 r3 r4 r5
  exact lv_pop O.1 O.2.1 hd hv (kk O H locs cells slots ls r1 r2 r3 r4 r5)
theorem x_dup_x1 {v u : Value} (hd : decode cc pc = .ok (.dup_x1, 1)) (kk : V G X cc nL y ret dp P mc ms (pc + 1) lv (v :: u :: v :: st) h kc ks) (hv : v.category = 1 := by rfl) (hu : u.category = 1 := by rfl) : V G X cc nL y ret dp P mc ms pc lv (v :: u :: st) h kc ks := by
  obtain ⟨p, l, e, s, m, args, below, meth, c⟩ := X
  intro O H locs cells slots ls r1 r2 r3 r4 r5
  exact lv_dup_x1 O.1 O.2.1 hd hv hu (kk O H locs cells slots ls r1 r2 r3 r4 r5)
theorem x_dup_x2 {v u t : Value} (hd : decode cc pc = .ok (.dup_x2, 1)) (kk : V G X cc nL y ret dp P mc ms (pc + 1) lv (v :: u :: t :: v :: st) h kc ks) (hv : v.category = 1 := by rfl) (hu : u.category = 1 := by rfl) (ht : t.category = 1 := by rfl) : V G X cc nL y ret dp P mc ms pc lv (v :: u :: t :: st) h kc ks := by
  obtain ⟨p, l, e, s, m, args, below, meth, c⟩ := X
  intro O H locs cells slots ls r1 r2 r3 r4 r5
  exact lv_dup_x2 O.1 O.2.1 hd hv hu ht (kk O H locs cells slots ls r1 r2 r3 r4 r5)
theorem x_dup2_11 {v u : Value} (hd : decode cc pc = .ok (.dup2, 1)) (kk : V G X cc nL y ret dp P mc ms (pc + 1) lv (v :: u :: v :: u :: st) h kc ks) (hv : v.category = 1 := by rfl) (hu : u.category = 1 := by rfl) : V G X cc nL y ret dp P mc ms pc lv (v :: u :: st) h kc ks := by
  obtain ⟨p, l, e, s, m, args, below, meth, c⟩ := X
  intro O H locs cells slots ls r1 r2 r3 r4 r5
  exact lv_dup2_11 O.1 O.2.1 hd hv hu (kk O H locs cells slots ls r1 r2 r3 r4 r5)
theorem x_icmp_eq {a b : Int} {off : Int} (tgt : Nat) (hd : decode cc pc = .ok (.if_icmp .eq off, 3)) (ht : (pc : Int) + off = (tgt : Int)) (ha : -2147483648 ≤ a ∧ a ≤ 2147483647) (hb : -2147483648 ≤ b ∧ b ≤ 2147483647) (kt : a = b → V G X cc nL y ret dp P mc ms tgt lv st h kc ks) (kf : ¬ (a = b) → V G X cc nL y ret dp P mc ms (pc + 3) lv st h kc ks) : V G X cc nL y ret dp P mc ms pc lv (iv b :: iv a :: st) h kc ks := by
  obtain ⟨p, l, e, s, m, args, below, meth, c⟩ := X
  intro O H locs cells slots ls r1 r2 r3 r4 r5
  have key : (Int32.ofInt a = Int32.ofInt b) ↔ a = b := by rw [← Int32.toInt_inj, ivT ha, ivT hb]
  exact lv_icmp_eq O.1 O.2.1 hd ht (fun z => kt (key.mp z) O H locs cells slots ls r1 r2 r3 r4 r5) (fun z => kf (fun u => z (key.mpr u)) O H locs cells slots ls r1 r2 r3 r4 r5)
theorem x_if_eq {a : Int} {off : Int} (tgt : Nat) (hd : decode cc pc = .ok (.ifCond .eq off, 3)) (ht : (pc : Int) + off = (tgt : Int)) (ha : -2147483648 ≤ a ∧ a ≤ 2147483647) (kt : a = 0 → V G X cc nL y ret dp P mc ms tgt lv st h kc ks) (kf : ¬ (a = 0) → V G X cc nL y ret dp P mc ms (pc + 3) lv st h kc ks) : V G X cc nL y ret dp P mc ms pc lv (iv a :: st) h kc ks := by
  obtain ⟨p, l, e, s, m, args, below, meth, c⟩ := X
  intro O H locs cells slots ls r1 r2 r3 r4 r5
  have key : (Int32.ofInt a = 0) ↔ a = 0 := by rw [← Int32.toInt_inj, ivT ha]; rfl
  exact lv_if_eq O.1 O.2.1 hd ht (fun z => kt (key.mp z) O H locs cells slots ls r1 r2 r3 r4 r5) (fun z => kf (fun u => z (key.mpr u)) O H locs cells slots ls r1 r2 r3 r4 r5)
theorem x_icmp_ne {a b : Int} {off : Int} (tgt : Nat) (hd : decode cc pc = .ok (.if_icmp .ne off, 3)) (ht : (pc : Int) + off = (tgt : Int)) (ha : -2147483648 ≤ a ∧ a ≤ 2147483647) (hb : -2147483648 ≤ b ∧ b ≤ 2147483647) (kt : ¬ a = b → V G X cc nL y ret dp P mc ms tgt lv st h kc ks) (kf : a = b → V G X cc nL y ret dp P mc ms (pc + 3) lv st h kc ks) : V G X cc nL y ret dp P mc ms pc lv (iv b :: iv a :: st) h kc ks := by
  obtain ⟨p, l, e, s, m, args, below, meth, c⟩ := X
  intro O H locs cells slots ls r1 r2 r3 r4 r5
  have key : (Int32.ofInt a = Int32.ofInt b) ↔ a = b := by rw [← Int32.toInt_inj, ivT ha, ivT hb]
  exact lv_icmp_ne O.1 O.2.1 hd ht (fun z => kt ((not_congr key).mp z) O H locs cells slots ls r1 r2 r3 r4 r5) (fun z => kf (key.mp z) O H locs cells slots ls r1 r2 r3 r4 r5)
theorem x_if_ne {a : Int} {off : Int} (tgt : Nat) (hd : decode cc pc = .ok (.ifCond .ne off, 3)) (ht : (pc : Int) + off = (tgt : Int)) (ha : -2147483648 ≤ a ∧ a ≤ 2147483647) (kt : ¬ a = 0 → V G X cc nL y ret dp P mc ms tgt lv st h kc ks) (kf : a = 0 → V G X cc nL y ret dp P mc ms (pc + 3) lv st h kc ks) : V G X cc nL y ret dp P mc ms pc lv (iv a :: st) h kc ks := by
  obtain ⟨p, l, e, s, m, args, below, meth, c⟩ := X
  intro O H locs cells slots ls r1 r2 r3 r4 r5
  have key : (Int32.ofInt a = 0) ↔ a = 0 := by rw [← Int32.toInt_inj, ivT ha]; rfl
  exact lv_if_ne O.1 O.2.1 hd ht (fun z => kt ((not_congr key).mp z) O H locs cells slots ls r1 r2 r3 r4 r5) (fun z => kf (key.mp z) O H locs cells slots ls r1 r2 r3 r4 r5)
theorem x_icmp_lt {a b : Int} {off : Int} (tgt : Nat) (hd : decode cc pc = .ok (.if_icmp .lt off, 3)) (ht : (pc : Int) + off = (tgt : Int)) (ha : -2147483648 ≤ a ∧ a ≤ 2147483647) (hb : -2147483648 ≤ b ∧ b ≤ 2147483647) (kt : a < b → V G X cc nL y ret dp P mc ms tgt lv st h kc ks) (kf : ¬ (a < b) → V G X cc nL y ret dp P mc ms (pc + 3) lv st h kc ks) : V G X cc nL y ret dp P mc ms pc lv (iv b :: iv a :: st) h kc ks := by
  obtain ⟨p, l, e, s, m, args, below, meth, c⟩ := X
  intro O H locs cells slots ls r1 r2 r3 r4 r5
  have key : (Int32.ofInt a < Int32.ofInt b) ↔ a < b := by rw [Int32.lt_iff_toInt_lt, ivT ha, ivT hb]
  exact lv_icmp_lt O.1 O.2.1 hd ht (fun z => kt (key.mp z) O H locs cells slots ls r1 r2 r3 r4 r5) (fun z => kf (fun u => z (key.mpr u)) O H locs cells slots ls r1 r2 r3 r4 r5)
theorem x_if_lt {a : Int} {off : Int} (tgt : Nat) (hd : decode cc pc = .ok (.ifCond .lt off, 3)) (ht : (pc : Int) + off = (tgt : Int)) (ha : -2147483648 ≤ a ∧ a ≤ 2147483647) (kt : a < 0 → V G X cc nL y ret dp P mc ms tgt lv st h kc ks) (kf : ¬ (a < 0) → V G X cc nL y ret dp P mc ms (pc + 3) lv st h kc ks) : V G X cc nL y ret dp P mc ms pc lv (iv a :: st) h kc ks := by
  obtain ⟨p, l, e, s, m, args, below, meth, c⟩ := X
  intro O H locs cells slots ls r1 r2 r3 r4 r5
  have key : (Int32.ofInt a < 0) ↔ a < 0 := by rw [Int32.lt_iff_toInt_lt, ivT ha]; rfl
  exact lv_if_lt O.1 O.2.1 hd ht (fun z => kt (key.mp z) O H locs cells slots ls r1 r2 r3 r4 r5) (fun z => kf (fun u => z (key.mpr u)) O H locs cells slots ls r1 r2 r3 r4 r5)
theorem x_icmp_ge {a b : Int} {off : Int} (tgt : Nat) (hd : decode cc pc = .ok (.if_icmp .ge off, 3)) (ht : (pc : Int) + off = (tgt : Int)) (ha : -2147483648 ≤ a ∧ a ≤ 2147483647) (hb : -2147483648 ≤ b ∧ b ≤ 2147483647) (kt : b ≤ a → V G X cc nL y ret dp P mc ms tgt lv st h kc ks) (kf : ¬ (b ≤ a) → V G X cc nL y ret dp P mc ms (pc + 3) lv st h kc ks) : V G X cc nL y ret dp P mc ms pc lv (iv b :: iv a :: st) h kc ks := by
  obtain ⟨p, l, e, s, m, args, below, meth, c⟩ := X
  intro O H locs cells slots ls r1 r2 r3 r4 r5
  have key : (Int32.ofInt b ≤ Int32.ofInt a) ↔ b ≤ a := by rw [Int32.le_iff_toInt_le, ivT ha, ivT hb]
  exact lv_icmp_ge O.1 O.2.1 hd ht (fun z => kt (key.mp z) O H locs cells slots ls r1 r2 r3 r4 r5) (fun z => kf (fun u => z (key.mpr u)) O H locs cells slots ls r1 r2 r3 r4 r5)
theorem x_if_ge {a : Int} {off : Int} (tgt : Nat) (hd : decode cc pc = .ok (.ifCond .ge off, 3)) (ht : (pc : Int) + off = (tgt : Int)) (ha : -2147483648 ≤ a ∧ a ≤ 2147483647) (kt : 0 ≤ a → V G X cc nL y ret dp P mc ms tgt lv st h kc ks) (kf : ¬ (0 ≤ a) → V G X cc nL y ret dp P mc ms (pc + 3) lv st h kc ks) : V G X cc nL y ret dp P mc ms pc lv (iv a :: st) h kc ks := by
  obtain ⟨p, l, e, s, m, args, below, meth, c⟩ := X
  intro O H locs cells slots ls r1 r2 r3 r4 r5
  have key : (0 ≤ Int32.ofInt a) ↔ 0 ≤ a := by rw [Int32.le_iff_toInt_le, ivT ha]; rfl
  exact lv_if_ge O.1 O.2.1 hd ht (fun z => kt (key.mp z) O H locs cells slots ls r1 r2 r3 r4 r5) (fun z => kf (fun u => z (key.mpr u)) O H locs cells slots ls r1 r2 r3 r4 r5)
theorem x_icmp_gt {a b : Int} {off : Int} (tgt : Nat) (hd : decode cc pc = .ok (.if_icmp .gt off, 3)) (ht : (pc : Int) + off = (tgt : Int)) (ha : -2147483648 ≤ a ∧ a ≤ 2147483647) (hb : -2147483648 ≤ b ∧ b ≤ 2147483647) (kt : b < a → V G X cc nL y ret dp P mc ms tgt lv st h kc ks) (kf : ¬ (b < a) → V G X cc nL y ret dp P mc ms (pc + 3) lv st h kc ks) : V G X cc nL y ret dp P mc ms pc lv (iv b :: iv a :: st) h kc ks := by
  obtain ⟨p, l, e, s, m, args, below, meth, c⟩ := X
  intro O H locs cells slots ls r1 r2 r3 r4 r5
  have key : (Int32.ofInt b < Int32.ofInt a) ↔ b < a := by rw [Int32.lt_iff_toInt_lt, ivT ha, ivT hb]
  exact lv_icmp_gt O.1 O.2.1 hd ht (fun z => kt (key.mp z) O H locs cells slots ls r1 r2 r3 r4 r5) (fun z => kf (fun u => z (key.mpr u)) O H locs cells slots ls r1 r2 r3 r4 r5)
theorem x_if_gt {a : Int} {off : Int} (tgt : Nat) (hd : decode cc pc = .ok (.ifCond .gt off, 3)) (ht : (pc : Int) + off = (tgt : Int)) (ha : -2147483648 ≤ a ∧ a ≤ 2147483647) (kt : 0 < a → V G X cc nL y ret dp P mc ms tgt lv st h kc ks) (kf : ¬ (0 < a) → V G X cc nL y ret dp P mc ms (pc + 3) lv st h kc ks) : V G X cc nL y ret dp P mc ms pc lv (iv a :: st) h kc ks := by
  obtain ⟨p, l, e, s, m, args, below, meth, c⟩ := X
  intro O H locs cells slots ls r1 r2 r3 r4 r5
  have key : (0 < Int32.ofInt a) ↔ 0 < a := by rw [Int32.lt_iff_toInt_lt, ivT ha]; rfl
  exact lv_if_gt O.1 O.2.1 hd ht (fun z => kt (key.mp z) O H locs cells slots ls r1 r2 r3 r4 r5) (fun z => kf (fun u => z (key.mpr u)) O H locs cells slots ls r1 r2 r3 r4 r5)
theorem x_icmp_le {a b : Int} {off : Int} (tgt : Nat) (hd : decode cc pc = .ok (.if_icmp .le off, 3)) (ht : (pc : Int) + off = (tgt : Int)) (ha : -2147483648 ≤ a ∧ a ≤ 2147483647) (hb : -2147483648 ≤ b ∧ b ≤ 2147483647) (kt : a ≤ b → V G X cc nL y ret dp P mc ms tgt lv st h kc ks) (kf : ¬ (a ≤ b) → V G X cc nL y ret dp P mc ms (pc + 3) lv st h kc ks) : V G X cc nL y ret dp P mc ms pc lv (iv b :: iv a :: st) h kc ks := by
  obtain ⟨p, l, e, s, m, args, below, meth, c⟩ := X
  intro O H locs cells slots ls r1 r2 r3 r4 r5
  have key : (Int32.ofInt a ≤ Int32.ofInt b) ↔ a ≤ b := by rw [Int32.le_iff_toInt_le, ivT ha, ivT hb]
  exact lv_icmp_le O.1 O.2.1 hd ht (fun z => kt (key.mp z) O H locs cells slots ls r1 r2 r3 r4 r5) (fun z => kf (fun u => z (key.mpr u)) O H locs cells slots ls r1 r2 r3 r4 r5)
theorem x_if_le {a : Int} {off : Int} (tgt : Nat) (hd : decode cc pc = .ok (.ifCond .le off, 3)) (ht : (pc : Int) + off = (tgt : Int)) (ha : -2147483648 ≤ a ∧ a ≤ 2147483647) (kt : a ≤ 0 → V G X cc nL y ret dp P mc ms tgt lv st h kc ks) (kf : ¬ (a ≤ 0) → V G X cc nL y ret dp P mc ms (pc + 3) lv st h kc ks) : V G X cc nL y ret dp P mc ms pc lv (iv a :: st) h kc ks := by
  obtain ⟨p, l, e, s, m, args, below, meth, c⟩ := X
  intro O H locs cells slots ls r1 r2 r3 r4 r5
  have key : (Int32.ofInt a ≤ 0) ↔ a ≤ 0 := by rw [Int32.le_iff_toInt_le, ivT ha]; rfl
  exact lv_if_le O.1 O.2.1 hd ht (fun z => kt (key.mp z) O H locs cells slots ls r1 r2 r3 r4 r5) (fun z => kf (fun u => z (key.mpr u)) O H locs cells slots ls r1 r2 r3 r4 r5)
theorem bI_R (b : Bool) : -2147483648 ≤ bI b ∧ bI b ≤ 2147483647 := by cases b <;> decide
theorem bI_0 {b : Bool} : bI b = 0 ↔ b = false := by cases b <;> decide
/-- a branch on a truth value -/
theorem x_ifb_eq {b : Bool} {off : Int} (tgt : Nat) (hd : decode cc pc = .ok (.ifCond .eq off, 3)) (ht : (pc : Int) + off = (tgt : Int)) (kt : b = false → V G X cc nL y ret dp P mc ms tgt lv st h kc ks) (kf : b = true → V G X cc nL y ret dp P mc ms (pc + 3) lv st h kc ks) : V G X cc nL y ret dp P mc ms pc lv (iv (bI b) :: st) h kc ks :=
  x_if_eq tgt hd ht (bI_R b) (fun z => kt (by cases b <;> simp_all [bI])) (fun z => kf (by cases b <;> simp_all [bI]))
/-- a branch on a truth value -/
theorem x_ifb_ne {b : Bool} {off : Int} (tgt : Nat) (hd : decode cc pc = .ok (.ifCond .ne off, 3)) (ht : (pc : Int) + off = (tgt : Int)) (kt : b = true → V G X cc nL y ret dp P mc ms tgt lv st h kc ks) (kf : b = false → V G X cc nL y ret dp P mc ms (pc + 3) lv st h kc ks) : V G X cc nL y ret dp P mc ms pc lv (iv (bI b) :: st) h kc ks :=
  x_if_ne tgt hd ht (bI_R b) (fun z => kt (by cases b <;> simp_all [bI])) (fun z => kf (by cases b <;> simp_all [bI]))
theorem x_goto {off : Int} (tgt : Nat) (hd : decode cc pc = .ok (.goto off, 3)) (ht : (pc : Int) + off = (tgt : Int)) (kk : V G X cc nL y ret dp P mc ms tgt lv st h kc ks) : V G X cc nL y ret dp P mc ms pc lv st h kc ks := by
  obtain ⟨p, l, e, s, m, args, below, meth, c⟩ := X
  intro O H locs cells slots ls r1 r2 r3 r4 r5
  exact lv_goto O.1 O.2.1 hd ht (kk O H locs cells slots ls r1 r2 r3 r4 r5)
theorem x_tin {a dflt lo hi : Int} {offs : Array Int} {len : Nat} {off : Int} (tgt : Nat) (hd : decode cc pc = .ok (.tableswitch dflt lo hi offs, len)) (ha : -2147483648 ≤ a ∧ a ≤ 2147483647) (h1 : lo ≤ a) (h2 : a ≤ hi) (ho : offs[(a - lo).toNat]? = some off) (ht : (pc : Int) + off = (tgt : Int)) (kk : V G X cc nL y ret dp P mc ms tgt lv st h kc ks) : V G X cc nL y ret dp P mc ms pc lv (iv a :: st) h kc ks := by
  obtain ⟨p, l, e, s, m, args, below, meth, c⟩ := X
  intro O H locs cells slots ls r1 r2 r3 r4 r5
  exact lv_tableIn O.1 O.2.1 hd (by rw [ivT ha]; omega) (by rw [ivT ha]; omega) (by rw [ivT ha]; exact ho) ht (kk O H locs cells slots ls r1 r2 r3 r4 r5)
theorem x_tout {a dflt lo hi : Int} {offs : Array Int} {len : Nat} (tgt : Nat) (hd : decode cc pc = .ok (.tableswitch dflt lo hi offs, len)) (ha : -2147483648 ≤ a ∧ a ≤ 2147483647) (h1 : a < lo ∨ hi < a) (ht : (pc : Int) + dflt = (tgt : Int)) (kk : V G X cc nL y ret dp P mc ms tgt lv st h kc ks) : V G X cc nL y ret dp P mc ms pc lv (iv a :: st) h kc ks := by
  obtain ⟨p, l, e, s, m, args, below, meth, c⟩ := X
  intro O H locs cells slots ls r1 r2 r3 r4 r5
  exact lv_tableOut O.1 O.2.1 hd (by rw [ivT ha]; exact h1) ht (kk O H locs cells slots ls r1 r2 r3 r4 r5)
/-- an array's element -/
theorem x_iald {a r n : Nat} {f : Nat → Int} {z : Int} (ha : h a = some (r, ia G n f)) (hz : 0 ≤ z ∧ z < n) (hn : n ≤ 2147483647) (hd : decode cc pc = .ok (.iaload, 1)) (kk : V G X cc nL y ret dp P mc ms (pc + 1) lv (iv (f z.toNat) :: st) h kc ks) : V G X cc nL y ret dp P mc ms pc lv (iv z :: .ref a :: st) h kc ks := by
  obtain ⟨p, l, e, s, m, args, below, meth, c⟩ := X
  intro O H locs cells slots ls r1 r2 r3 r4 r5
  have kk := kk O H locs cells slots ls r1 r2 r3 r4 r5
  have hK : va_K G.2.2.1 clAll (tyAll G.2.2.2) s := va_K.moved O.2.2.2.2.2.2.2.2.1.alike O.2.2.2.2.2.2.2.2.2.2.2.2
  have hP : va_P G.2.2.1 clAll [(a, ia G n f)] H := fun k q hq => by
    match k, hq with
    | 0, hq => cases hq; exact r1.2.2.2.2 a r _ ha
  refine va_iald O.1 O.2.1 hK hP 0 0 rfl rfl (iv_in hz.1 hz.2 (by omega)) hd ?_
  rw [iv_cl hz.1 (by omega)]
  exact kk
theorem x_iast {a r n : Nat} {f : Nat → Int} {z x : Int} (ha : h a = some (r, ia G n f)) (hr : r ≠ 0) (hz : 0 ≤ z ∧ z < n) (hn : n ≤ 2147483647) (hd : decode cc pc = .ok (.iastore, 1)) (kk : V G X cc nL y ret dp P mc ms (pc + 1) lv st (hup h a (r, ia G n (fup f z.toNat x))) kc ks) : V G X cc nL y ret dp P mc ms pc lv (iv x :: iv z :: .ref a :: st) h kc ks := by
  obtain ⟨p, l, e, s, m, args, below, meth, c⟩ := X
  intro O H locs cells slots ls r1 r2 r3 r4 r5
  have hK : va_K G.2.2.1 clAll (tyAll G.2.2.2) s := va_K.moved O.2.2.2.2.2.2.2.2.1.alike O.2.2.2.2.2.2.2.2.2.2.2.2
  have hc : H[a]? = some (vp_cell (G.2.2.2 0) (n, .inl (fun j => Int32.ofInt (f j)))) := r1.2.2.2.2 a r _ ha
  refine W.iast O.1 O.2.1 hc ((hK.2 0 _ rfl).1 n (fun j => .int (Int32.ofInt (f j)))) (fun q => by cases q) (by show ¬ (_ ∨ (arrV _ _ _).slots.size ≤ _); rw [arrV_size]; exact iv_in hz.1 hz.2 (by omega)) rfl rfl hd fun H1 e1 z1 oq => ?_
  refine kk O H1 _ cells slots ls (r1.set ha hr ?_ z1 oq) (fun q hq => ?_) r3 r4 r5
  · show H1[a]? = some (vp_cell _ _)
    rw [e1, vp_cell_i, vp_cell_i, arrV_store, iv_cl hz.1 (by omega)]
    congr 2
    funext q
    by_cases hq : q = z.toNat
    · subst hq
      simp [updV, fup]
    · simp [updV, fup, hq]
  · rcases List.mem_append.mp hq with u | u
    · exact r2 q u
    · rw [List.mem_singleton.mp u]; exact r1.2.2.2.1 a r _ ha hr
theorem x_alen {a r : Nat} {cA : ClassId} {w : vp_A} (t0 : Nat) {ty : FieldType} (ht : (tyAll G.2.2.2)[t0]? = some (cA, ty)) (ha : h a = some (r, .inl (cA, w))) (hd : decode cc pc = .ok (.arraylength, 1)) (kk : V G X cc nL y ret dp P mc ms (pc + 1) lv (iv w.1 :: st) h kc ks) : V G X cc nL y ret dp P mc ms pc lv (.ref a :: st) h kc ks := by
  obtain ⟨p, l, e, s, m, args, below, meth, c⟩ := X
  intro O H locs cells slots ls r1 r2 r3 r4 r5
  have kk := kk O H locs cells slots ls r1 r2 r3 r4 r5
  have hK : va_K G.2.2.1 clAll (tyAll G.2.2.2) s := va_K.moved O.2.2.2.2.2.2.2.2.1.alike O.2.2.2.2.2.2.2.2.2.2.2.2
  have hP : va_P G.2.2.1 clAll [(a, .inl (cA, w))] H := fun k q hq => by
    match k, hq with
    | 0, hq => cases hq; exact r1.2.2.2.2 a r _ ha
  exact va_alen O.1 O.2.1 hK hP 0 t0 rfl ht (Int32.ofInt_eq_ofNat.symm) hd kk
/-- a field's value -/
theorem x_get {C : String} {T : u_T} {N ci i a r : Nat} {fs : List Value} {v : Value} (k : Nat) (hin : ∀ w ∈ u_ws C T N, w ∈ lw_all) (hc : clAll[ci]? = some (C, T, N)) (hk : k < N) (hl : Cond.fieldLink y.cls i (T k).1 (T k).2.1 (T k).2.2.1 ∈ lw_all) (hd : decode cc pc = .ok (.getfield i, 3)) (ha : h a = some (r, ob ci fs)) (hv : fs[k]? = some v) (kk : V G X cc nL y ret dp P mc ms (pc + 3) lv (v :: st) h kc ks) : V G X cc nL y ret dp P mc ms pc lv (.ref a :: st) h kc ks := by
  obtain ⟨p, l, e, s, m, args, below, meth, c⟩ := X
  intro O H locs cells slots ls r1 r2 r3 r4 r5
  have kk := kk O H locs cells slots ls r1 r2 r3 r4 r5
  have hK : va_K G.2.2.1 clAll (tyAll G.2.2.2) s := va_K.moved O.2.2.2.2.2.2.2.2.1.alike O.2.2.2.2.2.2.2.2.2.2.2.2
  have hP : va_P G.2.2.1 clAll [(a, .inr (ci, fs))] H := fun k q hq => by
    match k, hq with
    | 0, hq => cases hq; exact r1.2.2.2.2 a r _ ha
  exact va_get O.1 O.2.1 O.2.2.2.2.1 hin O.2.2.2.1 hK hP 0 rfl hc k hk (O.2.2.2.2.1 _ hl) (fun _ u => u) hv hd kk
theorem x_put {C : String} {T : u_T} {N ci i a r : Nat} {fs : List Value} {v : Value} {ty : FieldType} (k : Nat) (hin : ∀ w ∈ u_ws C T N, w ∈ lw_all) (ty0 : Nat → FieldType) (hty : ∀ k, k < N → parseFieldDescriptor (T k).2.2.1 = some (ty0 k)) (hnm : ∀ a, a < N → ∀ b, b < N → a ≠ b → (T a).2.1 ≠ (T b).2.1) (hc : clAll[ci]? = some (C, T, N)) (hk : k < N) (hfin : (T k).2.2.2 = false) (hl : Cond.fieldLink y.cls i (T k).1 (T k).2.1 (T k).2.2.1 ∈ lw_all) (hd : decode cc pc = .ok (.putfield i, 3)) (ha : h a = some (r, ob ci fs)) (hr : r ≠ 0) (hf : k < fs.length) (hdt : ty0 k = ty) (hn : narrow ty v = v) (hfit : fits ty v = true) (kk : V G X cc nL y ret dp P mc ms (pc + 3) lv st (hup h a (r, ob ci (fs.set k v))) kc ks) : V G X cc nL y ret dp P mc ms pc lv (v :: .ref a :: st) h kc ks := by
  obtain ⟨p, l, e, s, m, args, below, meth, c⟩ := X
  intro O H locs cells slots ls r1 r2 r3 r4 r5
  have hK : va_K G.2.2.1 clAll (tyAll G.2.2.2) s := va_K.moved O.2.2.2.2.2.2.2.2.1.alike O.2.2.2.2.2.2.2.2.2.2.2.2
  have hts := O.2.2.2.2.1
  have hap := va_apart (own := y.cls) hts hin ty0 hty hnm hK hc
  obtain ⟨rr, h1, cell, q1, q2, q3, q4⟩ := r1.2.2.2.2 a r _ ha
  have hrr : rr = (C, T, N) := Option.some.inj (h1.symm.trans hc)
  subst hrr
  obtain ⟨hS, hfc, kC, hkC, hkind⟩ := hK.1 ci _ hc
  obtain ⟨cf, kf, fi, f, hi, hsl⟩ := hS k hk
  have hlay := hts _ (hin _ (u_in_lay hk))
  unfold u_lay at hlay
  rw [if_neg (by rw [hfin]; decide)] at hlay
  have hst := (u_facts hfc hkC (u_lays hts hin hk) hi).1
  have h6 := u_store hfc hkC hkind hlay hi ((hty k hk).trans (congrArg some hdt)) hn hfit
  refine W.putK O.1 O.2.1 (f := f) ⟨O.2.2.2.1, hts _ hl, ⟨_, _, _, hi⟩, hst⟩ (by rw [q2]; exact h6) q1 q3 (by rw [hsl]; exact k2_hasslot (q4 k hk)) rfl rfl hd fun H' e1 e2 e3 => ?_
  rw [hsl] at e1 ⊢
  refine kk O H' _ cells slots ls (r1.set ha hr ⟨_, hc, t_OB.to (V := updV (vp_V fs) k v) ⟨_, e1, q2, q3, t_set q4 hap hk v⟩ (fun j _ => vp_updV_set hf v j)⟩ e2 e3) (fun q hq => ?_) r3 r4 r5
  rcases List.mem_append.mp hq with u | u
  · exact r2 q u
  · rw [List.mem_singleton.mp u]; exact r1.2.2.2.1 a r _ ha hr
/-- a final field, in its constructor -/
theorem x_putF {C : String} {T : u_T} {N ci i a r : Nat} {fs : List Value} {v : Value} {ty : FieldType} (k : Nat) (hin : ∀ w ∈ u_ws C T N, w ∈ lw_all) (ty0 : Nat → FieldType) (hty : ∀ k, k < N → parseFieldDescriptor (T k).2.2.1 = some (ty0 k)) (hnm : ∀ a, a < N → ∀ b, b < N → a ≠ b → (T a).2.1 ≠ (T b).2.1) (hc : clAll[ci]? = some (C, T, N)) (hk : k < N) (hfin : (T k).2.2.2 = true) (hin2 : y.name = "<init>") (hdecl : (T k).1 = y.cls) (hl : Cond.fieldLink y.cls i (T k).1 (T k).2.1 (T k).2.2.1 ∈ lw_all) (hd : decode cc pc = .ok (.putfield i, 3)) (ha : h a = some (r, ob ci fs)) (hr : r ≠ 0) (hf : k < fs.length) (hdt : ty0 k = ty) (hn : narrow ty v = v) (hfit : fits ty v = true) (kk : V G X cc nL y ret dp P mc ms (pc + 3) lv st (hup h a (r, ob ci (fs.set k v))) kc ks) : V G X cc nL y ret dp P mc ms pc lv (v :: .ref a :: st) h kc ks := by
  obtain ⟨p, l, e, s, m, args, below, meth, c⟩ := X
  intro O H locs cells slots ls r1 r2 r3 r4 r5
  have hK : va_K G.2.2.1 clAll (tyAll G.2.2.2) s := va_K.moved O.2.2.2.2.2.2.2.2.1.alike O.2.2.2.2.2.2.2.2.2.2.2.2
  have hts := O.2.2.2.2.1
  have hown := O.2.2.2.1
  have hap := va_apart (own := y.cls) hts hin ty0 hty hnm hK hc
  obtain ⟨rr, h1, cell, q1, q2, q3, q4⟩ := r1.2.2.2.2 a r _ ha
  have hrr : rr = (C, T, N) := Option.some.inj (h1.symm.trans hc)
  subst hrr
  obtain ⟨hS, hfc, kC, hkC, hkind⟩ := hK.1 ci _ hc
  obtain ⟨cf, kf, fi, f, hi, hsl⟩ := hS k hk
  have hlay := hts _ (hin _ (u_in_lay hk))
  unfold u_lay at hlay
  rw [if_pos hfin] at hlay
  have hst := (u_facts hfc hkC (u_lays hts hin hk) hi).1
  have hcf : m.cls = cf := by
    obtain ⟨_, _, c', _, _, _, -, -, hf', -, -, -, hown2, -⟩ := Cond.laysFinal_spec hlay
    have e1 : c' = cf := by have := hi.symm.trans hf'; simp at this; exact this.1.symm
    rw [hdecl] at hown2
    rw [← e1]; exact Option.some.inj (hown.symm.trans hown2)
  have h6 := u_fits hfc hkC hkind (Or.inr hlay) hi ((hty k hk).trans (congrArg some hdt)) hn hfit
  refine W.putFinK O.1 O.2.1 hown (hts _ hl) hi hst hcf (O.2.2.2.2.2.2.2.1.trans hin2) (by rw [q2]; exact h6) q1 q3 (by rw [hsl]; exact k2_hasslot (q4 k hk)) rfl rfl hd fun H' e1 e2 e3 => ?_
  rw [hsl] at e1 ⊢
  refine kk O H' _ cells slots ls (r1.set ha hr ⟨_, hc, t_OB.to (V := updV (vp_V fs) k v) ⟨_, e1, q2, q3, t_set q4 hap hk v⟩ (fun j _ => vp_updV_set hf v j)⟩ e2 e3) (fun q hq => ?_) r3 r4 r5
  rcases List.mem_append.mp hq with u | u
  · exact r2 q u
  · rw [List.mem_singleton.mp u]; exact r1.2.2.2.1 a r _ ha hr
/-- a new object, of region r -/
theorem x_new {C : String} {T : u_T} {N ci i : Nat} {fs : List Value} (r : Nat) (hr : r ≠ 0) (hin : ∀ w ∈ u_ws C T N, w ∈ lw_all) (ty0 : Nat → FieldType) (hty : ∀ k, k < N → parseFieldDescriptor (T k).2.2.1 = some (ty0 k)) (hc : clAll[ci]? = some (C, T, N)) (hcl : Cond.classLink y.cls i C ∈ lw_all) (hins : Cond.instantiable C N ∈ lw_all) (hini : Cond.initialized C ∈ lw_all) (hfs : ∀ j, j < N → defaultValue (ty0 j) = vp_V fs j) (hd : decode cc pc = .ok (.new i, 3)) (hk1 : 1 ≤ kc) (hk2 : N ≤ ks)
    (kk : ∀ a : Nat, h a = none → V G X cc nL y ret dp P mc ms (pc + 3) lv (.ref a :: st) (hup h a (r, ob ci fs)) (kc - 1) (ks - N)) : V G X cc nL y ret dp P mc ms pc lv st h kc ks := by
  obtain ⟨p, l, e, s, m, args, below, meth, c⟩ := X
  intro O H locs cells slots ls r1 r2 r3 r4 r5
  have hK : va_K G.2.2.1 clAll (tyAll G.2.2.2) s := va_K.moved O.2.2.2.2.2.2.2.2.1.alike O.2.2.2.2.2.2.2.2.2.2.2.2
  have hts := O.2.2.2.2.1
  have hKn := hK.1 ci _ hc
  refine W.newcK O.1 O.2.1 O.2.2.2.1 (hts _ hcl) (hts _ hins) (hts _ hini) rfl hd (by show cells + 1 ≤ mc; omega) (by show slots + N ≤ ms; omega) hKn.2.1 rfl fun H1 kC hkC e1 z1 o1 => ?_
  obtain ⟨g1, g2⟩ := r1.push r (e := .inr (ci, fs)) hr ⟨_, hc, (u_born ty0 hts hin hKn hkC e1 hty).to hfs⟩ z1 o1
  exact kk H.size g2 O H1 locs (cells + 1) (slots + N) ls g1 r2 (by omega) (by omega) r5
/-- a new array of ints, of bytes -/
theorem x_newI {z : Int} (r : Nat) (hr : r ≠ 0) (hw : Cond.arrayClass .int ∈ lw_all) (hd : decode cc pc = .ok (.newarray .int, 2)) (hz : 0 ≤ z ∧ z ≤ 65536) (hk1 : 1 ≤ kc) (hk2 : z.toNat ≤ ks)
    (kk : ∀ a : Nat, h a = none → V G X cc nL y ret dp P mc ms (pc + 2) lv (.ref a :: st) (hup h a (r, ia G z.toNat (fun _ => 0))) (kc - 1) (ks - z.toNat)) : V G X cc nL y ret dp P mc ms pc lv (iv z :: st) h kc ks := by
  obtain ⟨p, l, e, s, m, args, below, meth, c⟩ := X
  intro O H locs cells slots ls r1 r2 r3 r4 r5
  have hK : va_K G.2.2.1 clAll (tyAll G.2.2.2) s := va_K.moved O.2.2.2.2.2.2.2.2.1.alike O.2.2.2.2.2.2.2.2.2.2.2.2
  refine va_newaK (atype := .int) (N := z.toNat) O.1 O.2.1 (O.2.2.2.2.1 _ hw) rfl hd rfl (by rw [Int32.lt_iff_toInt_lt, ivT (by omega)]; show ¬ z < 0; omega) (iv_cl hz.1 (by omega)) (by show z.toNat * 4 ≤ _; omega) (by show cells + 1 ≤ mc; omega) (by show slots + z.toNat ≤ ms; omega) rfl fun H1 cA e1 z1 o1 hAr hNm => ?_
  have hcA : cA = G.2.2.2 0 := Option.some.inj (hNm.symm.trans (hK.2 0 _ rfl).2)
  subst hcA
  obtain ⟨g1, g2⟩ := r1.push r (e := ia G z.toNat (fun _ => 0)) hr e1 z1 o1
  exact kk H.size g2 O H1 locs (cells + 1) (slots + z.toNat) ls g1 r2 (by omega) (by omega) r5
/-- Object's constructor -/
theorem x_oinit {i a : Nat} (hl : Cond.methodLink y.cls i objectInit ∈ lw_all) (h2 : Cond.instanceMethod objectInit ∈ lw_all) (h3 : Cond.code objectInit ⟨#[0xb1]⟩ 1 none ∈ lw_all) (hd : decode cc pc = .ok (.invokespecial i, 3)) (hdp : 1 ≤ dp) (hst : (st.map fun v => v.category).sum ≤ 8) (kk : V G X cc nL y ret dp P mc ms (pc + 3) lv st h kc ks) : V G X cc nL y ret dp P mc ms pc lv (.ref a :: st) h kc ks := by
  obtain ⟨p, l, e, s, m, args, below, meth, c⟩ := X
  intro O H locs cells slots ls r1 r2 r3 r4 r5
  have hts := O.2.2.2.2.1
  exact W.objInit O.1 O.2.1 O.2.2.2.1 (hts _ hl) (hts _ h2) (hts _ h3) rfl (by rw [O.2.2.1]; exact r5.1) rfl hd hdp (by show 2 * 0 + _ + 12 ≤ 64 * dp; omega) (kk O H locs cells slots ls r1 r2 r3 r4 r5)
/-- ends -/
theorem x_iret {x : Int32} (hret : ret = some .int) (hP : P (some (.int x)) h) (hd : decode cc pc = .ok (.ireturn, 1)) : V G X cc nL y ret dp P mc ms pc lv [.int x] h kc ks := by
  obtain ⟨p, l, e, s, m, args, below, meth, c⟩ := X
  intro O H locs cells slots ls r1 r2 r3 r4 r5
  refine W.widen (k := mc) (n := ms) (by omega) (by omega) ?_
  exact W.iret O.1 O.2.1 (O.2.2.2.2.2.2.1.trans hret) (fun t ht _ => ⟨_, h, rfl, hP, by rw [ht]; exact r1⟩) r2 hd O.2.2.2.2.2.1
theorem x_zret {x : Int32} {ty : FieldType} (hret : ret = some ty) (hn : narrow ty (.int x) = .int x) (hP : P (some (.int x)) h) (hd : decode cc pc = .ok (.ireturn, 1)) : V G X cc nL y ret dp P mc ms pc lv [.int x] h kc ks := by
  obtain ⟨p, l, e, s, m, args, below, meth, c⟩ := X
  intro O H locs cells slots ls r1 r2 r3 r4 r5
  refine W.widen (k := mc) (n := ms) (by omega) (by omega) ?_
  exact W.zret O.1 O.2.1 (O.2.2.2.2.2.2.1.trans hret) hn (fun t ht _ => ⟨_, h, rfl, hP, by rw [ht]; exact r1⟩) r2 hd O.2.2.2.2.2.1
theorem x_vret (hret : ret = none) (hP : P none h) (hd : decode cc pc = .ok (.return_, 1)) : V G X cc nL y ret dp P mc ms pc lv [] h kc ks := by
  obtain ⟨p, l, e, s, m, args, below, meth, c⟩ := X
  intro O H locs cells slots ls r1 r2 r3 r4 r5
  refine W.widen (k := mc) (n := ms) (by omega) (by omega) ?_
  exact W.vret O.1 O.2.1 (O.2.2.2.2.2.2.1.trans hret) (fun t ht _ => ⟨_, h, rfl, hP, by rw [ht]; exact r1⟩) r2 hd O.2.2.2.2.2.1
/-- a contract out of the body's run -/
theorem Mt.of {l : Launch} {av : List Value} {lv : List (Nat × Value)} (hy : plainName y.cls = true) (hlen : (lg_sl av).length ≤ nL) (hlv : lv_args 0 av = lv) (body : ∀ X : Cx, V G X cc nL y ret dp P mc ms 0 lv [] h mc ms) : Mt l G y cc nL ret dp av h P mc ms := by
  subst hlv
  refine Met.ofW (cc := cc) (maxL := nL) (ret := ret) hy rfl ?_
  intro p e s m args below meth c s₁ B hml hv
  obtain ⟨rfl, hG, hW, hR⟩ := hv
  have hts := atoms_spec (ws := ws_ y cc nL ret) B.pre
  have hts : ∀ w ∈ lw_all, w.before _ s = true := fun w h => hts w (List.mem_cons_of_mem _ h)
  have hl := lv_entry av hlen
  rw [lg_entry_eq]
  exact body (p, l, e, s, m, av.toArray, below, meth, c) ⟨B.exec, B.bytes, hml, findClass_of_methodNamed B.named, hts, B.notSynchronized, B.returns, (name_of_methodNamed B.named B.method).1, hW, hG⟩ s.heap [] 0 0 _ hR (fun _ u => by cases u) (by omega) (by omega) hl
theorem Rl.recv {s : State} {H : Heap} {a r ci : Nat} {fs : List Value} {q : vw_C} (R : Rl G h H) (hK : va_K G.2.2.1 clAll (tyAll G.2.2.2) s) (ha : h a = some (r, ob ci fs)) (hc : clAll[ci]? = some q) : ∃ cell : Cell, H[a]? = some cell ∧ cell.vm.isStatics = false ∧ s.vm.findClass q.1 = some cell.cls := by
  obtain ⟨q', h1, cell, g1, g2, g3, -⟩ := R.2.2.2.2 a r _ ha
  exact ⟨cell, g1, by rw [g3]; rfl, by rw [g2]; exact (hK.1 ci q hc).2.1⟩
/-- behind a call -/
theorem x_run {p : Program} {l : Launch} {e : Env} {R : Room} {s : State} {m : MethodId} {args : Array Value} {below : List Frame} {meth : Method} {c : Code} {H : Heap} {locs : List Loc} {cells slots mc1 ms1 : Nat} {ls : Array Slot} {st0 rest : List Value} {P1 : Option Value → Hp → Prop} {a : Array Value} {Q : State → Prop}
    (hr : va_Run p l e R s m args below meth c H locs cells slots mc1 ms1 (F0 m pc ls st0) rest (VQ G P1 a) (fun q => G.1.heap.size ≤ q)) (r2 : ∀ q ∈ locs, G.1.heap.size ≤ q.base)
    (kk : ∀ (v : Option Value) (h1 : Hp), P1 v h1 → ∀ (H1 : Heap) (locs1 : List Loc), Rl G h1 H1 → (∀ q ∈ locs1, G.1.heap.size ≤ q.base) → W p l e R s m args below meth c H1 locs1 (cells + mc1) (slots + ms1) Q (F0 m (pc + 3) ls (v.toList ++ rest))) : W p l e R s m args below meth c H locs cells slots Q (F0 m pc ls st0) := by
  intro T hT X
  obtain ⟨v, st₀, t, T', L, h0, X', hL, e1, e2, ⟨v2, h1, hv, hp, hb⟩, st⟩ := hr T hT X
  cases hv
  obtain ⟨t2, a1, b1⟩ := kk v h1 hp T'.heap (locs ++ L) (by rw [e1]; exact hb) (fun q hq => by
      rcases List.mem_append.mp hq with u | u
      · exact r2 q u
      · exact hL q u) T' rfl X'
  exact ⟨t2, st t2 a1, b1⟩
theorem blind {l : Launch} {av : List Value} : FrameBlind (va_Pc av (fun U => GOk l G ∧ G.1.WarmedH U.vm ∧ Rl G h U.heap)) := fun a U g mk q => by
  obtain ⟨q0, q1, q2, q3⟩ := q
  exact ⟨q0, q1, q2, q3⟩
/-- a call through an object whose class has the method -/
theorem x_callV {C : String} {y1 : MethodName} {cc1 : ByteArray} {nL1 : Nat} {ret1 : Option FieldType} {dp1 mc1 ms1 i a r ci : Nat} {fs : List Value} {T : u_T} {N : Nat} {As rest st0 : List Value} {P1 : Option Value → Hp → Prop} (n : Nat)
    (hM : ∀ l : Launch, Mt l G y1 cc1 nL1 ret1 dp1 (.ref a :: As) h P1 mc1 ms1) (h1 : Cond.methodLink y.cls i y1 ∈ lw_all) (h2 : Cond.instanceMethod y1 ∈ lw_all) (h3 : Cond.selects C y1 y1 ∈ lw_all) (h4 : Cond.initialized C ∈ lw_all) (h5 : Cond.code y1 cc1 nL1 ret1 ∈ lw_all)
    (hyd : y1.cls = C ∧ y1.cls ≠ "java/lang/invoke/MethodHandle" ∧ y1.cls ≠ "java/lang/invoke/VarHandle" ∧ (parseMethodDescriptor y1.desc).map (fun d => d.parameters.length) = some n) (hdp : dp1 + 1 ≤ dp) (hnl : nL1 ≤ 45)
    (ha : h a = some (r, ob ci fs)) (hc : clAll[ci]? = some (C, T, N)) (hn : As.length = n) (hst : st0 = As.reverse ++ .ref a :: rest) (hrs : (rest.map fun v => v.category).sum ≤ 8) (hd : decode cc pc = .ok (.invokevirtual i, 3)) (hk1 : mc1 ≤ kc) (hk2 : ms1 ≤ ks)
    (kk : ∀ (v : Option Value) (h' : Hp), P1 v h' → V G X cc nL y ret dp P mc ms (pc + 3) lv (v.toList ++ rest) h' (kc - mc1) (ks - ms1)) : V G X cc nL y ret dp P mc ms pc lv st0 h kc ks := by
  obtain ⟨p, l, e, s, m, args, below, meth, c⟩ := X
  intro O H locs cells slots ls r1 r2 r3 r4 r5
  have hK : va_K G.2.2.1 clAll (tyAll G.2.2.2) s := va_K.moved O.2.2.2.2.2.2.2.2.1.alike O.2.2.2.2.2.2.2.2.2.2.2.2
  have hts := O.2.2.2.2.1
  have hW := O.2.2.2.2.2.2.2.2.1
  have hG := O.2.2.2.2.2.2.2.2.2
  refine x_run (va_runV (As := As) (rest := rest) ⟨O.1, O.2.1, O.2.2.1, O.2.2.2.1, hts⟩ (hM l) (cwV n hts (lw_V h1 h2 h3 h4 h5) rfl rfl rfl hyd ⟨hdp, by show 8 + (nL1 + 11) + 64 * dp1 ≤ 64 * dp; omega⟩) ⟨blind, r1.recv hK ha hc, fun U hU hW2 => ⟨rfl, hG, State.WarmedH.trans hW hW2, by rw [hU]; exact r1⟩⟩ rfl hn r5.1 hst (lv_room hrs) hd ⟨by show cells + mc1 ≤ mc; omega, by show slots + ms1 ≤ ms; omega⟩) r2 (fun v h' hp H1 locs1 R1 L1 => ?_)
  exact kk v h' hp O H1 locs1 _ _ ls R1 L1 (by omega) (by omega) r5
theorem x_callS {y1 : MethodName} {cc1 : ByteArray} {nL1 : Nat} {ret1 : Option FieldType} {dp1 mc1 ms1 i : Nat} {As rest st0 : List Value} {P1 : Option Value → Hp → Prop} (n : Nat)
    (hM : ∀ l : Launch, Mt l G y1 cc1 nL1 ret1 dp1 As h P1 mc1 ms1) (h1 : Cond.methodLink y.cls i y1 ∈ lw_all) (h2 : Cond.static y1 ∈ lw_all) (h3 : Cond.initialized y1.cls ∈ lw_all) (h5 : Cond.code y1 cc1 nL1 ret1 ∈ lw_all)
    (hyd : y1.cls ≠ "java/lang/invoke/MethodHandle" ∧ y1.cls ≠ "java/lang/invoke/VarHandle" ∧ (parseMethodDescriptor y1.desc).map (fun d => d.parameters.length) = some n) (hdp : dp1 + 1 ≤ dp) (hnl : nL1 ≤ 45)
    (hn : As.length = n) (hst : st0 = As.reverse ++ rest) (hrs : (rest.map fun v => v.category).sum ≤ 8) (hd : decode cc pc = .ok (.invokestatic i, 3)) (hk1 : mc1 ≤ kc) (hk2 : ms1 ≤ ks)
    (kk : ∀ (v : Option Value) (h' : Hp), P1 v h' → V G X cc nL y ret dp P mc ms (pc + 3) lv (v.toList ++ rest) h' (kc - mc1) (ks - ms1)) : V G X cc nL y ret dp P mc ms pc lv st0 h kc ks := by
  obtain ⟨p, l, e, s, m, args, below, meth, c⟩ := X
  intro O H locs cells slots ls r1 r2 r3 r4 r5
  have hts := O.2.2.2.2.1
  have hW := O.2.2.2.2.2.2.2.2.1
  have hG := O.2.2.2.2.2.2.2.2.2
  refine x_run (va_runS (As := As) (rest := rest) ⟨O.1, O.2.1, O.2.2.1, O.2.2.2.1, hts⟩ (hM l) (va_cwS n hts (lw_S h1 h2 h3 h5) rfl rfl rfl hyd ⟨hdp, by show 8 + (nL1 + 11) + 64 * dp1 ≤ 64 * dp; omega⟩) ⟨blind, fun U hU hW2 => ⟨rfl, hG, State.WarmedH.trans hW hW2, by rw [hU]; exact r1⟩⟩ rfl hn r5.1 hst (lv_room hrs) hd ⟨by show cells + mc1 ≤ mc; omega, by show slots + ms1 ≤ ms; omega⟩) r2 (fun v h' hp H1 locs1 R1 L1 => ?_)
  exact kk v h' hp O H1 locs1 _ _ ls R1 L1 (by omega) (by omega) r5
theorem x_callI {y1 : MethodName} {cc1 : ByteArray} {nL1 : Nat} {dp1 mc1 ms1 i a : Nat} {As rest st0 : List Value} {P1 : Option Value → Hp → Prop} (n : Nat)
    (hM : ∀ l : Launch, Mt l G y1 cc1 nL1 none dp1 (.ref a :: As) h P1 mc1 ms1) (h1 : Cond.methodLink y.cls i y1 ∈ lw_all) (h2 : Cond.instanceMethod y1 ∈ lw_all) (h3 : Cond.initialized y1.cls ∈ lw_all) (h5 : Cond.code y1 cc1 nL1 none ∈ lw_all) (hy1 : y1.name = "<init>")
    (hyd : y1.cls ≠ "java/lang/invoke/MethodHandle" ∧ y1.cls ≠ "java/lang/invoke/VarHandle" ∧ (parseMethodDescriptor y1.desc).map (fun d => d.parameters.length) = some n) (hdp : dp1 + 1 ≤ dp) (hnl : nL1 ≤ 45)
    (hn : As.length = n) (hst : st0 = As.reverse ++ .ref a :: rest) (hrs : (rest.map fun v => v.category).sum ≤ 8) (hd : decode cc pc = .ok (.invokespecial i, 3)) (hk1 : mc1 ≤ kc) (hk2 : ms1 ≤ ks)
    (kk : ∀ (v : Option Value) (h' : Hp), P1 v h' → V G X cc nL y ret dp P mc ms (pc + 3) lv (v.toList ++ rest) h' (kc - mc1) (ks - ms1)) : V G X cc nL y ret dp P mc ms pc lv st0 h kc ks := by
  obtain ⟨p, l, e, s, m, args, below, meth, c⟩ := X
  intro O H locs cells slots ls r1 r2 r3 r4 r5
  have hts := O.2.2.2.2.1
  have hW := O.2.2.2.2.2.2.2.2.1
  have hG := O.2.2.2.2.2.2.2.2.2
  refine x_run (va_runI (As := As) (rest := rest) ⟨O.1, O.2.1, O.2.2.1, O.2.2.2.1, hts⟩ (hM l) (cwI n hts (lw_meth h5) rfl rfl rfl (hts _ h3) (hts _ h1) (hts _ h2) hy1 hyd ⟨hdp, by show 8 + (nL1 + 11) + 64 * dp1 ≤ 64 * dp; omega⟩) ⟨blind, fun U hU hW2 => ⟨rfl, hG, State.WarmedH.trans hW hW2, by rw [hU]; exact r1⟩⟩ rfl hn r5.1 hst (lv_room hrs) hd ⟨by show cells + mc1 ≤ mc; omega, by show slots + ms1 ≤ ms; omega⟩) r2 (fun v h' hp H1 locs1 R1 L1 => ?_)
  exact kk v h' hp O H1 locs1 _ _ ls R1 L1 (by omega) (by omega) r5
end CORE
