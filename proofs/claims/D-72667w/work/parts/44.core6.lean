/-! CORE 6: inherited fields; arraycopy; string constants -/
set_option maxRecDepth 100000
section CORE7
variable {G : Gw} {X : Cx} {cc : ByteArray} {nL : Nat} {y : MethodName} {ret : Option FieldType} {dp : Nat} {P : Option Value → Hp → Prop} {mc ms pc : Nat} {lv : List (Nat × Value)} {st : List Value} {h : Hp} {kc ks : Nat}
/-- a field that the object's class inherits, named by the class ref -/
theorem x_getU {C ref : String} {T : u_T} {N ci i a r : Nat} {fs : List Value} {v : Value} (k : Nat) (hin : ∀ w ∈ u_ws C T N, w ∈ lw_all) (hc : clAll[ci]? = some (C, T, N)) (hk : k < N) (hl : Cond.fieldLink y.cls i ref (T k).2.1 (T k).2.2.1 ∈ lw_all) (hs : Cond.sameField ref (T k).1 (T k).2.1 (T k).2.2.1 ∈ lw_all) (hd : decode cc pc = .ok (.getfield i, 3)) (ha : h a = some (r, ob ci fs)) (hv : fs[k]? = some v) (kk : V G X cc nL y ret dp P mc ms (pc + 3) lv (v :: st) h kc ks) : V G X cc nL y ret dp P mc ms pc lv (.ref a :: st) h kc ks := by
  obtain ⟨p, l, e, s, m, args, below, meth, c⟩ := X
  intro O H locs cells slots ls r1 r2 r3 r4 r5
  have kk := kk O H locs cells slots ls r1 r2 r3 r4 r5
  have hP : va_P G.2.2.1 clAll [(a, .inr (ci, fs))] H := fun k q hq => by
    match k, hq with
    | 0, hq => cases hq; exact r1.2.2.2.2 a r _ ha
  exact va_get O.1 O.2.1 O.2.2.2.2.1 hin O.2.2.2.1 O.K hP 0 rfl hc k hk (O.2.2.2.2.1 _ hl) (fun x hx => u_same (O.2.2.2.2.1 _ hs) x hx) hv hd kk
theorem x_putU {C ref : String} {T : u_T} {N ci i a r : Nat} {fs : List Value} {v : Value} {ty : FieldType} (k : Nat) (hin : ∀ w ∈ u_ws C T N, w ∈ lw_all) (ty0 : Nat → FieldType) (hty : ∀ k, k < N → parseFieldDescriptor (T k).2.2.1 = some (ty0 k)) (hnm : ∀ a, a < N → ∀ b, b < N → a ≠ b → (T a).2.1 ≠ (T b).2.1) (hc : clAll[ci]? = some (C, T, N)) (hk : k < N) (hfin : (T k).2.2.2 = false) (hl : Cond.fieldLink y.cls i ref (T k).2.1 (T k).2.2.1 ∈ lw_all) (hs : Cond.sameField ref (T k).1 (T k).2.1 (T k).2.2.1 ∈ lw_all) (hd : decode cc pc = .ok (.putfield i, 3)) (ha : h a = some (r, ob ci fs)) (hr : r ≠ 0) (hf : k < fs.length) (hdt : ty0 k = ty) (hn : narrow ty v = v) (hfit : fits ty v = true) (kk : V G X cc nL y ret dp P mc ms (pc + 3) lv st (hup h a (r, ob ci (fs.set k v))) kc ks) : V G X cc nL y ret dp P mc ms pc lv (v :: .ref a :: st) h kc ks := by
  obtain ⟨p, l, e, s, m, args, below, meth, c⟩ := X
  intro O H locs cells slots ls r1 r2 r3 r4 r5
  have hK := O.K
  have hts := O.2.2.2.2.1
  have hap := va_apart (own := y.cls) hts hin ty0 hty hnm hK hc
  obtain ⟨rr, h1, cell, q1, q2, q3, q4⟩ := r1.2.2.2.2 a r _ ha
  have hrr : rr = (C, T, N) := Option.some.inj (h1.symm.trans hc)
  subst hrr
  obtain ⟨hS, hfc, kC, hkC, hkind⟩ := hK.1 ci _ hc
  obtain ⟨cf, kf, fi, f, hi, hsl⟩ := hS k hk
  have hlay := hts _ (hin _ (u_in_lay hk))
  unfold u_lay at hlay
  rw [if_neg (by rw [hfin]; decide)] at hlay
  have hst := (u_facts hfc hkC (u_lays hts hin hk) hi).1
  have h6 := u_store hfc hkC hkind hlay hi ((hty k hk).trans (congrArg some hdt)) hn hfit
  refine W.putK O.1 O.2.1 (f := f) ⟨O.2.2.2.1, hts _ hl, ⟨_, _, _, u_same (hts _ hs) _ hi⟩, hst⟩ (by rw [q2]; exact h6) q1 q3 (by rw [hsl]; exact k2_hasslot (q4 k hk)) rfl rfl hd fun H' e1 e2 e3 => ?_
  rw [hsl] at e1 ⊢
  refine kk O H' _ cells slots ls (r1.set ha hr ⟨_, hc, t_OB.to (V := updV (vp_V fs) k v) ⟨_, e1, q2, q3, t_set q4 hap hk v⟩ (fun j _ => vp_updV_set hf v j)⟩ e2 e3) (fun q hq => ?_) r3 r4 r5
  rcases List.mem_append.mp hq with u | u
  · exact r2 q u
  · rw [List.mem_singleton.mp u]; exact r1.2.2.2.1 a r _ ha hr

theorem cpW_i {p : Program} {l : Launch} {e : Env} {R : Room} {s : State} {m : MethodId} {args : Array Value} {below : List Frame} {meth : Method} {c : Code} {H : Heap} {locs : List Loc} {cells slots : Nat} {Q : State → Prop} {cc : ByteArray} {ls : Array Slot} {rest : List Value} {D : va_G} {tys : List (ClassId × FieldType)} {own : String} {index a0 a : Nat} {c0 c1 : ClassId} {n0 n1 : Nat} {f g : Nat → Int32} {ty : FieldType} {sp dp n : Int32} (t0 : Nat)
    (hexec : p.tables.exec = Jvm.exec) (hb : c.code = cc) (hml : c.maxLocals = ls.size) (hown : s.vm.findClass own = some m.cls) (hlink : (Cond.methodLink own index arraycopyName).before args s = true) (hnat : (Cond.native arraycopyName).before args s = true) (hstat : (Cond.static arraycopyName).before args s = true) (hini : (Cond.initialized "java/lang/System").before args s = true)
    (hK : va_K D clAll tys s) (hc0 : H[a0]? = some (vp_cell c0 (n0, .inl f))) (hc1 : H[a]? = some (vp_cell c1 (n1, .inl g))) (ht0 : tys[t0]? = some (c0, ty)) (ht1 : tys[t0]? = some (c1, ty)) (hprim : refKind ty = false) (hfit : ∀ i, i < n.toNatClampNeg → fits ty (.int (f (sp.toNatClampNeg + i))) = true)
    (h1 : ¬ sp < 0) (h2 : ¬ dp < 0) (h3 : ¬ n < 0) (h4 : sp.toNatClampNeg + n.toNatClampNeg ≤ n0) (h5 : dp.toNatClampNeg + n.toNatClampNeg ≤ n1)
    (hframes : 1 ≤ R.frames) (hlocals : (rest.map fun v => v.category).sum + (nativeFrameWords "java/lang/System" "arraycopy" 5 + 11) ≤ R.locals) (hdg : decode cc pc = .ok (.invokestatic index, 3))
    (kk : ∀ (H1 : Heap) (locs1 : List Loc), H1[a]? = some (vp_cell c1 (n1, .inl (va_cpy f g sp.toNatClampNeg dp.toNatClampNeg n.toNatClampNeg))) → H1.size = H.size → (∀ q : Nat, q ≠ a → H1[q]? = H[q]?) → (∀ q ∈ locs1, q ∈ locs ∨ q.base = a) → W p l e R s m args below meth c H1 locs1 cells slots Q (F0 m (pc + 3) ls rest)) : W p l e R s m args below meth c H locs cells slots Q (F0 m pc ls (.int n :: .int dp :: .ref a :: .int sp :: .ref a0 :: rest)) := by
  have nn : ∀ z : Int32, ¬ z < 0 → z.toInt = (z.toNatClampNeg : Int) := by
    intro z hz
    have hz0 : (0 : Int) ≤ z.toInt := by
      have := Int32.not_lt.mp hz
      simpa using Int32.le_iff_toInt_le.mp this
    show z.toInt = ((z.toInt.toNat : Nat) : Int)
    omega
  intro T hT X
  obtain ⟨-, k0, hk0, cm0, hkk0⟩ := (hK.2 t0 _ ht0).1 n0 (fun j => .int (f j))
  obtain ⟨-, k1, hk1, cm1, hkk1⟩ := (hK.2 t0 _ ht1).1 n1 (fun j => .int (g j))
  obtain ⟨vm', X', step⟩ := X.arraycopy hexec hown hlink hnat hstat hini (src := a0) (dst := a) (cs := vp_cell c0 (n0, .inl f)) (cd := vp_cell c1 (n1, .inl g)) (srcPos := sp) (destPos := dp) (n := n) (by rw [hT]; exact hc0) (by rw [hT]; exact hc1)
    (fun _ h => by cases h) (fun _ h => by cases h) (fun h => by cases h) (fun h => by cases h) hk0 hk1 hkk0 hkk1 (by simp [hprim]) h1 h2 h3
    (by rw [nn sp h1, nn n h3]; show ¬ _ > ((arrV c0 n0 (fun j => .int (f j))).slots.size : Int); rw [arrV_size]; omega)
    (by rw [nn dp h2, nn n h3]; show ¬ _ > ((arrV c1 n1 (fun j => .int (g j))).slots.size : Int); rw [arrV_size]; omega)
    (fun vm₁ hal i hi => by
      have e : (vp_cell c0 (n0, .inl f)).slots.getD (sp.toNatClampNeg + i) .null = .int (f (sp.toNatClampNeg + i)) := by
        show (arrV c0 n0 (fun j => .int (f j))).slots.getD _ _ = _
        rw [Array.getD_eq_getD_getElem?, arrV_read _ _ (by omega)]
        rfl
      rw [e]
      exact ⟨hfit i hi, trivial⟩)
    (g := F0 m pc ls (.int n :: .int dp :: .ref a :: .int sp :: .ref a0 :: rest)) rfl (by rw [hml]) (rest := rest) rfl (by rw [hb]; exact hdg) hframes (by show 2 * 0 + _ + _ ≤ _; omega)
  have e1 : copied (vp_cell c0 (n0, .inl f)) (vp_cell c1 (n1, .inl g)) sp dp n = vp_cell c1 (n1, .inl (va_cpy f g sp.toNatClampNeg dp.toNatClampNeg n.toNatClampNeg)) := va_copied (fun z => .int z) c0 c1 f g h4
  rw [e1] at X' step
  have hl : a < H.size := (Array.getElem?_eq_some_iff.mp hc1).1
  have hheap : ((T.setVm vm').setCell a (vp_cell c1 (n1, .inl (va_cpy f g sp.toNatClampNeg dp.toNatClampNeg n.toNatClampNeg)))).heap = H.setIfInBounds a (vp_cell c1 (n1, .inl (va_cpy f g sp.toNatClampNeg dp.toNatClampNeg n.toNatClampNeg))) := by rw [← hT]; rfl
  obtain ⟨t, a1, b1⟩ := kk _ _ (show (H.setIfInBounds a _)[a]? = some _ by simp [Array.getElem?_setIfInBounds, hl]) (by simp) (fun q hq => by simp [Array.getElem?_setIfInBounds, Ne.symm hq]) (fun q hq => by
      rcases List.mem_append.mp hq with h | h
      · exact Or.inl h
      · obtain ⟨z, -, hz⟩ := List.mem_map.mp h
        rw [← hz]
        exact Or.inr rfl) _ hheap X'
  exact ⟨t, step t a1, b1⟩

theorem cpW_r {p : Program} {l : Launch} {e : Env} {R : Room} {s : State} {m : MethodId} {args : Array Value} {below : List Frame} {meth : Method} {c : Code} {H : Heap} {locs : List Loc} {cells slots : Nat} {Q : State → Prop} {cc : ByteArray} {ls : Array Slot} {rest : List Value} {D : va_G} {tys : List (ClassId × FieldType)} {own : String} {index a0 a : Nat} {c0 c1 : ClassId} {n0 n1 : Nat} {f g : Nat → Option Nat} {ty : FieldType} {sp dp n : Int32} (t0 : Nat)
    (hexec : p.tables.exec = Jvm.exec) (hb : c.code = cc) (hml : c.maxLocals = ls.size) (hown : s.vm.findClass own = some m.cls) (hlink : (Cond.methodLink own index arraycopyName).before args s = true) (hnat : (Cond.native arraycopyName).before args s = true) (hstat : (Cond.static arraycopyName).before args s = true) (hini : (Cond.initialized "java/lang/System").before args s = true)
    (hK : va_K D clAll tys s) (hc0 : H[a0]? = some (vp_cell c0 (n0, .inr (.inr (.inr (.inr f)))))) (hc1 : H[a]? = some (vp_cell c1 (n1, .inr (.inr (.inr (.inr g)))))) (ht0 : tys[t0]? = some (c0, ty)) (ht1 : tys[t0]? = some (c1, ty)) (hty : ty = .object "java/lang/Object") (hel : ∀ i : Nat, i < n.toNatClampNeg → ∀ y : Nat, f (sp.toNatClampNeg + i) = some y → va_Any "java/lang/Object" s H y)
    (h1 : ¬ sp < 0) (h2 : ¬ dp < 0) (h3 : ¬ n < 0) (h4 : sp.toNatClampNeg + n.toNatClampNeg ≤ n0) (h5 : dp.toNatClampNeg + n.toNatClampNeg ≤ n1)
    (hframes : 1 ≤ R.frames) (hlocals : (rest.map fun v => v.category).sum + (nativeFrameWords "java/lang/System" "arraycopy" 5 + 11) ≤ R.locals) (hdg : decode cc pc = .ok (.invokestatic index, 3))
    (kk : ∀ (H1 : Heap) (locs1 : List Loc), H1[a]? = some (vp_cell c1 (n1, .inr (.inr (.inr (.inr (va_cpy f g sp.toNatClampNeg dp.toNatClampNeg n.toNatClampNeg)))))) → H1.size = H.size → (∀ q : Nat, q ≠ a → H1[q]? = H[q]?) → (∀ q ∈ locs1, q ∈ locs ∨ q.base = a) → W p l e R s m args below meth c H1 locs1 cells slots Q (F0 m (pc + 3) ls rest)) : W p l e R s m args below meth c H locs cells slots Q (F0 m pc ls (.int n :: .int dp :: .ref a :: .int sp :: .ref a0 :: rest)) := by
  have nn : ∀ z : Int32, ¬ z < 0 → z.toInt = (z.toNatClampNeg : Int) := by
    intro z hz
    have hz0 : (0 : Int) ≤ z.toInt := by
      have := Int32.not_lt.mp hz
      simpa using Int32.le_iff_toInt_le.mp this
    show z.toInt = ((z.toInt.toNat : Nat) : Int)
    omega
  intro T hT X
  obtain ⟨-, k0, hk0, cm0, hkk0⟩ := (hK.2 t0 _ ht0).1 n0 (fun j => va_rf (f j))
  obtain ⟨-, k1, hk1, cm1, hkk1⟩ := (hK.2 t0 _ ht1).1 n1 (fun j => va_rf (g j))
  obtain ⟨vm', X', step⟩ := X.arraycopy hexec hown hlink hnat hstat hini (src := a0) (dst := a) (cs := vp_cell c0 (n0, .inr (.inr (.inr (.inr f))))) (cd := vp_cell c1 (n1, .inr (.inr (.inr (.inr g))))) (srcPos := sp) (destPos := dp) (n := n) (by rw [hT]; exact hc0) (by rw [hT]; exact hc1)
    (fun _ h => by cases h) (fun _ h => by cases h) (fun h => by cases h) (fun h => by cases h) hk0 hk1 hkk0 hkk1 (by subst hty; rfl) h1 h2 h3
    (by rw [nn sp h1, nn n h3]; show ¬ _ > ((arrV c0 n0 (fun j => va_rf (f j))).slots.size : Int); rw [arrV_size]; omega)
    (by rw [nn dp h2, nn n h3]; show ¬ _ > ((arrV c1 n1 (fun j => va_rf (g j))).slots.size : Int); rw [arrV_size]; omega)
    (fun vm₁ hal i hi => by
      have e : (vp_cell c0 (n0, .inr (.inr (.inr (.inr f))))).slots.getD (sp.toNatClampNeg + i) .null = va_rf (f (sp.toNatClampNeg + i)) := by
        show (arrV c0 n0 (fun j => va_rf (f j))).slots.getD _ _ = _
        rw [Array.getD_eq_getD_getElem?, arrV_read _ _ (by omega)]
        rfl
      rw [e]
      subst hty
      cases hy : f (sp.toNatClampNeg + i) with
      | none => exact ⟨rfl, trivial⟩
      | some y =>
        obtain ⟨cellV, g1, g2, ⟨kC, hkC⟩, hasg⟩ := hel i hi y hy
        obtain ⟨kA, comp, r1, r2, r3, -⟩ := (hK.2 t0 _ ht1).2
        cases hk1.symm.trans r1
        cases hkk1.symm.trans r2
        obtain ⟨kE, hkE, -⟩ := Vm.findClass_spec r3
        obtain ⟨kC', hkC', -⟩ := hal.2.2 _ _ hkC
        obtain ⟨kE', hkE', -⟩ := hal.2.2 _ _ hkE
        refine ⟨rfl, cellV, (show T.heap[y]? = some cellV by rw [hT]; exact g1), (fun q h => by rw [h] at g2; cases g2), ⟨kC', hkC'⟩, ?_, ?_⟩
        · exact ⟨kE', hkE'⟩
        · show vm₁.assignable _ _ = true
          rw [hal.assignable]
          exact hasg _ r3)
    (g := F0 m pc ls (.int n :: .int dp :: .ref a :: .int sp :: .ref a0 :: rest)) rfl (by rw [hml]) (rest := rest) rfl (by rw [hb]; exact hdg) hframes (by show 2 * 0 + _ + _ ≤ _; omega)
  have e1 : copied (vp_cell c0 (n0, .inr (.inr (.inr (.inr f))))) (vp_cell c1 (n1, .inr (.inr (.inr (.inr g))))) sp dp n = vp_cell c1 (n1, .inr (.inr (.inr (.inr (va_cpy f g sp.toNatClampNeg dp.toNatClampNeg n.toNatClampNeg))))) := va_copied va_rf c0 c1 f g h4
  rw [e1] at X' step
  have hl : a < H.size := (Array.getElem?_eq_some_iff.mp hc1).1
  have hheap : ((T.setVm vm').setCell a (vp_cell c1 (n1, .inr (.inr (.inr (.inr (va_cpy f g sp.toNatClampNeg dp.toNatClampNeg n.toNatClampNeg))))))).heap = H.setIfInBounds a (vp_cell c1 (n1, .inr (.inr (.inr (.inr (va_cpy f g sp.toNatClampNeg dp.toNatClampNeg n.toNatClampNeg)))))) := by rw [← hT]; rfl
  obtain ⟨t, a1, b1⟩ := kk _ _ (show (H.setIfInBounds a _)[a]? = some _ by simp [Array.getElem?_setIfInBounds, hl]) (by simp) (fun q hq => by simp [Array.getElem?_setIfInBounds, Ne.symm hq]) (fun q hq => by
      rcases List.mem_append.mp hq with h | h
      · exact Or.inl h
      · obtain ⟨z, -, hz⟩ := List.mem_map.mp h
        rw [← hz]
        exact Or.inr rfl) _ hheap X'
  exact ⟨t, step t a1, b1⟩

/-- the copy, as whole numbers -/
def zcpy {α : Type} (f g : Nat → α) (sp dp n : Int) : Nat → α := va_cpy f g sp.toNat dp.toNat n.toNat
theorem iv_nn {z : Int} (h0 : 0 ≤ z) (h2 : z ≤ 2147483647) : ¬ Int32.ofInt z < 0 := by
  rw [Int32.lt_iff_toInt_lt, ivT (by omega)]; show ¬ z < 0; omega
theorem fit_b {z : Int} (hx : -128 ≤ z ∧ z ≤ 127) : fits .byte (.int (Int32.ofInt z)) = true := by
  have e := ivT (z := z) (by omega)
  simp only [fits, Bool.and_eq_true, decide_eq_true_eq, Int32.le_iff_toInt_le, e]
  exact hx
theorem anyO {p : Program} {l : Launch} {s : State} {m : MethodId} {args : Array Value} {meth : Method} {c : Code} (O : Ok G p l s m args meth c cc nL y ret) {H : Heap} {ci : Nat} {C : String} {T : u_T} {N : Nat} {v : Nat} {cellV : Cell} (hc : clAll[ci]? = some (C, T, N)) (hw : Cond.castable C "java/lang/Object" ∈ lw_tbl) (g1 : H[v]? = some cellV) (g2 : cellV.cls = G.2.2.1.1 ci) (g3 : cellV.vm.isStatics = false) : va_Any "java/lang/Object" s H v := by
  have hcls := (O.K.1 ci _ hc).2
  obtain ⟨c0, t0, f1, f2, f3⟩ := Cond.castable_spec (va_Nw.use (A := args) rfl (va_Nw.warmC O.2.2.2.2.2.2.2.2.1 (O.tbl hw rfl)))
  have hc0 : G.2.2.1.1 ci = c0 := Option.some.inj (hcls.1.symm.trans f1)
  obtain ⟨kC, hkC, -⟩ := hcls.2
  exact ⟨cellV, g1, g3, ⟨kC, by rw [g2]; exact hkC⟩, fun comp h => by rw [g2, hc0, Option.some.inj (h.symm.trans f2)]; exact f3⟩
theorem nfw : nativeFrameWords "java/lang/System" "arraycopy" 5 + 11 ≤ 50 := by decide

theorem x_cpyI {a0 a r0 r n0 n1 i : Nat} {f g : Nat → Int} {sp dq n : Int} (ha0 : h a0 = some (r0, ia G n0 f)) (ha : h a = some (r, ia G n1 g)) (hr : r ≠ 0) (hl : Cond.methodLink y.cls i arraycopyName ∈ lw_all) (hnat : Cond.native arraycopyName ∈ lw_all) (hstat : Cond.static arraycopyName ∈ lw_all) (hini : Cond.initialized "java/lang/System" ∈ lw_all)  (h1 : 0 ≤ sp) (h2 : 0 ≤ dq) (h3 : 0 ≤ n) (h4 : sp + n ≤ n0) (h5 : dq + n ≤ n1) (h6 : n0 ≤ 2147483647 ∧ n1 ≤ 2147483647) (hdp : 1 ≤ dp) (hrs : (st.map fun v => v.category).sum ≤ 8) (hd : decode cc pc = .ok (.invokestatic i, 3))
    (kk : V G X cc nL y ret dp P mc ms (pc + 3) lv st (hup h a (r, ia G n1 (zcpy f g sp dq n))) kc ks) : V G X cc nL y ret dp P mc ms pc lv (iv n :: iv dq :: .ref a :: iv sp :: .ref a0 :: st) h kc ks := by
  obtain ⟨p, l, e, s, m, args, below, meth, c⟩ := X
  intro O H locs cells slots ls r1 r2 r3 r4 r5
  have hts := O.2.2.2.2.1
  have e1 := iv_cl h1 (by omega : sp ≤ 2147483647)
  have e2 := iv_cl h2 (by omega : dq ≤ 2147483647)
  have e3 := iv_cl h3 (by omega : n ≤ 2147483647)
  refine cpW_i (t0 := 0) O.1 O.2.1 (O.2.2.1.trans r5.1.symm) O.2.2.2.1 (hts _ hl) (hts _ hnat) (hts _ hstat) (hts _ hini) O.K (r1.2.2.2.2 a0 r0 _ ha0) (r1.2.2.2.2 a r _ ha) rfl rfl rfl (n := Int32.ofInt n) (sp := Int32.ofInt sp) ?_ (iv_nn h1 (by omega)) (iv_nn h2 (by omega)) (iv_nn h3 (by omega)) (by rw [e1, e3]; omega) (by rw [e2, e3]; omega) hdp (by have := nfw; show _ + _ ≤ 64 * dp; omega) hd fun H1 locs1 g1 g2 g3 g4 => ?_
  · intro i hi; rfl
  rw [e1, e2, e3] at g1
  refine kk O H1 locs1 cells slots ls (r1.set ha hr ?_ g2 g3) (fun q hq => ?_) r3 r4 r5
  · show H1[a]? = some (vp_cell _ _)
    rw [g1]
    congr 4
    funext q
    show va_cpy _ _ _ _ _ q = Int32.ofInt (zcpy f g sp dq n q)
    unfold zcpy va_cpy
    split <;> rfl
  · rcases g4 q hq with u | u
    · exact r2 q u
    · rw [u]; exact r1.2.2.2.1 a r _ ha hr

theorem x_cpyB {a0 a r0 r n0 n1 i : Nat} {f g : Nat → Int} {sp dq n : Int} (ha0 : h a0 = some (r0, ba G n0 f)) (ha : h a = some (r, ba G n1 g)) (hr : r ≠ 0) (hl : Cond.methodLink y.cls i arraycopyName ∈ lw_all) (hnat : Cond.native arraycopyName ∈ lw_all) (hstat : Cond.static arraycopyName ∈ lw_all) (hini : Cond.initialized "java/lang/System" ∈ lw_all) (hby : ∀ j : Nat, j < n0 → -128 ≤ f j ∧ f j ≤ 127) (h1 : 0 ≤ sp) (h2 : 0 ≤ dq) (h3 : 0 ≤ n) (h4 : sp + n ≤ n0) (h5 : dq + n ≤ n1) (h6 : n0 ≤ 2147483647 ∧ n1 ≤ 2147483647) (hdp : 1 ≤ dp) (hrs : (st.map fun v => v.category).sum ≤ 8) (hd : decode cc pc = .ok (.invokestatic i, 3))
    (kk : V G X cc nL y ret dp P mc ms (pc + 3) lv st (hup h a (r, ba G n1 (zcpy f g sp dq n))) kc ks) : V G X cc nL y ret dp P mc ms pc lv (iv n :: iv dq :: .ref a :: iv sp :: .ref a0 :: st) h kc ks := by
  obtain ⟨p, l, e, s, m, args, below, meth, c⟩ := X
  intro O H locs cells slots ls r1 r2 r3 r4 r5
  have hts := O.2.2.2.2.1
  have e1 := iv_cl h1 (by omega : sp ≤ 2147483647)
  have e2 := iv_cl h2 (by omega : dq ≤ 2147483647)
  have e3 := iv_cl h3 (by omega : n ≤ 2147483647)
  refine cpW_i (t0 := 1) O.1 O.2.1 (O.2.2.1.trans r5.1.symm) O.2.2.2.1 (hts _ hl) (hts _ hnat) (hts _ hstat) (hts _ hini) O.K (r1.2.2.2.2 a0 r0 _ ha0) (r1.2.2.2.2 a r _ ha) rfl rfl rfl (n := Int32.ofInt n) (sp := Int32.ofInt sp) ?_ (iv_nn h1 (by omega)) (iv_nn h2 (by omega)) (iv_nn h3 (by omega)) (by rw [e1, e3]; omega) (by rw [e2, e3]; omega) hdp (by have := nfw; show _ + _ ≤ 64 * dp; omega) hd fun H1 locs1 g1 g2 g3 g4 => ?_
  · intro i hi; rw [e1, e3] at *; exact fit_b (hby _ (by omega))
  rw [e1, e2, e3] at g1
  refine kk O H1 locs1 cells slots ls (r1.set ha hr ?_ g2 g3) (fun q hq => ?_) r3 r4 r5
  · show H1[a]? = some (vp_cell _ _)
    rw [g1]
    congr 4
    funext q
    show va_cpy _ _ _ _ _ q = Int32.ofInt (zcpy f g sp dq n q)
    unfold zcpy va_cpy
    split <;> rfl
  · rcases g4 q hq with u | u
    · exact r2 q u
    · rw [u]; exact r1.2.2.2.1 a r _ ha hr

theorem x_cpyR {a0 a r0 r n0 n1 i : Nat} {f g : Nat → Option Nat} {sp dq n : Int} (ha0 : h a0 = some (r0, ra G n0 f)) (ha : h a = some (r, ra G n1 g)) (hr : r ≠ 0) (hl : Cond.methodLink y.cls i arraycopyName ∈ lw_all) (hnat : Cond.native arraycopyName ∈ lw_all) (hstat : Cond.static arraycopyName ∈ lw_all) (hini : Cond.initialized "java/lang/System" ∈ lw_all) (hel : ∀ j : Nat, sp.toNat ≤ j → j < sp.toNat + n.toNat → ∀ v : Nat, f j = some v → ∃ (rv ci : Nat) (fs : List Value) (C : String) (T : u_T) (N : Nat), h v = some (rv, ob ci fs) ∧ clAll[ci]? = some (C, T, N) ∧ Cond.castable C "java/lang/Object" ∈ lw_tbl) (h1 : 0 ≤ sp) (h2 : 0 ≤ dq) (h3 : 0 ≤ n) (h4 : sp + n ≤ n0) (h5 : dq + n ≤ n1) (h6 : n0 ≤ 2147483647 ∧ n1 ≤ 2147483647) (hdp : 1 ≤ dp) (hrs : (st.map fun v => v.category).sum ≤ 8) (hd : decode cc pc = .ok (.invokestatic i, 3))
    (kk : V G X cc nL y ret dp P mc ms (pc + 3) lv st (hup h a (r, ra G n1 (zcpy f g sp dq n))) kc ks) : V G X cc nL y ret dp P mc ms pc lv (iv n :: iv dq :: .ref a :: iv sp :: .ref a0 :: st) h kc ks := by
  obtain ⟨p, l, e, s, m, args, below, meth, c⟩ := X
  intro O H locs cells slots ls r1 r2 r3 r4 r5
  have hts := O.2.2.2.2.1
  have e1 := iv_cl h1 (by omega : sp ≤ 2147483647)
  have e2 := iv_cl h2 (by omega : dq ≤ 2147483647)
  have e3 := iv_cl h3 (by omega : n ≤ 2147483647)
  refine cpW_r (t0 := 3) O.1 O.2.1 (O.2.2.1.trans r5.1.symm) O.2.2.2.1 (hts _ hl) (hts _ hnat) (hts _ hstat) (hts _ hini) O.K (r1.2.2.2.2 a0 r0 _ ha0) (r1.2.2.2.2 a r _ ha) rfl rfl rfl (n := Int32.ofInt n) (sp := Int32.ofInt sp) ?_ (iv_nn h1 (by omega)) (iv_nn h2 (by omega)) (iv_nn h3 (by omega)) (by rw [e1, e3]; omega) (by rw [e2, e3]; omega) hdp (by have := nfw; show _ + _ ≤ 64 * dp; omega) hd fun H1 locs1 g1 g2 g3 g4 => ?_
  · intro i hi v hv
    rw [e1] at hv
    rw [e3] at hi
    obtain ⟨rv, ci, fs, C, T, N, q1, q2, q3⟩ := hel _ (by omega) (by omega) v hv
    obtain ⟨r', hr', cellV, p1, p2, p3, -⟩ := r1.2.2.2.2 v rv _ q1
    exact anyO O q2 q3 p1 p2 (by rw [p3]; rfl)
  rw [e1, e2, e3] at g1
  refine kk O H1 locs1 cells slots ls (r1.set ha hr ?_ g2 g3) (fun q hq => ?_) r3 r4 r5
  · show H1[a]? = some (vp_cell _ _)
    rw [g1]
    rfl
  · rcases g4 q hq with u | u
    · exact r2 q u
    · rw [u]; exact r1.2.2.2.1 a r _ ha hr

/-- a constant string, by where the start keeps it -/
theorem x_ldcS {tx : String} {i q : Nat} (hZ : ∀ l : Launch, GOk l G → vk_R y.cls i tx q G.1) (hd : decode cc pc = .ok (.ldc i, 2)) (kk : V G X cc nL y ret dp P mc ms (pc + 2) lv (.ref q :: st) h kc ks) : V G X cc nL y ret dp P mc ms pc lv st h kc ks := by
  obtain ⟨p, l, e, s, m, args, below, meth, c⟩ := X
  intro O H locs cells slots ls r1 r2 r3 r4 r5
  exact va_ldcS O.1 O.2.1 O.2.2.2.1 (vk_R.warm O.2.2.2.2.2.2.2.2.1 (hZ l O.2.2.2.2.2.2.2.2.2)) hd (kk O H locs cells slots ls r1 r2 r3 r4 r5)
end CORE7

