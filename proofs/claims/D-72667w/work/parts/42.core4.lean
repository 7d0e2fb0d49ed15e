/-! CORE 4: references: null, options (va_rf), arrays of references and of bytes, casts -/
set_option maxRecDepth 100000
section CORE4
variable {G : Gw} {X : Cx} {cc : ByteArray} {nL : Nat} {y : MethodName} {ret : Option FieldType} {dp : Nat} {P : Option Value → Hp → Prop} {mc ms pc : Nat} {lv : List (Nat × Value)} {st : List Value} {h : Hp} {kc ks : Nat}
theorem x_null (hd : decode cc pc = .ok (.aconst_null, 1)) (kk : V G X cc nL y ret dp P mc ms (pc + 1) lv (.null :: st) h kc ks) : V G X cc nL y ret dp P mc ms pc lv (st) h kc ks := by
  obtain ⟨p, l, e, s, m, args, below, meth, c⟩ := X
  intro O H locs cells slots ls r1 r2 r3 r4 r5
  exact lv_null O.1 O.2.1 hd (kk O H locs cells slots ls r1 r2 r3 r4 r5)
theorem x_aload_nN {k : Fin 4} (hd : decode cc pc = .ok (.aload_n k, 1)) (hl : lv.lookup (k : Nat) = some .null) (kk : V G X cc nL y ret dp P mc ms (pc + 1) lv (.null :: st) h kc ks) : V G X cc nL y ret dp P mc ms pc lv (st) h kc ks := by
  obtain ⟨p, l, e, s, m, args, below, meth, c⟩ := X
  intro O H locs cells slots ls r1 r2 r3 r4 r5
  exact lv_aload_nN O.1 O.2.1 hd rfl (lk_has r5 hl) (kk O H locs cells slots ls r1 r2 r3 r4 r5)
theorem x_aloadN {i : Nat} (hd : decode cc pc = .ok (.aload i, 2)) (hl : lv.lookup i = some .null) (kk : V G X cc nL y ret dp P mc ms (pc + 2) lv (.null :: st) h kc ks) : V G X cc nL y ret dp P mc ms pc lv (st) h kc ks := by
  obtain ⟨p, l, e, s, m, args, below, meth, c⟩ := X
  intro O H locs cells slots ls r1 r2 r3 r4 r5
  exact lv_aloadN O.1 O.2.1 hd (lk_has r5 hl) (kk O H locs cells slots ls r1 r2 r3 r4 r5)
theorem x_astore_nN {k : Fin 4} {lv' : List (Nat × Value)} (hd : decode cc pc = .ok (.astore_n k, 1)) (hl : lset (k : Nat) .null lv = lv') (hn : (k : Nat) < nL) (kk : V G X cc nL y ret dp P mc ms (pc + 1) lv' st h kc ks) : V G X cc nL y ret dp P mc ms pc lv (.null :: st) h kc ks := by
  obtain ⟨p, l, e, s, m, args, below, meth, c⟩ := X
  intro O H locs cells slots ls r1 r2 r3 r4 r5
  subst hl
  exact lv_astore_nN O.1 O.2.1 hd rfl r5 hn rfl (fun ls' q => kk O H locs cells slots ls' r1 r2 r3 r4 (lset_has1 rfl q))
theorem x_astoreN {i : Nat} {lv' : List (Nat × Value)} (hd : decode cc pc = .ok (.astore i, 2)) (hl : lset i .null lv = lv') (hn : i < nL) (kk : V G X cc nL y ret dp P mc ms (pc + 2) lv' st h kc ks) : V G X cc nL y ret dp P mc ms pc lv (.null :: st) h kc ks := by
  obtain ⟨p, l, e, s, m, args, below, meth, c⟩ := X
  intro O H locs cells slots ls r1 r2 r3 r4 r5
  subst hl
  exact lv_astoreN O.1 O.2.1 hd r5 hn rfl (fun ls' q => kk O H locs cells slots ls' r1 r2 r3 r4 (lset_has1 rfl q))
theorem x_aload_nO {k : Fin 4} {r : Option Nat} (hd : decode cc pc = .ok (.aload_n k, 1)) (hl : lv.lookup (k : Nat) = some (va_rf r)) (kk : V G X cc nL y ret dp P mc ms (pc + 1) lv (va_rf r :: st) h kc ks) : V G X cc nL y ret dp P mc ms pc lv st h kc ks := by
  cases r with
  | none => exact x_aload_nN hd hl kk
  | some a => exact x_aload_n hd hl kk
theorem x_aloadO {i : Nat} {r : Option Nat} (hd : decode cc pc = .ok (.aload i, 2)) (hl : lv.lookup i = some (va_rf r)) (kk : V G X cc nL y ret dp P mc ms (pc + 2) lv (va_rf r :: st) h kc ks) : V G X cc nL y ret dp P mc ms pc lv st h kc ks := by
  cases r with
  | none => exact x_aloadN hd hl kk
  | some a => exact x_aload hd hl kk
theorem x_astore_nO {k : Fin 4} {r : Option Nat} {lv' : List (Nat × Value)} (hd : decode cc pc = .ok (.astore_n k, 1)) (hl : lset (k : Nat) (va_rf r) lv = lv') (hn : (k : Nat) < nL) (kk : V G X cc nL y ret dp P mc ms (pc + 1) lv' st h kc ks) : V G X cc nL y ret dp P mc ms pc lv (va_rf r :: st) h kc ks := by
  cases r with
  | none => exact x_astore_nN hd hl hn kk
  | some a => exact x_astore_n hd hl hn kk
theorem x_astoreO {i : Nat} {r : Option Nat} {lv' : List (Nat × Value)} (hd : decode cc pc = .ok (.astore i, 2)) (hl : lset i (va_rf r) lv = lv') (hn : i < nL) (kk : V G X cc nL y ret dp P mc ms (pc + 2) lv' st h kc ks) : V G X cc nL y ret dp P mc ms pc lv (va_rf r :: st) h kc ks := by
  cases r with
  | none => exact x_astoreN hd hl hn kk
  | some a => exact x_astore hd hl hn kk
theorem x_ifnullR {a : Nat} {off : Int} (hd : decode cc pc = .ok (.ifnull off, 3)) (kk : V G X cc nL y ret dp P mc ms (pc + 3) lv st h kc ks) : V G X cc nL y ret dp P mc ms pc lv (.ref a :: st) h kc ks := by
  obtain ⟨p, l, e, s, m, args, below, meth, c⟩ := X
  intro O H locs cells slots ls r1 r2 r3 r4 r5
  exact lv_ifnull O.1 O.2.1 hd (kk O H locs cells slots ls r1 r2 r3 r4 r5)
theorem x_ifnullN {off : Int} (tgt : Nat) (hd : decode cc pc = .ok (.ifnull off, 3)) (ht : (pc : Int) + off = (tgt : Int)) (kk : V G X cc nL y ret dp P mc ms tgt lv st h kc ks) : V G X cc nL y ret dp P mc ms pc lv (.null :: st) h kc ks := by
  obtain ⟨p, l, e, s, m, args, below, meth, c⟩ := X
  intro O H locs cells slots ls r1 r2 r3 r4 r5
  exact lv_ifnullN O.1 O.2.1 hd ht (kk O H locs cells slots ls r1 r2 r3 r4 r5)
theorem x_ifnonnullR {a : Nat} {off : Int} (tgt : Nat) (hd : decode cc pc = .ok (.ifnonnull off, 3)) (ht : (pc : Int) + off = (tgt : Int)) (kk : V G X cc nL y ret dp P mc ms tgt lv st h kc ks) : V G X cc nL y ret dp P mc ms pc lv (.ref a :: st) h kc ks := by
  obtain ⟨p, l, e, s, m, args, below, meth, c⟩ := X
  intro O H locs cells slots ls r1 r2 r3 r4 r5
  exact lv_ifnonnull O.1 O.2.1 hd ht (kk O H locs cells slots ls r1 r2 r3 r4 r5)
theorem x_ifnonnullN {off : Int} (hd : decode cc pc = .ok (.ifnonnull off, 3)) (kk : V G X cc nL y ret dp P mc ms (pc + 3) lv st h kc ks) : V G X cc nL y ret dp P mc ms pc lv (.null :: st) h kc ks := by
  obtain ⟨p, l, e, s, m, args, below, meth, c⟩ := X
  intro O H locs cells slots ls r1 r2 r3 r4 r5
  exact lv_ifnonnullN O.1 O.2.1 hd (kk O H locs cells slots ls r1 r2 r3 r4 r5)
theorem x_ifnullO {r : Option Nat} {off : Int} (tgt : Nat) (hd : decode cc pc = .ok (.ifnull off, 3)) (ht : (pc : Int) + off = (tgt : Int)) (kt : r = none → V G X cc nL y ret dp P mc ms tgt lv st h kc ks) (kf : ∀ a, r = some a → V G X cc nL y ret dp P mc ms (pc + 3) lv st h kc ks) : V G X cc nL y ret dp P mc ms pc lv (va_rf r :: st) h kc ks := by
  cases r with
  | none => exact x_ifnullN tgt hd ht (kt rfl)
  | some a => exact x_ifnullR hd (kf a rfl)
theorem x_ifnonnullO {r : Option Nat} {off : Int} (tgt : Nat) (hd : decode cc pc = .ok (.ifnonnull off, 3)) (ht : (pc : Int) + off = (tgt : Int)) (kt : ∀ a, r = some a → V G X cc nL y ret dp P mc ms tgt lv st h kc ks) (kf : r = none → V G X cc nL y ret dp P mc ms (pc + 3) lv st h kc ks) : V G X cc nL y ret dp P mc ms pc lv (va_rf r :: st) h kc ks := by
  cases r with
  | none => exact x_ifnonnullN hd (kf rfl)
  | some a => exact x_ifnonnullR tgt hd ht (kt a rfl)
theorem x_acmpO_eq {rx ry : Option Nat} {off : Int} (tgt : Nat) (hd : decode cc pc = .ok (.if_acmp .eq off, 3)) (ht : (pc : Int) + off = (tgt : Int)) (kt : rx = ry → V G X cc nL y ret dp P mc ms tgt lv st h kc ks) (kf : ¬ rx = ry → V G X cc nL y ret dp P mc ms (pc + 3) lv st h kc ks) : V G X cc nL y ret dp P mc ms pc lv (va_rf ry :: va_rf rx :: st) h kc ks := by
  obtain ⟨p, l, e, s, m, args, below, meth, c⟩ := X
  intro O H locs cells slots ls r1 r2 r3 r4 r5
  exact lv_acmp_eq O.1 O.2.1 hd ht (fun z => kt z O H locs cells slots ls r1 r2 r3 r4 r5) (fun z => kf z O H locs cells slots ls r1 r2 r3 r4 r5)
theorem x_acmp_eq {a b : Nat} {off : Int} (tgt : Nat) (hd : decode cc pc = .ok (.if_acmp .eq off, 3)) (ht : (pc : Int) + off = (tgt : Int)) (kt : a = b → V G X cc nL y ret dp P mc ms tgt lv st h kc ks) (kf : ¬ a = b → V G X cc nL y ret dp P mc ms (pc + 3) lv st h kc ks) : V G X cc nL y ret dp P mc ms pc lv (.ref b :: .ref a :: st) h kc ks :=
  x_acmpO_eq (rx := some a) (ry := some b) tgt hd ht (fun z => kt (Option.some.inj z)) (fun z => kf (fun u => z (by rw [u])))
theorem x_acmpO_ne {rx ry : Option Nat} {off : Int} (tgt : Nat) (hd : decode cc pc = .ok (.if_acmp .ne off, 3)) (ht : (pc : Int) + off = (tgt : Int)) (kt : ¬ rx = ry → V G X cc nL y ret dp P mc ms tgt lv st h kc ks) (kf : rx = ry → V G X cc nL y ret dp P mc ms (pc + 3) lv st h kc ks) : V G X cc nL y ret dp P mc ms pc lv (va_rf ry :: va_rf rx :: st) h kc ks := by
  obtain ⟨p, l, e, s, m, args, below, meth, c⟩ := X
  intro O H locs cells slots ls r1 r2 r3 r4 r5
  exact lv_acmp_ne O.1 O.2.1 hd ht (fun z => kt z O H locs cells slots ls r1 r2 r3 r4 r5) (fun z => kf z O H locs cells slots ls r1 r2 r3 r4 r5)
theorem x_acmp_ne {a b : Nat} {off : Int} (tgt : Nat) (hd : decode cc pc = .ok (.if_acmp .ne off, 3)) (ht : (pc : Int) + off = (tgt : Int)) (kt : ¬ a = b → V G X cc nL y ret dp P mc ms tgt lv st h kc ks) (kf : a = b → V G X cc nL y ret dp P mc ms (pc + 3) lv st h kc ks) : V G X cc nL y ret dp P mc ms pc lv (.ref b :: .ref a :: st) h kc ks :=
  x_acmpO_ne (rx := some a) (ry := some b) tgt hd ht (fun z => kt (fun u => z (by rw [u]))) (fun z => kf (Option.some.inj z))
theorem x_aret {v : Value} {rt : FieldType} (hret : ret = some rt) (hrt : (∃ n, rt = .object n) ∨ ∃ t, rt = .array t) (hv : v = .null ∨ ∃ a, v = .ref a) (hP : P (some v) h) (hd : decode cc pc = .ok (.areturn, 1)) : V G X cc nL y ret dp P mc ms pc lv [v] h kc ks := by
  obtain ⟨p, l, e, s, m, args, below, meth, c⟩ := X
  intro O H locs cells slots ls r1 r2 r3 r4 r5
  refine W.widen (k := mc) (n := ms) (by omega) (by omega) ?_
  exact W.aret O.1 O.2.1 (O.2.2.2.2.2.2.1.trans hret) hrt hv (fun t ht _ => ⟨_, h, rfl, hP, by rw [ht]; exact r1⟩) r2 hd O.2.2.2.2.2.1
theorem x_aretR {a : Nat} {n : String} (hret : ret = some (.object n)) (hP : P (some (.ref a)) h) (hd : decode cc pc = .ok (.areturn, 1)) : V G X cc nL y ret dp P mc ms pc lv [.ref a] h kc ks := x_aret hret (Or.inl ⟨n, rfl⟩) (Or.inr ⟨a, rfl⟩) hP hd
theorem x_aretA {a : Nat} {t : FieldType} (hret : ret = some (.array t)) (hP : P (some (.ref a)) h) (hd : decode cc pc = .ok (.areturn, 1)) : V G X cc nL y ret dp P mc ms pc lv [.ref a] h kc ks := x_aret hret (Or.inr ⟨t, rfl⟩) (Or.inr ⟨a, rfl⟩) hP hd
theorem x_aretO {r : Option Nat} {n : String} (hret : ret = some (.object n)) (hP : P (some (va_rf r)) h) (hd : decode cc pc = .ok (.areturn, 1)) : V G X cc nL y ret dp P mc ms pc lv [va_rf r] h kc ks := x_aret hret (Or.inl ⟨n, rfl⟩) (by cases r with | none => exact Or.inl rfl | some a => exact Or.inr ⟨a, rfl⟩) hP hd
theorem x_lcmp {a b : Int64} (hd : decode cc pc = .ok (.lcmp, 1)) (kk : V G X cc nL y ret dp P mc ms (pc + 1) lv (.int (lg_cmp a b) :: st) h kc ks) : V G X cc nL y ret dp P mc ms pc lv (.long b :: .long a :: st) h kc ks := by
  obtain ⟨p, l, e, s, m, args, below, meth, c⟩ := X
  intro O H locs cells slots ls r1 r2 r3 r4 r5
  exact W.lcmp O.1 O.2.1 hd (kk O H locs cells slots ls r1 r2 r3 r4 r5)
/-- the class tables in a method's run -/
theorem Ok.K {p : Program} {l : Launch} {s : State} {m : MethodId} {args : Array Value} {meth : Method} {c : Code} (O : Ok G p l s m args meth c cc nL y ret) : va_K G.2.2.1 clAll (tyAll G.2.2.2) s := va_K.moved O.2.2.2.2.2.2.2.2.1.alike O.2.2.2.2.2.2.2.2.2.2.2.2
/-- a word of the tables that doesn't ride in the lists, at the start -/
theorem Ok.tbl {p : Program} {l : Launch} {s : State} {m : MethodId} {args : Array Value} {meth : Method} {c : Code} (O : Ok G p l s m args meth c cc nL y ret) {w : Cond} (hw : w ∈ lw_tbl) (ht : w.onTables = true) : va_Nw w G.1 := va_Nw.of ht (O.2.2.2.2.2.2.2.2.2.2.1 w hw)
/-- bytes -/
theorem x_bald {a r n : Nat} {f : Nat → Int} {z : Int} (ha : h a = some (r, ba G n f)) (hz : 0 ≤ z ∧ z < n) (hn : n ≤ 2147483647) (hd : decode cc pc = .ok (.baload, 1)) (kk : V G X cc nL y ret dp P mc ms (pc + 1) lv (iv (f z.toNat) :: st) h kc ks) : V G X cc nL y ret dp P mc ms pc lv (iv z :: .ref a :: st) h kc ks := by
  obtain ⟨p, l, e, s, m, args, below, meth, c⟩ := X
  intro O H locs cells slots ls r1 r2 r3 r4 r5
  have kk := kk O H locs cells slots ls r1 r2 r3 r4 r5
  have hP : va_P G.2.2.1 clAll [(a, ba G n f)] H := fun k q hq => by
    match k, hq with
    | 0, hq => cases hq; exact r1.2.2.2.2 a r _ ha
  refine va_bald O.1 O.2.1 O.K hP 0 1 rfl rfl (iv_in hz.1 hz.2 (by omega)) hd ?_
  rw [iv_cl hz.1 (by omega)]
  exact kk
theorem x_bast {a r n : Nat} {f : Nat → Int} {z x : Int} (ha : h a = some (r, ba G n f)) (hr : r ≠ 0) (hz : 0 ≤ z ∧ z < n) (hn : n ≤ 2147483647) (hx : -128 ≤ x ∧ x ≤ 127) (hd : decode cc pc = .ok (.bastore, 1)) (kk : V G X cc nL y ret dp P mc ms (pc + 1) lv st (hup h a (r, ba G n (fup f z.toNat x))) kc ks) : V G X cc nL y ret dp P mc ms pc lv (iv x :: iv z :: .ref a :: st) h kc ks := by
  obtain ⟨p, l, e, s, m, args, below, meth, c⟩ := X
  intro O H locs cells slots ls r1 r2 r3 r4 r5
  have hc : H[a]? = some (vp_cell (G.2.2.2 1) (n, .inl (fun j => Int32.ofInt (f j)))) := r1.2.2.2.2 a r _ ha
  have hnb : narrow .byte (.int (Int32.ofInt x)) = .int (Int32.ofInt x) := by
    rw [narrow_byte]
    congr 1
    apply Int32.toInt_inj.mp
    rw [ivT (by omega), Int8.toInt_toInt32, Int32.toInt_toInt8, ivT (by omega)]
    exact Int.bmod_eq_of_le (by omega) (by omega)
  refine W.bast O.1 O.2.1 hc ((O.K.2 1 _ rfl).1 n (fun j => .int (Int32.ofInt (f j)))) (fun q => by cases q) (by show ¬ (_ ∨ (arrV _ _ _).slots.size ≤ _); rw [arrV_size]; exact iv_in hz.1 hz.2 (by omega)) rfl rfl hd fun H1 e1 z1 oq => ?_
  rw [hnb] at e1
  refine kk O H1 _ cells slots ls (r1.set ha hr ?_ z1 oq) (fun q hq => ?_) r3 r4 r5
  · show H1[a]? = some (vp_cell _ _)
    rw [e1, vp_cell_i, vp_cell_i, arrV_store, iv_cl hz.1 (by omega)]
    congr 2
    funext q
    by_cases hq : q = z.toNat
    · subst hq
      simp [updV, fup]
    · simp [updV, fup, hq]
  · rcases List.mem_append.mp hq with u | u
    · exact r2 q u
    · rw [List.mem_singleton.mp u]; exact r1.2.2.2.1 a r _ ha hr
/-- references: Object[] (t = 3) -/
theorem x_aald {a r n : Nat} {f : Nat → Option Nat} {z : Int} (ha : h a = some (r, ra G n f)) (hz : 0 ≤ z ∧ z < n) (hn : n ≤ 2147483647) (hd : decode cc pc = .ok (.aaload, 1)) (kk : V G X cc nL y ret dp P mc ms (pc + 1) lv (va_rf (f z.toNat) :: st) h kc ks) : V G X cc nL y ret dp P mc ms pc lv (iv z :: .ref a :: st) h kc ks := by
  obtain ⟨p, l, e, s, m, args, below, meth, c⟩ := X
  intro O H locs cells slots ls r1 r2 r3 r4 r5
  have kk := kk O H locs cells slots ls r1 r2 r3 r4 r5
  have hP : va_P G.2.2.1 clAll [(a, ra G n f)] H := fun k q hq => by
    match k, hq with
    | 0, hq => cases hq; exact r1.2.2.2.2 a r _ ha
  refine va_aldq O.1 O.2.1 O.K hP 0 3 rfl rfl (iv_in hz.1 hz.2 (by omega)) hd ?_
  rw [iv_cl hz.1 (by omega)]
  exact kk
/-- a reference to an object of a known class, into an Object[] -/
theorem x_aast {a r n v rv ci : Nat} {f : Nat → Option Nat} {fs : List Value} {z : Int} {C : String} {T : u_T} {N : Nat} (ha : h a = some (r, ra G n f)) (hr : r ≠ 0) (hv : h v = some (rv, ob ci fs)) (hc : clAll[ci]? = some (C, T, N)) (hw : Cond.castable C "java/lang/Object" ∈ lw_tbl) (hz : 0 ≤ z ∧ z < n) (hn : n ≤ 2147483647) (hd : decode cc pc = .ok (.aastore, 1)) (kk : V G X cc nL y ret dp P mc ms (pc + 1) lv st (hup h a (r, ra G n (va_up f z.toNat (some v)))) kc ks) : V G X cc nL y ret dp P mc ms pc lv (.ref v :: iv z :: .ref a :: st) h kc ks := by
  obtain ⟨p, l, e, s, m, args, below, meth, c⟩ := X
  intro O H locs cells slots ls r1 r2 r3 r4 r5
  have hcell : H[a]? = some (vp_cell (G.2.2.2 3) (n, .inr (.inr (.inr (.inr f))))) := r1.2.2.2.2 a r _ ha
  obtain ⟨r', hr', cellV, g1, g2, g3, -⟩ := r1.2.2.2.2 v rv _ hv
  have hcls := (O.K.1 ci _ hc).2
  obtain ⟨kA, comp, k1, k2, k3, -⟩ := (O.K.2 3 _ rfl).2
  obtain ⟨c0, t0, f1, f2, f3⟩ := Cond.castable_spec (va_Nw.use (A := args) rfl (va_Nw.warmC O.2.2.2.2.2.2.2.2.1 (O.tbl hw rfl)))
  have hcomp : comp = t0 := Option.some.inj (k3.symm.trans f2)
  have hc0 : G.2.2.1.1 ci = c0 := Option.some.inj (hcls.1.symm.trans f1)
  subst hcomp
  obtain ⟨kC, hkC, -⟩ := hcls.2
  have hin := iv_in hz.1 hz.2 (by omega)
  obtain ⟨kO, hkO, -⟩ := Vm.findClass_spec f2
  refine W.aast O.1 O.2.1 hcell (fun q h => by cases h) (fun h => by cases h) k1 k2 rfl hkO ⟨fun q => hin (Or.inl q), by show _ < (arrV _ _ _).slots.size; rw [arrV_size]; exact Nat.not_le.mp fun q => hin (Or.inr q)⟩ g1 (fun q h => by rw [g3] at h; cases h) (by rw [g2]; exact hkC) (by rw [g2, hc0]; exact f3) rfl rfl hd fun H1 e1 z1 oq => ?_
  refine kk O H1 _ cells slots ls (r1.set ha hr ?_ z1 oq) (fun q hq => ?_) r3 r4 r5
  · show H1[a]? = some (vp_cell _ _)
    rw [e1, vp_cell_q, vp_cell_q, arrV_store, iv_cl hz.1 (by omega)]
    congr 2
    funext q
    by_cases hq : q = z.toNat
    · subst hq
      simp [updV, va_up, va_rf]
    · simp [updV, va_up, hq]
  · rcases List.mem_append.mp hq with u | u
    · exact r2 q u
    · rw [List.mem_singleton.mp u]; exact r1.2.2.2.1 a r _ ha hr
theorem x_aastN {a r n : Nat} {f : Nat → Option Nat} {z : Int} (ha : h a = some (r, ra G n f)) (hr : r ≠ 0) (hz : 0 ≤ z ∧ z < n) (hn : n ≤ 2147483647) (hd : decode cc pc = .ok (.aastore, 1)) (kk : V G X cc nL y ret dp P mc ms (pc + 1) lv st (hup h a (r, ra G n (va_up f z.toNat none))) kc ks) : V G X cc nL y ret dp P mc ms pc lv (.null :: iv z :: .ref a :: st) h kc ks := by
  obtain ⟨p, l, e, s, m, args, below, meth, c⟩ := X
  intro O H locs cells slots ls r1 r2 r3 r4 r5
  have hcell : H[a]? = some (vp_cell (G.2.2.2 3) (n, .inr (.inr (.inr (.inr f))))) := r1.2.2.2.2 a r _ ha
  refine va_WaastN (C := "java/lang/Object") O.1 O.2.1 hcell ((O.K.2 3 _ rfl).1 n (fun j => va_rf (f j))) (fun h => by cases h) (by show ¬ (_ ∨ (arrV _ _ _).slots.size ≤ _); rw [arrV_size]; exact iv_in hz.1 hz.2 (by omega)) rfl rfl hd fun H1 e1 z1 oq => ?_
  refine kk O H1 _ cells slots ls (r1.set ha hr ?_ z1 oq) (fun q hq => ?_) r3 r4 r5
  · show H1[a]? = some (vp_cell _ _)
    rw [e1, vp_cell_q, vp_cell_q, arrV_store, iv_cl hz.1 (by omega)]
    congr 2
    funext q
    by_cases hq : q = z.toNat
    · subst hq
      simp [updV, va_up, va_rf]
    · simp [updV, va_up, hq]
  · rcases List.mem_append.mp hq with u | u
    · exact r2 q u
    · rw [List.mem_singleton.mp u]; exact r1.2.2.2.1 a r _ ha hr
/-- casts -/
theorem x_cast {a r ci i : Nat} {fs : List Value} {C nm : String} {T : u_T} {N : Nat} (hl : Cond.classLink y.cls i nm ∈ lw_all) (hw : Cond.castable C nm ∈ lw_tbl) (ha : h a = some (r, ob ci fs)) (hc : clAll[ci]? = some (C, T, N)) (hd : decode cc pc = .ok (.checkcast i, 3)) (kk : V G X cc nL y ret dp P mc ms (pc + 3) lv (.ref a :: st) h kc ks) : V G X cc nL y ret dp P mc ms pc lv (.ref a :: st) h kc ks := by
  obtain ⟨p, l, e, s, m, args, below, meth, c⟩ := X
  intro O H locs cells slots ls r1 r2 r3 r4 r5
  exact va_castY O.1 O.2.1 O.2.2.2.1 (O.2.2.2.2.1 _ hl) (va_Nw.warmC O.2.2.2.2.2.2.2.2.1 (O.tbl hw rfl)) (r1.recv O.K ha hc) hd (kk O H locs cells slots ls r1 r2 r3 r4 r5)
theorem x_castS {a r ci i : Nat} {fs : List Value} {C : String} {T : u_T} {N : Nat} (hl : Cond.classLink y.cls i C ∈ lw_all) (ha : h a = some (r, ob ci fs)) (hc : clAll[ci]? = some (C, T, N)) (hd : decode cc pc = .ok (.checkcast i, 3)) (kk : V G X cc nL y ret dp P mc ms (pc + 3) lv (.ref a :: st) h kc ks) : V G X cc nL y ret dp P mc ms pc lv (.ref a :: st) h kc ks := by
  obtain ⟨p, l, e, s, m, args, below, meth, c⟩ := X
  intro O H locs cells slots ls r1 r2 r3 r4 r5
  exact va_castS O.1 O.2.1 O.2.2.2.1 (O.2.2.2.2.1 _ hl) (O.K.1 ci _ hc).2 (r1.recv O.K ha hc) hd (kk O H locs cells slots ls r1 r2 r3 r4 r5)
theorem x_castN {i : Nat} (hd : decode cc pc = .ok (.checkcast i, 3)) (kk : V G X cc nL y ret dp P mc ms (pc + 3) lv (.null :: st) h kc ks) : V G X cc nL y ret dp P mc ms pc lv (.null :: st) h kc ks := by
  obtain ⟨p, l, e, s, m, args, below, meth, c⟩ := X
  intro O H locs cells slots ls r1 r2 r3 r4 r5
  exact lv_castN O.1 O.2.1 hd (kk O H locs cells slots ls r1 r2 r3 r4 r5)
theorem x_inst {a r ci i : Nat} {fs : List Value} {C nm : String} {T : u_T} {N : Nat} (hl : Cond.classLink y.cls i nm ∈ lw_all) (hw : Cond.castable C nm ∈ lw_tbl) (ha : h a = some (r, ob ci fs)) (hc : clAll[ci]? = some (C, T, N)) (hd : decode cc pc = .ok (.instanceof i, 3)) (kk : V G X cc nL y ret dp P mc ms (pc + 3) lv (iv 1 :: st) h kc ks) : V G X cc nL y ret dp P mc ms pc lv (.ref a :: st) h kc ks := by
  obtain ⟨p, l, e, s, m, args, below, meth, c⟩ := X
  intro O H locs cells slots ls r1 r2 r3 r4 r5
  exact va_instY O.1 O.2.1 O.2.2.2.1 (O.2.2.2.2.1 _ hl) (va_Nw.warmC O.2.2.2.2.2.2.2.2.1 (O.tbl hw rfl)) (r1.recv O.K ha hc) hd (kk O H locs cells slots ls r1 r2 r3 r4 r5)
end CORE4
