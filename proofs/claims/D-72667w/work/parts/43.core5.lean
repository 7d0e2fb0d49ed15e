/-! CORE 5: calls through interfaces, of inherited methods, of nest mates; statics; new arrays; arrays of longs -/
set_option maxRecDepth 100000
section CORE5
variable {G : Gw} {X : Cx} {cc : ByteArray} {nL : Nat} {y : MethodName} {ret : Option FieldType} {dp : Nat} {P : Option Value → Hp → Prop} {mc ms pc : Nat} {lv : List (Nat × Value)} {st : List Value} {h : Hp} {kc ks : Nat}
theorem x_run5 {p : Program} {l : Launch} {e : Env} {R : Room} {s : State} {m : MethodId} {args : Array Value} {below : List Frame} {meth : Method} {c : Code} {H : Heap} {locs : List Loc} {cells slots mc1 ms1 : Nat} {ls : Array Slot} {st0 rest : List Value} {P1 : Option Value → Hp → Prop} {a : Array Value} {Q : State → Prop}
    (hr : va_Run5 p l e R s m args below meth c H locs cells slots mc1 ms1 (F0 m pc ls st0) rest (VQ G P1 a) (fun q => G.1.heap.size ≤ q)) (r2 : ∀ q ∈ locs, G.1.heap.size ≤ q.base)
    (kk : ∀ (v : Option Value) (h1 : Hp), P1 v h1 → ∀ (H1 : Heap) (locs1 : List Loc), Rl G h1 H1 → (∀ q ∈ locs1, G.1.heap.size ≤ q.base) → W p l e R s m args below meth c H1 locs1 (cells + mc1) (slots + ms1) Q (F0 m (pc + 5) ls (v.toList ++ rest))) : W p l e R s m args below meth c H locs cells slots Q (F0 m pc ls st0) := by
  intro T hT X
  obtain ⟨v, st₀, t, T', L, h0, X', hL, e1, e2, ⟨v2, h1, hv, hp, hb⟩, st⟩ := hr T hT X
  cases hv
  obtain ⟨t2, a1, b1⟩ := kk v h1 hp T'.heap (locs ++ L) (by rw [e1]; exact hb) (fun q hq => by
      rcases List.mem_append.mp hq with u | u
      · exact r2 q u
      · exact hL q u) T' rfl X'
  exact ⟨t2, st t2 a1, b1⟩
/-- a call through an interface -/
theorem x_callF {C : String} {x1 y1 : MethodName} {cc1 : ByteArray} {nL1 : Nat} {ret1 : Option FieldType} {dp1 mc1 ms1 i cnt a r ci : Nat} {fs : List Value} {T : u_T} {N : Nat} {As rest st0 : List Value} {P1 : Option Value → Hp → Prop} (n : Nat)
    (hM : ∀ l : Launch, Mt l G y1 cc1 nL1 ret1 dp1 (.ref a :: As) h P1 mc1 ms1) (h1 : Cond.methodLink y.cls i x1 ∈ lw_all) (h2 : Cond.selects C x1 y1 ∈ lw_all) (h3 : Cond.instanceMethod y1 ∈ lw_all) (h4 : Cond.initialized y1.cls ∈ lw_all) (h5 : Cond.code y1 cc1 nL1 ret1 ∈ lw_all)
    (f1 : Cond.declares x1 ∈ lw_tbl) (f2 : Cond.interfaceMethod x1.cls x1.cls x1.name x1.desc ∈ lw_tbl) (f3 : Cond.publicMethod y1 ∈ lw_tbl) (f4 : Cond.unhidden C x1.name x1.desc ∈ lw_tbl) (f5 : Cond.castable C x1.cls ∈ lw_tbl)
    (hyd : x1.cls ≠ "java/lang/invoke/MethodHandle" ∧ x1.cls ≠ "java/lang/invoke/VarHandle" ∧ (parseMethodDescriptor x1.desc).map (fun d => d.parameters.length) = some n) (hdp : dp1 + 1 ≤ dp) (hnl : nL1 ≤ 45)
    (ha : h a = some (r, ob ci fs)) (hc : clAll[ci]? = some (C, T, N)) (hn : As.length = n) (hst : st0 = As.reverse ++ .ref a :: rest) (hrs : (rest.map fun v => v.category).sum ≤ 8) (hd : decode cc pc = .ok (.invokeinterface i cnt, 5)) (hk1 : mc1 ≤ kc) (hk2 : ms1 ≤ ks)
    (kk : ∀ (v : Option Value) (h' : Hp), P1 v h' → V G X cc nL y ret dp P mc ms (pc + 5) lv (v.toList ++ rest) h' (kc - mc1) (ks - ms1)) : V G X cc nL y ret dp P mc ms pc lv st0 h kc ks := by
  obtain ⟨p, l, e, s, m, args, below, meth, c⟩ := X
  intro O H locs cells slots ls r1 r2 r3 r4 r5
  have hts := O.2.2.2.2.1
  have hW := O.2.2.2.2.2.2.2.2.1
  have hG := O.2.2.2.2.2.2.2.2.2
  have hw0 := hG.2.1
  have hF : va_Fw C x1 y1 s := va_Fw.moved ⟨hyd.1, hyd.2.1⟩ hW.alike (va_Fw.of (hw0 _ f1) (hw0 _ f2) (hw0 _ f3) (hw0 _ f4) (hw0 _ f5))
  have hgi : GoodIn lw_all (va_wsF y.cls i C x1 y1 (ws_ y1 cc1 nL1 ret1)) := by
    refine lw_app ?_ (lw_meth h5)
    intro w hw
    simp only [List.mem_cons, List.not_mem_nil, or_false] at hw
    rcases hw with e | e | e | e
    · rw [e]; exact h1
    · rw [e]; exact h2
    · rw [e]; exact h3
    · rw [e]; exact h4
  refine x_run5 (va_runF (As := As) (rest := rest) (O.K.1 ci _ hc).2 ⟨O.1, O.2.1, O.2.2.1, O.2.2.2.1, hts⟩ (hM l) (va_cwF n hts hgi rfl rfl rfl hF hyd ⟨hdp, by show 8 + (nL1 + 11) + 64 * dp1 ≤ 64 * dp; omega⟩) ⟨blind, r1.recv O.K ha hc, fun U hU hW2 => ⟨rfl, hG, State.WarmedH.trans hW hW2, by rw [hU]; exact r1⟩⟩ rfl hn r5.1 hst (lv_room hrs) hd ⟨by show cells + mc1 ≤ mc; omega, by show slots + ms1 ≤ ms; omega⟩) r2 (fun v h' hp H1 locs1 R1 L1 => ?_)
  exact kk v h' hp O H1 locs1 _ _ ls R1 L1 (by omega) (by omega) r5
/-- a method that the object's class inherits: the link names x1, the owner's own runs -/
theorem x_callU {C owner : String} {x1 y1 : MethodName} {cc1 : ByteArray} {nL1 : Nat} {ret1 : Option FieldType} {dp1 mc1 ms1 i a r ci : Nat} {fs : List Value} {T : u_T} {N : Nat} {As rest st0 : List Value} {P1 : Option Value → Hp → Prop} (n : Nat)
    (hM : ∀ l : Launch, Mt l G y1 cc1 nL1 ret1 dp1 (.ref a :: As) h P1 mc1 ms1) (h1 : Cond.methodLink y.cls i x1 ∈ lw_all) (h6 : Cond.sameMethod x1.cls owner x1.name x1.desc ∈ lw_all) (h2 : Cond.selects C x1 y1 ∈ lw_all) (h3 : Cond.instanceMethod y1 ∈ lw_all) (h4 : Cond.initialized y1.cls ∈ lw_all) (h5 : Cond.code y1 cc1 nL1 ret1 ∈ lw_all)
    (hyx : y1 = ⟨owner, x1.name, x1.desc⟩) (hyd : owner ≠ "java/lang/invoke/MethodHandle" ∧ owner ≠ "java/lang/invoke/VarHandle" ∧ (parseMethodDescriptor x1.desc).map (fun d => d.parameters.length) = some n) (hdp : dp1 + 1 ≤ dp) (hnl : nL1 ≤ 45)
    (ha : h a = some (r, ob ci fs)) (hc : clAll[ci]? = some (C, T, N)) (hn : As.length = n) (hst : st0 = As.reverse ++ .ref a :: rest) (hrs : (rest.map fun v => v.category).sum ≤ 8) (hd : decode cc pc = .ok (.invokevirtual i, 3)) (hk1 : mc1 ≤ kc) (hk2 : ms1 ≤ ks)
    (kk : ∀ (v : Option Value) (h' : Hp), P1 v h' → V G X cc nL y ret dp P mc ms (pc + 3) lv (v.toList ++ rest) h' (kc - mc1) (ks - ms1)) : V G X cc nL y ret dp P mc ms pc lv st0 h kc ks := by
  obtain ⟨p, l, e, s, m, args, below, meth, c⟩ := X
  intro O H locs cells slots ls r1 r2 r3 r4 r5
  have hts := O.2.2.2.2.1
  have hW := O.2.2.2.2.2.2.2.2.1
  have hG := O.2.2.2.2.2.2.2.2.2
  have hgi : GoodIn lw_all (va_wsU y.cls i C owner x1 y1 (ws_ y1 cc1 nL1 ret1)) := by
    refine lw_app ?_ (lw_meth h5)
    intro w hw
    simp only [List.mem_cons, List.not_mem_nil, or_false] at hw
    rcases hw with e | e | e | e | e
    · rw [e]; exact h1
    · rw [e]; exact h6
    · rw [e]; exact h2
    · rw [e]; exact h3
    · rw [e]; exact h4
  refine x_run (va_runU (As := As) (rest := rest) ⟨O.1, O.2.1, O.2.2.1, O.2.2.2.1, hts⟩ (hM l) (va_cwU n hts hgi rfl rfl rfl hyx hyd ⟨hdp, by show 8 + (nL1 + 11) + 64 * dp1 ≤ 64 * dp; omega⟩) ⟨blind, r1.recv O.K ha hc, fun U hU hW2 => ⟨rfl, hG, State.WarmedH.trans hW hW2, by rw [hU]; exact r1⟩⟩ rfl hn r5.1 hst (lv_room hrs) hd ⟨by show cells + mc1 ≤ mc; omega, by show slots + ms1 ≤ ms; omega⟩) r2 (fun v h' hp H1 locs1 R1 L1 => ?_)
  exact kk v h' hp O H1 locs1 _ _ ls R1 L1 (by omega) (by omega) r5
/-- a nest mate's private method -/
theorem x_callSN {host : String} {y1 : MethodName} {cc1 : ByteArray} {nL1 : Nat} {ret1 : Option FieldType} {dp1 mc1 ms1 i : Nat} {As rest st0 : List Value} {P1 : Option Value → Hp → Prop} (n : Nat)
    (hM : ∀ l : Launch, Mt l G y1 cc1 nL1 ret1 dp1 As h P1 mc1 ms1) (h1 : Cond.methodLinkNest y.cls i y1 host ∈ lw_tbl) (h2 : Cond.static y1 ∈ lw_all) (h3 : Cond.initialized y1.cls ∈ lw_all) (h5 : Cond.code y1 cc1 nL1 ret1 ∈ lw_all)
    (hyd : y1.cls ≠ "java/lang/invoke/MethodHandle" ∧ y1.cls ≠ "java/lang/invoke/VarHandle" ∧ (parseMethodDescriptor y1.desc).map (fun d => d.parameters.length) = some n) (hdp : dp1 + 1 ≤ dp) (hnl : nL1 ≤ 45)
    (hn : As.length = n) (hst : st0 = As.reverse ++ rest) (hrs : (rest.map fun v => v.category).sum ≤ 8) (hd : decode cc pc = .ok (.invokestatic i, 3)) (hk1 : mc1 ≤ kc) (hk2 : ms1 ≤ ks)
    (kk : ∀ (v : Option Value) (h' : Hp), P1 v h' → V G X cc nL y ret dp P mc ms (pc + 3) lv (v.toList ++ rest) h' (kc - mc1) (ks - ms1)) : V G X cc nL y ret dp P mc ms pc lv st0 h kc ks := by
  obtain ⟨p, l, e, s, m, args, below, meth, c⟩ := X
  intro O H locs cells slots ls r1 r2 r3 r4 r5
  have hts := O.2.2.2.2.1
  have hW := O.2.2.2.2.2.2.2.2.1
  have hG := O.2.2.2.2.2.2.2.2.2
  refine x_run (va_runSN (As := As) (rest := rest) ⟨O.1, O.2.1, O.2.2.1, O.2.2.2.1, hts⟩ (hM l) ⟨va_cnB n hts (lw_meth h5) rfl rfl rfl (va_Nw.warmM hW (O.tbl h1 rfl)) (hts _ h3) hyd ⟨hdp, by show 8 + (nL1 + 11) + 64 * dp1 ≤ 64 * dp; omega⟩, hts _ h2, trivial⟩ ⟨blind, fun U hU hW2 => ⟨rfl, hG, State.WarmedH.trans hW hW2, by rw [hU]; exact r1⟩⟩ rfl hn r5.1 hst (lv_room hrs) hd ⟨by show cells + mc1 ≤ mc; omega, by show slots + ms1 ≤ ms; omega⟩) r2 (fun v h' hp H1 locs1 R1 L1 => ?_)
  exact kk v h' hp O H1 locs1 _ _ ls R1 L1 (by omega) (by omega) r5
theorem x_callVN {C host : String} {y1 : MethodName} {cc1 : ByteArray} {nL1 : Nat} {ret1 : Option FieldType} {dp1 mc1 ms1 i a r ci : Nat} {fs : List Value} {T : u_T} {N : Nat} {As rest st0 : List Value} {P1 : Option Value → Hp → Prop} (n : Nat)
    (hM : ∀ l : Launch, Mt l G y1 cc1 nL1 ret1 dp1 (.ref a :: As) h P1 mc1 ms1) (h1 : Cond.methodLinkNest y.cls i y1 host ∈ lw_tbl) (h2 : Cond.instanceMethod y1 ∈ lw_all) (h3 : Cond.initialized y1.cls ∈ lw_all) (h4 : Cond.selects C y1 y1 ∈ lw_all) (h5 : Cond.code y1 cc1 nL1 ret1 ∈ lw_all)
    (hyd : y1.cls ≠ "java/lang/invoke/MethodHandle" ∧ y1.cls ≠ "java/lang/invoke/VarHandle" ∧ (parseMethodDescriptor y1.desc).map (fun d => d.parameters.length) = some n) (hdp : dp1 + 1 ≤ dp) (hnl : nL1 ≤ 45)
    (ha : h a = some (r, ob ci fs)) (hc : clAll[ci]? = some (C, T, N)) (hn : As.length = n) (hst : st0 = As.reverse ++ .ref a :: rest) (hrs : (rest.map fun v => v.category).sum ≤ 8) (hd : decode cc pc = .ok (.invokevirtual i, 3)) (hk1 : mc1 ≤ kc) (hk2 : ms1 ≤ ks)
    (kk : ∀ (v : Option Value) (h' : Hp), P1 v h' → V G X cc nL y ret dp P mc ms (pc + 3) lv (v.toList ++ rest) h' (kc - mc1) (ks - ms1)) : V G X cc nL y ret dp P mc ms pc lv st0 h kc ks := by
  obtain ⟨p, l, e, s, m, args, below, meth, c⟩ := X
  intro O H locs cells slots ls r1 r2 r3 r4 r5
  have hts := O.2.2.2.2.1
  have hW := O.2.2.2.2.2.2.2.2.1
  have hG := O.2.2.2.2.2.2.2.2.2
  refine x_run (va_runVN (As := As) (rest := rest) ⟨O.1, O.2.1, O.2.2.1, O.2.2.2.1, hts⟩ (hM l) ⟨va_cnB n hts (lw_meth h5) rfl rfl rfl (va_Nw.warmM hW (O.tbl h1 rfl)) (hts _ h3) hyd ⟨hdp, by show 8 + (nL1 + 11) + 64 * dp1 ≤ 64 * dp; omega⟩, hts _ h2, hts _ h4⟩ ⟨blind, r1.recv O.K ha hc, fun U hU hW2 => ⟨rfl, hG, State.WarmedH.trans hW hW2, by rw [hU]; exact r1⟩⟩ rfl hn r5.1 hst (lv_room hrs) hd ⟨by show cells + mc1 ≤ mc; omega, by show slots + ms1 ≤ ms; omega⟩) r2 (fun v h' hp H1 locs1 R1 L1 => ?_)
  exact kk v h' hp O H1 locs1 _ _ ls R1 L1 (by omega) (by omega) r5
theorem x_callIN {host : String} {y1 : MethodName} {cc1 : ByteArray} {nL1 : Nat} {dp1 mc1 ms1 i a : Nat} {As rest st0 : List Value} {P1 : Option Value → Hp → Prop} (n : Nat)
    (hM : ∀ l : Launch, Mt l G y1 cc1 nL1 none dp1 (.ref a :: As) h P1 mc1 ms1) (h1 : Cond.methodLinkNest y.cls i y1 host ∈ lw_tbl) (h2 : Cond.instanceMethod y1 ∈ lw_all) (h3 : Cond.initialized y1.cls ∈ lw_all) (h5 : Cond.code y1 cc1 nL1 none ∈ lw_all) (hy1 : y1.name = "<init>")
    (hyd : y1.cls ≠ "java/lang/invoke/MethodHandle" ∧ y1.cls ≠ "java/lang/invoke/VarHandle" ∧ (parseMethodDescriptor y1.desc).map (fun d => d.parameters.length) = some n) (hdp : dp1 + 1 ≤ dp) (hnl : nL1 ≤ 45)
    (hn : As.length = n) (hst : st0 = As.reverse ++ .ref a :: rest) (hrs : (rest.map fun v => v.category).sum ≤ 8) (hd : decode cc pc = .ok (.invokespecial i, 3)) (hk1 : mc1 ≤ kc) (hk2 : ms1 ≤ ks)
    (kk : ∀ (v : Option Value) (h' : Hp), P1 v h' → V G X cc nL y ret dp P mc ms (pc + 3) lv (v.toList ++ rest) h' (kc - mc1) (ks - ms1)) : V G X cc nL y ret dp P mc ms pc lv st0 h kc ks := by
  obtain ⟨p, l, e, s, m, args, below, meth, c⟩ := X
  intro O H locs cells slots ls r1 r2 r3 r4 r5
  have hts := O.2.2.2.2.1
  have hW := O.2.2.2.2.2.2.2.2.1
  have hG := O.2.2.2.2.2.2.2.2.2
  refine x_run (va_runIN (As := As) (rest := rest) ⟨O.1, O.2.1, O.2.2.1, O.2.2.2.1, hts⟩ (hM l) ⟨va_cnB n hts (lw_meth h5) rfl rfl rfl (va_Nw.warmM hW (O.tbl h1 rfl)) (hts _ h3) hyd ⟨hdp, by show 8 + (nL1 + 11) + 64 * dp1 ≤ 64 * dp; omega⟩, hy1, hts _ h2⟩ ⟨blind, fun U hU hW2 => ⟨rfl, hG, State.WarmedH.trans hW hW2, by rw [hU]; exact r1⟩⟩ rfl hn r5.1 hst (lv_room hrs) hd ⟨by show cells + mc1 ≤ mc; omega, by show slots + ms1 ≤ ms; omega⟩) r2 (fun v h' hp H1 locs1 R1 L1 => ?_)
  exact kk v h' hp O H1 locs1 _ _ ls R1 L1 (by omega) (by omega) r5
/-- a nest mate's field -/
theorem x_getN {C host : String} {T : u_T} {N ci i a r : Nat} {fs : List Value} {v : Value} (k : Nat) (hin : ∀ w ∈ u_ws C T N, w ∈ lw_all) (hc : clAll[ci]? = some (C, T, N)) (hk : k < N) (hl : Cond.fieldLinkNest y.cls i (T k).1 (T k).2.1 (T k).2.2.1 host ∈ lw_tbl) (hd : decode cc pc = .ok (.getfield i, 3)) (ha : h a = some (r, ob ci fs)) (hv : fs[k]? = some v) (kk : V G X cc nL y ret dp P mc ms (pc + 3) lv (v :: st) h kc ks) : V G X cc nL y ret dp P mc ms pc lv (.ref a :: st) h kc ks := by
  obtain ⟨p, l, e, s, m, args, below, meth, c⟩ := X
  intro O H locs cells slots ls r1 r2 r3 r4 r5
  have kk := kk O H locs cells slots ls r1 r2 r3 r4 r5
  have hP : va_P G.2.2.1 clAll [(a, .inr (ci, fs))] H := fun k q hq => by
    match k, hq with
    | 0, hq => cases hq; exact r1.2.2.2.2 a r _ ha
  exact va_getN O.1 O.2.1 O.2.2.2.2.1 hin O.2.2.2.1 O.K hP 0 rfl hc k hk (va_Nw.use rfl (va_Nw.warmF O.2.2.2.2.2.2.2.2.1 (O.tbl hl rfl))) (fun _ u => u) hv hd kk
/-- a static, by what the start says of it -/
theorem x_gets {C n d : String} {v : Value} {i : Nat} (hZ : ∀ l : Launch, GOk l G → va_Z C n d v (fun q => G.1.heap.size ≤ q) G.1 G.1.heap) (hl : Cond.fieldLink y.cls i C n d ∈ lw_all) (hd : decode cc pc = .ok (.getstatic i, 3)) (kk : V G X cc nL y ret dp P mc ms (pc + 3) lv (v :: st) h kc ks) : V G X cc nL y ret dp P mc ms pc lv st h kc ks := by
  obtain ⟨p, l, e, s, m, args, below, meth, c⟩ := X
  intro O H locs cells slots ls r1 r2 r3 r4 r5
  obtain ⟨cf, kf, fi, f, a, cell, h1, h2, h3, h4, h5, h6, h7, h8⟩ := va_Z.moved O.2.2.2.2.2.2.2.2.1.alike (hZ l O.2.2.2.2.2.2.2.2.2)
  exact W.gets O.1 O.2.1 O.2.2.2.1 (O.2.2.2.2.1 _ hl) h1 h2 h3 h4 (by rw [r1.2.1 a (Nat.not_le.mp h8)]; exact h5) (fun e => by rw [e] at h6; cases h6) h7 rfl hd (kk O H locs cells slots ls r1 r2 r3 r4 r5)
/-- a static of a whole number -/
theorem gZi {C n d : String} {z : Int32} (hl : Cond.laysStatic C n d ∈ lw_tbl) (hi : Cond.initialized C ∈ lw_all) (hv : ∀ (A : Array Value) (s : State), (Jvm.Cond.and given_1 narrow_1).before A s = true → (Cond.eq (.static C n d) (.int z)).before A s = true) : ∀ l : Launch, GOk l G → va_Z C n d (.int z) (fun q => G.1.heap.size ≤ q) G.1 G.1.heap := fun _ g =>
  va_Zof (g.2.1 _ hl) (g.2.1 _ (lw_all_tbl hi)) (va_eqi (hv _ _ g.2.2.1)) (fun _ u v => absurd u (Nat.not_lt.mpr v))
/-- new arrays: of bytes, of longs, of references -/
theorem x_newB {z : Int} (r : Nat) (hr : r ≠ 0) (hw : Cond.arrayClass .byte ∈ lw_all) (hd : decode cc pc = .ok (.newarray .byte, 2)) (hz : 0 ≤ z ∧ z ≤ 65536) (hk1 : 1 ≤ kc) (hk2 : z.toNat ≤ ks)
    (kk : ∀ a : Nat, h a = none → V G X cc nL y ret dp P mc ms (pc + 2) lv (.ref a :: st) (hup h a (r, ba G z.toNat (fun _ => 0))) (kc - 1) (ks - z.toNat)) : V G X cc nL y ret dp P mc ms pc lv (iv z :: st) h kc ks := by
  obtain ⟨p, l, e, s, m, args, below, meth, c⟩ := X
  intro O H locs cells slots ls r1 r2 r3 r4 r5
  refine va_newaK (atype := .byte) (N := z.toNat) O.1 O.2.1 (O.2.2.2.2.1 _ hw) rfl hd rfl (by rw [Int32.lt_iff_toInt_lt, ivT (by omega)]; show ¬ z < 0; omega) (iv_cl hz.1 (by omega)) (by show z.toNat * 1 ≤ _; omega) (by show cells + 1 ≤ mc; omega) (by show slots + z.toNat ≤ ms; omega) rfl fun H1 cA e1 z1 o1 hAr hNm => ?_
  have hcA : cA = G.2.2.2 1 := Option.some.inj (hNm.symm.trans (O.K.2 1 _ rfl).2)
  subst hcA
  obtain ⟨g1, g2⟩ := r1.push r (e := ba G z.toNat (fun _ => 0)) hr e1 z1 o1
  exact kk H.size g2 O H1 locs (cells + 1) (slots + z.toNat) ls g1 r2 (by omega) (by omega) r5
end CORE5
def la (G : Gw) (n : Nat) (f : Nat → Int64) : va_E := .inl (G.2.2.2 2, n, .inr (.inl f))
section CORE6
variable {G : Gw} {X : Cx} {cc : ByteArray} {nL : Nat} {y : MethodName} {ret : Option FieldType} {dp : Nat} {P : Option Value → Hp → Prop} {mc ms pc : Nat} {lv : List (Nat × Value)} {st : List Value} {h : Hp} {kc ks : Nat}
theorem x_newL {z : Int} (r : Nat) (hr : r ≠ 0) (hw : Cond.arrayClass .long ∈ lw_all) (hd : decode cc pc = .ok (.newarray .long, 2)) (hz : 0 ≤ z ∧ z ≤ 65536) (hk1 : 1 ≤ kc) (hk2 : z.toNat ≤ ks)
    (kk : ∀ a : Nat, h a = none → V G X cc nL y ret dp P mc ms (pc + 2) lv (.ref a :: st) (hup h a (r, la G z.toNat (fun _ => 0))) (kc - 1) (ks - z.toNat)) : V G X cc nL y ret dp P mc ms pc lv (iv z :: st) h kc ks := by
  obtain ⟨p, l, e, s, m, args, below, meth, c⟩ := X
  intro O H locs cells slots ls r1 r2 r3 r4 r5
  refine va_newaK (atype := .long) (N := z.toNat) O.1 O.2.1 (O.2.2.2.2.1 _ hw) rfl hd rfl (by rw [Int32.lt_iff_toInt_lt, ivT (by omega)]; show ¬ z < 0; omega) (iv_cl hz.1 (by omega)) (by show z.toNat * 8 ≤ _; omega) (by show cells + 1 ≤ mc; omega) (by show slots + z.toNat ≤ ms; omega) rfl fun H1 cA e1 z1 o1 hAr hNm => ?_
  have hcA : cA = G.2.2.2 2 := Option.some.inj (hNm.symm.trans (O.K.2 2 _ rfl).2)
  subst hcA
  obtain ⟨g1, g2⟩ := r1.push r (e := la G z.toNat (fun _ => 0)) hr e1 z1 o1
  exact kk H.size g2 O H1 locs (cells + 1) (slots + z.toNat) ls g1 r2 (by omega) (by omega) r5
theorem x_lald {a r n : Nat} {f : Nat → Int64} {z : Int} (ha : h a = some (r, la G n f)) (hz : 0 ≤ z ∧ z < n) (hn : n ≤ 2147483647) (hd : decode cc pc = .ok (.laload, 1)) (kk : V G X cc nL y ret dp P mc ms (pc + 1) lv (.long (f z.toNat) :: st) h kc ks) : V G X cc nL y ret dp P mc ms pc lv (iv z :: .ref a :: st) h kc ks := by
  obtain ⟨p, l, e, s, m, args, below, meth, c⟩ := X
  intro O H locs cells slots ls r1 r2 r3 r4 r5
  have kk := kk O H locs cells slots ls r1 r2 r3 r4 r5
  have hP : va_P G.2.2.1 clAll [(a, la G n f)] H := fun k q hq => by
    match k, hq with
    | 0, hq => cases hq; exact r1.2.2.2.2 a r _ ha
  refine va_lald O.1 O.2.1 O.K hP 0 2 rfl rfl (iv_in hz.1 hz.2 (by omega)) hd ?_
  rw [iv_cl hz.1 (by omega)]
  exact kk
theorem x_last {a r n : Nat} {f : Nat → Int64} {z : Int} {x : Int64} (ha : h a = some (r, la G n f)) (hr : r ≠ 0) (hz : 0 ≤ z ∧ z < n) (hn : n ≤ 2147483647) (hd : decode cc pc = .ok (.lastore, 1)) (kk : V G X cc nL y ret dp P mc ms (pc + 1) lv st (hup h a (r, la G n (vp_updL f z.toNat x))) kc ks) : V G X cc nL y ret dp P mc ms pc lv (.long x :: iv z :: .ref a :: st) h kc ks := by
  obtain ⟨p, l, e, s, m, args, below, meth, c⟩ := X
  intro O H locs cells slots ls r1 r2 r3 r4 r5
  have hc : H[a]? = some (vp_cell (G.2.2.2 2) (n, .inr (.inl f))) := r1.2.2.2.2 a r _ ha
  refine W.last O.1 O.2.1 hc ((O.K.2 2 _ rfl).1 n (fun j => .long (f j))) (fun q => by cases q) (by show ¬ (_ ∨ (arrV _ _ _).slots.size ≤ _); rw [arrV_size]; exact iv_in hz.1 hz.2 (by omega)) rfl rfl hd fun H1 e1 z1 oq => ?_
  refine kk O H1 _ cells slots ls (r1.set ha hr ?_ z1 oq) (fun q hq => ?_) r3 r4 r5
  · show H1[a]? = some (vp_cell _ _)
    rw [e1, vp_cell_l, vp_cell_l, arrV_store, iv_cl hz.1 (by omega)]
    congr 2
    funext q
    by_cases hq : q = z.toNat
    · subst hq
      simp [updV, vp_updL]
    · simp [updV, vp_updL, hq]
  · rcases List.mem_append.mp hq with u | u
    · exact r2 q u
    · rw [List.mem_singleton.mp u]; exact r1.2.2.2.1 a r _ ha hr
/-- a new Object[] -/
theorem x_anew {z : Int} {i : Nat} (r : Nat) (hr : r ≠ 0) (hl : Cond.classLink y.cls i "java/lang/Object" ∈ lw_all) (hw : Cond.arrayOver (.object "java/lang/Object") ∈ lw_tbl) (hd : decode cc pc = .ok (.anewarray i, 3)) (hz : 0 ≤ z ∧ z ≤ 65536) (hk1 : 1 ≤ kc) (hk2 : z.toNat ≤ ks)
    (kk : ∀ a : Nat, h a = none → V G X cc nL y ret dp P mc ms (pc + 3) lv (.ref a :: st) (hup h a (r, ra G z.toNat (fun _ => none))) (kc - 1) (ks - z.toNat)) : V G X cc nL y ret dp P mc ms pc lv (iv z :: st) h kc ks := by
  obtain ⟨p, l, e, s, m, args, below, meth, c⟩ := X
  intro O H locs cells slots ls r1 r2 r3 r4 r5
  have hover : va_AO "java/lang/Object" s := va_AO.moved O.2.2.2.2.2.2.2.2.1.alike (va_AO.of (O.2.2.2.2.2.2.2.2.2.2.1 _ hw))
  have hzc : (Int32.ofInt z).toNatClampNeg = z.toNat := iv_cl hz.1 (by omega)
  refine W.anew O.1 O.2.1 O.2.2.2.1 (O.2.2.2.2.1 _ hl) (va_AO.use hover) rfl hd rfl (by rw [Int32.lt_iff_toInt_lt, ivT (by omega)]; show ¬ z < 0; omega) (by rw [hzc]; omega) (by show cells + 1 ≤ mc; omega) (by show slots + _ ≤ ms; rw [hzc]; omega) fun cA kA comp f1 f2 f3 f4 => ?_
  rw [hzc]
  generalize hH1 : H.push ({ cls := cA, slots := Array.replicate z.toNat .null, vm := .none } : Cell) = H1
  have z1 : H1.size = H.size + 1 := by rw [← hH1, Array.size_push]
  have e1 : H1[H.size]? = some (arrV cA z.toNat (fun _ => .null)) := by rw [← hH1, Array.getElem?_push_size, ← arrV_new]
  have o1 : ∀ q : Nat, q < H.size → H1[q]? = H[q]? := fun q hq => by rw [← hH1, Array.getElem?_push, if_neg (Nat.ne_of_lt hq)]
  obtain ⟨kB, compB, k1, k2, k3, k4⟩ := (O.K.2 3 _ rfl).2
  have hcA : cA = G.2.2.2 3 := Option.some.inj (f1.symm.trans k4)
  subst hcA
  obtain ⟨g1, g2⟩ := r1.push r (e := ra G z.toNat (fun _ => none)) hr (by show H1[H.size]? = some (vp_cell _ _); rw [vp_cell_q]; exact e1) z1 o1
  exact kk H.size g2 O H1 locs (cells + 1) (slots + z.toNat) ls g1 r2 (by omega) (by omega) r5
end CORE6
