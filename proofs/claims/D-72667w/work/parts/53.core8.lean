/-! CORE 8: a private method, called on an object of a subclass -/
set_option maxRecDepth 100000
theorem Nw_warmP {x : MethodName} {s U : State} (hW : s.WarmedH U.vm) (hZ : va_Nw (.privateMethod x) s) : va_Nw (.privateMethod x) U := va_tabs rfl (rfl : (s.setVm U.vm).vm = U.vm) (by rw [Cond.privateMethod_setVm hW.alike]; exact hZ)
section CORE9
variable {G : Gw} {X : Cx} {cc : ByteArray} {nL : Nat} {y : MethodName} {ret : Option FieldType} {dp : Nat} {P : Option Value → Hp → Prop} {mc ms pc : Nat} {lv : List (Nat × Value)} {st : List Value} {h : Hp} {kc ks : Nat}
theorem run_P {p : Program} {l : Launch} {e : Env} {R : Room} {s : State} {m : MethodId} {args : Array Value} {below : List Frame} {meth : Method} {c : Code} {H : Heap} {locs : List Loc} {cells slots : Nat} {y : MethodName} {bytes cc : ByteArray} {maxL nL mc ms n index : Nat} {ret : Option FieldType} {ws : List Cond} {rm : Room} {Pc : Array Value → State → Prop} {Qc : Array Value → State → Outcome → State → Prop} {free : Addr → Prop} {Ts : List Cond} {own C : String} {cC : ClassId} {b : Addr} {As rest : List Value} {g : JFrame}
    (hat : ClassAt s C cC) (S : CallFix p m c cc nL s args Ts own) (hM : Met l y ws rm Pc Qc mc ms free)
    (cw : (rm.cells = mc ∧ rm.slots = ms ∧ rm.frames + 1 ≤ R.frames ∧ 8 + (maxL + 11) + rm.locals ≤ R.locals ∧ (∀ w ∈ ws, ∀ (a' : Array Value) (U : State), s.WarmedH U.vm → w.before a' U = true) ∧ Cond.code y bytes maxL ret ∈ ws)) (hlink : (Cond.methodLink own index y).before args s = true) (hsame : (Cond.sameMethod y.cls y.cls y.name y.desc).before args s = true) (hpriv : (Cond.privateMethod y).before args s = true) (hinst : (Cond.instanceMethod y).before args s = true) (hini : (Cond.initialized y.cls).before args s = true) (hcode : (Cond.code y bytes maxL ret).before args s = true) (hy : y.cls ≠ "java/lang/invoke/MethodHandle" ∧ y.cls ≠ "java/lang/invoke/VarHandle") (hlen : ∀ sig, parseMethodDescriptor y.desc = some sig → n = sig.parameters.length) (hp : PreV s H C b Pc As)
    (hg : g.method = m) (hn : As.length = n) (hsize : g.locals.size = nL) (hstack : g.stack = As.reverse ++ .ref b :: rest) (hW : 2 * g.monitorRoom + (rest.map fun v => v.category).sum ≤ 8) (hdg : decode cc g.pc = .ok (.invokevirtual index, 3)) (hf : cells + mc ≤ R.cells ∧ slots + ms ≤ R.slots) :
    va_Run p l e R s m args below meth c H locs cells slots mc ms g rest (Qc (Value.ref b :: As).toArray) (free) := by
  obtain ⟨hrc, hrs, hfr, hlo, hws, hcw⟩ := cw
  have hK : Back l R p e below s args y 3 8 (PreOf R mc ms Pc) (PostOf Qc mc ms free) := back_of (bytes := bytes) (maxL := maxL) (ret := ret) hM hp.1 hrc hrs hfr hlo hws hcw (fun a' U hW => word_at hW (Or.inl (by first | rfl | simp [Cond.onTables, Cond.keeps, Cond.steady])) hini)
  obtain ⟨hx, hb, hml, ho, -⟩ := S
  obtain ⟨-, ⟨cellB, hcB, hoB, hclB⟩, hPc⟩ := hp
  intro T hT X
  obtain ⟨mk, methM, hnamed, hmethM, hstM, habM⟩ := Cond.instanceMethod_spec hinst
  obtain ⟨methM', cM, hmethM', -, -, -, -, -, -, hsigM⟩ := Cond.code_spec hnamed hcode
  cases hmethM.symm.trans hmethM'
  have hcls := findClass_of_methodNamed hnamed
  obtain ⟨kP, hkP, hkPi⟩ : ∃ k, s.vm.classes[mk.cls]? = some k ∧ k.isInterface = false := by
    cases hfo : s.methodFound? y.cls y.name y.desc with
    | none => simp [Cond.before, Cond.holds, Cond.value, hcls, hfo] at hsame
    | some r => exact (Cond.sameMethod_spec hcls hfo hsame).2
  have hselP : selectMethod e.platform s.vm cellB.cls mk = .method mk := selectMethod_private hmethM (Cond.privateMethod_at hpriv mk methM hnamed hmethM)
  obtain ⟨vm₁, X₁, hstep₁⟩ := X.invokevirtual hx ho hlink hnamed hmethM hstM hkP hkPi hy (a := b) (cell := cellB) (by rw [hT]; exact hcB)
    (fun z h => by rw [h] at hoB; cases hoB) hselP hmethM habM hkP hkPi (g := g) hg (argsL := As) (rest := rest) (hn.trans (hlen _ hsigM)) hstack (by rw [hb]; exact hdg)
  obtain ⟨v, ⟨U', l2, c2, s2⟩, X', ⟨g', mk', t, L, e1, e2, hq, h1, hL, h2, h3⟩, hsteps⟩ := hK m meth c ⟨T.setVm vm₁, locs, cells, slots⟩ { g with stack := rest } (.invokevirtual index) mk (Value.ref b :: As).toArray X₁ hg (hsize.trans hml.symm) (by rw [hb]; exact hdg) hW (X₁.named hnamed) ⟨hf.1, hf.2, hPc (T.setVm vm₁) hT X₁.warmed⟩
  dsimp only [Pt.U, Pt.locs, Pt.cells, Pt.slots] at X' e1 e2 h1 h2 h3 hsteps
  subst h1; subst h2; subst h3
  exact ⟨v, (T.setVm vm₁).calling g' mk' (Value.ref b :: As).toArray, t, U', L, hT, X', hL, e1, e2, hq, fun target h => hstep₁ _ (fun acts => by rw [doInvoke_state]; exact hsteps.trans h)⟩
theorem x_callP {C : String} {y1 : MethodName} {cc1 : ByteArray} {nL1 : Nat} {ret1 : Option FieldType} {dp1 mc1 ms1 i a r ci : Nat} {fs : List Value} {T : u_T} {N : Nat} {As rest st0 : List Value} {P1 : Option Value → Hp → Prop} (n : Nat)
    (hM : ∀ l : Launch, Mt l G y1 cc1 nL1 ret1 dp1 (.ref a :: As) h P1 mc1 ms1) (h1 : Cond.methodLink y.cls i y1 ∈ lw_all) (h6 : Cond.sameMethod y1.cls y1.cls y1.name y1.desc ∈ lw_all) (h7 : Cond.privateMethod y1 ∈ lw_tbl) (h3 : Cond.instanceMethod y1 ∈ lw_all) (h4 : Cond.initialized y1.cls ∈ lw_all) (h5 : Cond.code y1 cc1 nL1 ret1 ∈ lw_all)
    (hyd : (y1.cls ≠ "java/lang/invoke/MethodHandle" ∧ y1.cls ≠ "java/lang/invoke/VarHandle") ∧ (parseMethodDescriptor y1.desc).map (fun d => d.parameters.length) = some n) (hdp : dp1 + 1 ≤ dp) (hnl : nL1 ≤ 45)
    (ha : h a = some (r, ob ci fs)) (hc : clAll[ci]? = some (C, T, N)) (hn : As.length = n) (hst : st0 = As.reverse ++ .ref a :: rest) (hrs : (rest.map fun v => v.category).sum ≤ 8) (hd : decode cc pc = .ok (.invokevirtual i, 3)) (hk1 : mc1 ≤ kc) (hk2 : ms1 ≤ ks)
    (kk : ∀ (v : Option Value) (h' : Hp), P1 v h' → V G X cc nL y ret dp P mc ms (pc + 3) lv (v.toList ++ rest) h' (kc - mc1) (ks - ms1)) : V G X cc nL y ret dp P mc ms pc lv st0 h kc ks := by
  obtain ⟨p, l, e, s, m, args, below, meth, c⟩ := X
  intro O H locs cells slots ls r1 r2 r3 r4 r5
  have hts := O.2.2.2.2.1
  have hW := O.2.2.2.2.2.2.2.2.1
  have hG := O.2.2.2.2.2.2.2.2.2
  refine x_run (run_P (As := As) (rest := rest) (n := n) (bytes := cc1) (maxL := nL1) (ret := ret1) (O.K.1 ci _ hc).2 ⟨O.1, O.2.1, O.2.2.1, O.2.2.2.1, hts⟩ (hM l) ⟨rfl, rfl, hdp, by show 8 + (nL1 + 11) + 64 * dp1 ≤ 64 * dp; omega, pay_in hts (lw_meth h5), List.mem_cons_self⟩ (hts _ h1) (hts _ h6) (va_Nw.use rfl (Nw_warmP hW (O.tbl h7 rfl))) (hts _ h3) (hts _ h4) (hts _ h5) hyd.1 (fun sig h => ?_) ⟨blind, r1.recv O.K ha hc, fun U hU hW2 => ⟨rfl, hG, State.WarmedH.trans hW hW2, by rw [hU]; exact r1⟩⟩ rfl hn r5.1 hst (lv_room hrs) hd ⟨by show cells + mc1 ≤ mc; omega, by show slots + ms1 ≤ ms; omega⟩) r2 (fun v h' hp H1 locs1 R1 L1 => ?_)
  · have h2 := hyd.2
    rw [h] at h2
    exact (Option.some.inj h2).symm
  exact kk v h' hp O H1 locs1 _ _ ls R1 L1 (by omega) (by omega) r5
end CORE9
