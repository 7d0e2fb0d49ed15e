/-! CORE 7: shifts by nothing, bytes and signs, statics of references -/
set_option maxRecDepth 100000
section CORE8
variable {G : Gw} {X : Cx} {cc : ByteArray} {nL : Nat} {y : MethodName} {ret : Option FieldType} {dp : Nat} {P : Option Value → Hp → Prop} {mc ms pc : Nat} {lv : List (Nat × Value)} {st : List Value} {h : Hp} {kc ks : Nat}
theorem x_ishr0 {a : Int} (hd : decode cc pc = .ok (.ishr, 1)) (kk : V G X cc nL y ret dp P mc ms (pc + 1) lv (iv a :: st) h kc ks) : V G X cc nL y ret dp P mc ms pc lv (iv 0 :: iv a :: st) h kc ks := by
  obtain ⟨p, l, e, s, m, args, below, meth, c⟩ := X
  intro O H locs cells slots ls r1 r2 r3 r4 r5
  have kk := kk O H locs cells slots ls r1 r2 r3 r4 r5
  refine lv_ishr O.1 O.2.1 hd ?_
  rw [show Int32.ofInt a >>> (Int32.ofInt 0 &&& 31) = Int32.ofInt a from by rw [show (Int32.ofInt 0 &&& 31) = 0 from by decide]; simp]
  exact kk
theorem x_ishl0 {a : Int} (hd : decode cc pc = .ok (.ishl, 1)) (kk : V G X cc nL y ret dp P mc ms (pc + 1) lv (iv a :: st) h kc ks) : V G X cc nL y ret dp P mc ms pc lv (iv 0 :: iv a :: st) h kc ks := by
  obtain ⟨p, l, e, s, m, args, below, meth, c⟩ := X
  intro O H locs cells slots ls r1 r2 r3 r4 r5
  have kk := kk O H locs cells slots ls r1 r2 r3 r4 r5
  refine lv_ishl O.1 O.2.1 hd ?_
  rw [show Int32.ofInt a <<< (Int32.ofInt 0 &&& 31) = Int32.ofInt a from by rw [show (Int32.ofInt 0 &&& 31) = 0 from by decide]; simp]
  exact kk
theorem and255 {z : Int} (hz : 0 ≤ z ∧ z ≤ 255) : Int32.ofInt z &&& Int32.ofInt 255 = Int32.ofInt z := by
  have k : ∀ n : Nat, n < 256 → Int32.ofInt (n : Int) &&& Int32.ofInt 255 = Int32.ofInt (n : Int) := by decide +kernel
  have e : z = ((z.toNat : Nat) : Int) := by omega
  rw [e]
  exact k _ (by omega)
theorem x_iand255 {a : Int} (ha : 0 ≤ a ∧ a ≤ 255) (hd : decode cc pc = .ok (.iand, 1)) (kk : V G X cc nL y ret dp P mc ms (pc + 1) lv (iv a :: st) h kc ks) : V G X cc nL y ret dp P mc ms pc lv (iv 255 :: iv a :: st) h kc ks := by
  obtain ⟨p, l, e, s, m, args, below, meth, c⟩ := X
  intro O H locs cells slots ls r1 r2 r3 r4 r5
  have kk := kk O H locs cells slots ls r1 r2 r3 r4 r5
  refine lv_iand O.1 O.2.1 hd ?_
  rw [and255 ha]
  exact kk
theorem i2c255 {z : Int} (hz : 0 ≤ z ∧ z ≤ 255) : ((Int32.ofInt z).toUInt32 % 65536).toInt32 = Int32.ofInt z := by
  have k : ∀ n : Nat, n < 256 → ((Int32.ofInt (n : Int)).toUInt32 % 65536).toInt32 = Int32.ofInt (n : Int) := by decide +kernel
  have e : z = ((z.toNat : Nat) : Int) := by omega
  rw [e]
  exact k _ (by omega)
theorem x_i2c {a : Int} (ha : 0 ≤ a ∧ a ≤ 255) (hd : decode cc pc = .ok (.i2c, 1)) (kk : V G X cc nL y ret dp P mc ms (pc + 1) lv (iv a :: st) h kc ks) : V G X cc nL y ret dp P mc ms pc lv (iv a :: st) h kc ks := by
  obtain ⟨p, l, e, s, m, args, below, meth, c⟩ := X
  intro O H locs cells slots ls r1 r2 r3 r4 r5
  have kk := kk O H locs cells slots ls r1 r2 r3 r4 r5
  exact lv_i2c O.1 O.2.1 hd (i2c255 ha) kk
theorem x_i2b {a : Int} (ha : -128 ≤ a ∧ a ≤ 127) (hd : decode cc pc = .ok (.i2b, 1)) (kk : V G X cc nL y ret dp P mc ms (pc + 1) lv (iv a :: st) h kc ks) : V G X cc nL y ret dp P mc ms pc lv (iv a :: st) h kc ks := by
  obtain ⟨p, l, e, s, m, args, below, meth, c⟩ := X
  intro O H locs cells slots ls r1 r2 r3 r4 r5
  have kk := kk O H locs cells slots ls r1 r2 r3 r4 r5
  refine lv_i2b O.1 O.2.1 hd ?_ kk
  apply Int32.toInt_inj.mp
  rw [Int8.toInt_toInt32, Int32.toInt_toInt8, ivT (by omega)]
  exact Int.bmod_eq_of_le (by omega) (by omega)
theorem x_lconst {n : Fin 2} (hd : decode cc pc = .ok (.lconst n, 1)) (kk : V G X cc nL y ret dp P mc ms (pc + 1) lv (jv ((n : Nat) : Int) :: st) h kc ks) : V G X cc nL y ret dp P mc ms pc lv st h kc ks := by
  obtain ⟨p, l, e, s, m, args, below, meth, c⟩ := X
  intro O H locs cells slots ls r1 r2 r3 r4 r5
  have kk := kk O H locs cells slots ls r1 r2 r3 r4 r5
  refine lv_lconst O.1 O.2.1 hd ?_ kk
  match n with
  | ⟨0, _⟩ => exact (by decide : Int64.ofNat 0 = Int64.ofInt 0)
  | ⟨1, _⟩ => exact (by decide : Int64.ofNat 1 = Int64.ofInt 1)
/-- a static that holds a reference or null: some option value -/
theorem x_getsQ {C n d : String} {i : Nat} (hZ : ∀ l : Launch, GOk l G → va_Zq C n d (fun q => G.1.heap.size ≤ q) G.1 G.1.heap) (hl : Cond.fieldLink y.cls i C n d ∈ lw_all) (hd : decode cc pc = .ok (.getstatic i, 3)) (kk : ∀ r : Option Nat, V G X cc nL y ret dp P mc ms (pc + 3) lv (va_rf r :: st) h kc ks) : V G X cc nL y ret dp P mc ms pc lv st h kc ks := by
  obtain ⟨p, l, e, s, m, args, below, meth, c⟩ := X
  intro O H locs cells slots ls r1 r2 r3 r4 r5
  rcases va_Zq.moved O.2.2.2.2.2.2.2.2.1.alike (hZ l O.2.2.2.2.2.2.2.2.2) with u | ⟨t, u⟩
  · obtain ⟨cf, kf, fi, f, a, cell, h1, h2, h3, h4, h5, h6, h7, h8⟩ := u
    exact W.gets O.1 O.2.1 O.2.2.2.1 (O.2.2.2.2.1 _ hl) h1 h2 h3 h4 (by rw [r1.2.1 a (Nat.not_le.mp h8)]; exact h5) (fun e => by rw [e] at h6; cases h6) h7 rfl hd (kk none O H locs cells slots ls r1 r2 r3 r4 r5)
  · obtain ⟨cf, kf, fi, f, a, cell, h1, h2, h3, h4, h5, h6, h7, h8⟩ := u
    exact W.gets O.1 O.2.1 O.2.2.2.1 (O.2.2.2.2.1 _ hl) h1 h2 h3 h4 (by rw [r1.2.1 a (Nat.not_le.mp h8)]; exact h5) (fun e => by rw [e] at h6; cases h6) h7 rfl hd (kk (some t) O H locs cells slots ls r1 r2 r3 r4 r5)
/-- the superclass's own method -/
theorem x_callSU {C : String} {y1 : MethodName} {cc1 : ByteArray} {nL1 : Nat} {ret1 : Option FieldType} {dp1 mc1 ms1 i a r ci : Nat} {fs : List Value} {T : u_T} {N : Nat} {As rest st0 : List Value} {P1 : Option Value → Hp → Prop} (n : Nat)
    (hM : ∀ l : Launch, Mt l G y1 cc1 nL1 ret1 dp1 (.ref a :: As) h P1 mc1 ms1) (h1 : Cond.methodLink y.cls i y1 ∈ lw_all) (h6 : Cond.sameMethod y1.cls y1.cls y1.name y1.desc ∈ lw_all) (h7 : Cond.superclass y.cls y1.cls ∈ lw_all) (h3 : Cond.instanceMethod y1 ∈ lw_all) (h4 : Cond.initialized y1.cls ∈ lw_all) (h5 : Cond.code y1 cc1 nL1 ret1 ∈ lw_all)
    (hyd : y1.name ≠ "<init>" ∧ (parseMethodDescriptor y1.desc).map (fun d => d.parameters.length) = some n) (hdp : dp1 + 1 ≤ dp) (hnl : nL1 ≤ 45)
    (ha : h a = some (r, ob ci fs)) (hc : clAll[ci]? = some (C, T, N)) (hn : As.length = n) (hst : st0 = As.reverse ++ .ref a :: rest) (hrs : (rest.map fun v => v.category).sum ≤ 8) (hd : decode cc pc = .ok (.invokespecial i, 3)) (hk1 : mc1 ≤ kc) (hk2 : ms1 ≤ ks)
    (kk : ∀ (v : Option Value) (h' : Hp), P1 v h' → V G X cc nL y ret dp P mc ms (pc + 3) lv (v.toList ++ rest) h' (kc - mc1) (ks - ms1)) : V G X cc nL y ret dp P mc ms pc lv st0 h kc ks := by
  obtain ⟨p, l, e, s, m, args, below, meth, c⟩ := X
  intro O H locs cells slots ls r1 r2 r3 r4 r5
  have hts := O.2.2.2.2.1
  have hW := O.2.2.2.2.2.2.2.2.1
  have hG := O.2.2.2.2.2.2.2.2.2
  have hgi : GoodIn lw_all (va_wsSU y.cls i y1 (ws_ y1 cc1 nL1 ret1)) := by
    refine lw_app ?_ (lw_meth h5)
    intro w hw
    simp only [List.mem_cons, List.not_mem_nil, or_false] at hw
    rcases hw with e | e | e | e | e
    · rw [e]; exact h1
    · rw [e]; exact h6
    · rw [e]; exact h7
    · rw [e]; exact h3
    · rw [e]; exact h4
  refine x_run (va_runSU (As := As) (rest := rest) (O.K.1 ci _ hc).2 ⟨O.1, O.2.1, O.2.2.1, O.2.2.2.1, hts⟩ (hM l) (va_cwSU n hts hgi rfl rfl rfl hyd ⟨hdp, by show 8 + (nL1 + 11) + 64 * dp1 ≤ 64 * dp; omega⟩) ⟨blind, r1.recv O.K ha hc, fun U hU hW2 => ⟨rfl, hG, State.WarmedH.trans hW hW2, by rw [hU]; exact r1⟩⟩ rfl hn r5.1 hst (lv_room hrs) hd ⟨by show cells + mc1 ≤ mc; omega, by show slots + ms1 ≤ ms; omega⟩) r2 (fun v h' hp H1 locs1 R1 L1 => ?_)
  exact kk v h' hp O H1 locs1 _ _ ls R1 L1 (by omega) (by omega) r5
end CORE8
theorem gZq {G : Gw} {C n d : String} (hl : Cond.laysStatic C n d ∈ lw_tbl) (hi : Cond.initialized C ∈ lw_all) (hv : ∀ (A : Array Value) (s : State), (Jvm.Cond.and given_1 narrow_1).before A s = true → (Cond.isRef (.static C n d)).before A s = true) : ∀ l : Launch, GOk l G → va_Zq C n d (fun q => G.1.heap.size ≤ q) G.1 G.1.heap := fun _ g =>
  va_Zqof (g.2.1 _ hl) (g.2.1 _ (lw_all_tbl hi)) (hv _ _ g.2.2.1) (fun _ u v => absurd u (Nat.not_lt.mpr v))
theorem z_compact {G : Gw} : ∀ l : Launch, GOk l G → va_Z "java/lang/String" "COMPACT_STRINGS" "Z" (.int 1) (fun q => G.1.heap.size ≤ q) G.1 G.1.heap := gZi q352 q150 (fun _ _ h => n_14 h)
theorem z_siobe {G : Gw} : ∀ l : Launch, GOk l G → va_Zq "jdk/internal/util/Preconditions" "SIOOBE_FORMATTER" "Ljava/util/function/BiFunction;" (fun q => G.1.heap.size ≤ q) G.1 G.1.heap := gZq q779 q160 (fun _ _ h => n_17 h)
