/-! CORE 9: ldc_w of a whole number -/
set_option maxRecDepth 100000
section CORE10
variable {G : Gw} {X : Cx} {cc : ByteArray} {nL : Nat} {y : MethodName} {ret : Option FieldType} {dp : Nat} {P : Option Value → Hp → Prop} {mc ms pc : Nat} {lv : List (Nat × Value)} {st : List Value} {h : Hp} {kc ks : Nat}
theorem x_ldcw {i : Nat} {v : Int32} (n : Int) (hw : Cond.constant y.cls i v ∈ lw_all) (hd : decode cc pc = .ok (.ldc_w i, 3)) (hn : v = Int32.ofInt n) (kk : V G X cc nL y ret dp P mc ms (pc + 3) lv (iv n :: st) h kc ks) : V G X cc nL y ret dp P mc ms pc lv st h kc ks := by
  obtain ⟨p, l, e, s, m, args, below, meth, c⟩ := X
  intro O H locs cells slots ls r1 r2 r3 r4 r5
  subst hn
  have kk := kk O H locs cells slots ls r1 r2 r3 r4 r5
  intro T hT X
  obtain ⟨t, a1, b1⟩ := kk T hT X
  refine ⟨t, ?_, b1⟩
  obtain ⟨k, cf, bytes, hk, hcf, hcp, hb⟩ := Cond.constant_spec O.2.2.2.1 (O.2.2.2.2.1 _ hw)
  obtain ⟨k', hk', he⟩ := X.warmed.alike.2.2 _ _ hk
  have hexec := O.1
  have hb2 := O.2.1
  have hd' := hd
  rw [← hb2] at hd'
  jvm_step X.here [hexec, hd', ldc_w.wp_int (s := T) (f := F0 m pc ls st) X.here.top hk' (by rw [he]; exact hcf) hcp, hb]
  exact a1
end CORE10
