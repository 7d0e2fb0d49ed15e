/-! heaps known by facts -/
set_option maxRecDepth 100000
theorem hup_f {h : Hp} {a b : Nat} {x c : Nat × va_E} (p : h b = some x) (fr : h a = none) : hup h a c b = some x := by
  rw [hup_n (fun e => by rw [e, fr] at p; cases p)]; exact p
theorem hup_d {h : Hp} {a b : Nat} {x c : Nat × va_E} (p : h b = some x) (n : b ≠ a) : hup h a c b = some x := by
  rw [hup_n n]; exact p
/-- the kind of a cell -/
def kdE : va_E → Nat
  | .inr (ci, _) => 100 + ci
  | .inl (_, _, .inl _) => 1
  | .inl (_, _, .inr (.inl _)) => 2
  | .inl (_, _, .inr (.inr (.inl _))) => 3
  | .inl (_, _, .inr (.inr (.inr (.inl _)))) => 4
  | .inl (_, _, .inr (.inr (.inr (.inr _)))) => 5
theorem ne_k {h : Hp} {a b r r' : Nat} {x y : va_E} (p : h b = some (r, x)) (q : h a = some (r', y)) (n : (kdE x == kdE y) = false) : b ≠ a := fun e => by
  rw [e, q] at p
  cases p
  rw [beq_self_eq_true] at n
  cases n
/-- a fresh heap is forgotten -/
theorem le_f {h : Hp} {a : Nat} {c : Nat × va_E} (fr : h a = none) : Le h (hup h a c) := fun q x hx => hup_f hx fr
section JB
variable {G : Gw} {X : Cx} {cc : ByteArray} {nL : Nat} {y : MethodName} {ret : Option FieldType} {dp : Nat} {P : Option Value → Hp → Prop} {mc ms pc : Nat} {lv : List (Nat × Value)} {st : List Value} {h : Hp} {kc ks : Nat}
theorem x_jo {r : Option Nat} {a : Nat} (e : r = some a) (kk : V G X cc nL y ret dp P mc ms pc lv (.ref a :: st) h kc ks) : V G X cc nL y ret dp P mc ms pc lv (va_rf r :: st) h kc ks := by subst e; exact kk
end JB
