set_option maxRecDepth 100000
/-! THE OTHER SIDE: checkcast and instanceof -/
section Rows15
variable {g : GC} {y : MethodName} {cc : ByteArray} {nL : Nat} {rt : Option FieldType} {hh : List (Nat × Nat × Nat × Nat)} {d kc ks : Nat} {M : MM} {pc : Nat} {lv : List (Option Value)} {st : List Value} {Q : Option Value → MM → Prop} {X : Nat → MM → Prop}
/-- an object of class ci where a wider class is asked for -/
theorem r_castY {ci a idx : Nat} {nm : String} (hd : decode cc pc = .ok (.checkcast idx, 3)) (hl : Cond.classLink y.cls idx nm ∈ lw_all) (hc : NW g (.castable (clT ci).1 nm)) (hK : mK M a = 20 + ci) (k : Bd g y cc nL rt hh d kc ks M (pc + 3) lv (.ref a :: st) Q X) : Bd g y cc nL rt hh d kc ks M pc lv (.ref a :: st) Q X := by
  intro p e s m args below meth c H locs cells slots mc ms ls hC hH hL h1 h2
  exact va_castY hC.1 hC.2.1 hC.2.2.2.2.2.2.1 (hC.2.2.2.2.2.2.2.1 _ hl) (hc s H hH.2.2.2.2.2) (Hd.recv hC.2.2.2.2.2.2.2.2.1 hH.1 hK) hd (k p e s m args below meth c H locs cells slots mc ms ls hC hH hL h1 h2)
/-- an object of just this class -/
theorem r_castE {ci a idx : Nat} (hd : decode cc pc = .ok (.checkcast idx, 3)) (hl : Cond.classLink y.cls idx (clT ci).1 ∈ lw_all) (hK : mK M a = 20 + ci) (k : Bd g y cc nL rt hh d kc ks M (pc + 3) lv (.ref a :: st) Q X) : Bd g y cc nL rt hh d kc ks M pc lv (.ref a :: st) Q X := by
  intro p e s m args below meth c H locs cells slots mc ms ls hC hH hL h1 h2
  exact va_castE hC.1 hC.2.1 hC.2.2.2.2.2.2.1 (hC.2.2.2.2.2.2.2.1 _ hl) (Hd.recv hC.2.2.2.2.2.2.2.2.1 hH.1 hK) hd (k p e s m args below meth c H locs cells slots mc ms ls hC hH hL h1 h2)
theorem r_instE {ci a idx : Nat} (hd : decode cc pc = .ok (.instanceof idx, 3)) (hl : Cond.classLink y.cls idx (clT ci).1 ∈ lw_all) (hK : mK M a = 20 + ci) (k : Bd g y cc nL rt hh d kc ks M (pc + 3) lv (.int 1 :: st) Q X) : Bd g y cc nL rt hh d kc ks M pc lv (.ref a :: st) Q X := by
  intro p e s m args below meth c H locs cells slots mc ms ls hC hH hL h1 h2
  exact va_instE hC.1 hC.2.1 hC.2.2.2.2.2.2.1 (hC.2.2.2.2.2.2.2.1 _ hl) (Hd.recv hC.2.2.2.2.2.2.2.2.1 hH.1 hK) hd (k p e s m args below meth c H locs cells slots mc ms ls hC hH hL h1 h2)
end Rows15
