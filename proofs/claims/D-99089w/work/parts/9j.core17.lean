set_option maxRecDepth 100000
/-! getstatic -/
/-- a static field that stays: its value -/
def NS (g : GC) (C n dsc : String) (v : Value) : Prop := ∀ s H, gE g s H → va_Z C n dsc v (fun q => gb g ≤ q) s H
/-- a static field that stays: some reference or null -/
def NSq (g : GC) (C n dsc : String) : Prop := ∀ s H, gE g s H → va_Zq C n dsc (fun q => gb g ≤ q) s H
section Rows17
variable {g : GC} {y : MethodName} {cc : ByteArray} {nL : Nat} {rt : Option FieldType} {hh : List (Nat × Nat × Nat × Nat)} {d kc ks : Nat} {M : MM} {pc : Nat} {lv : List (Option Value)} {st : List Value} {Q : Option Value → MM → Prop} {X : Nat → MM → Prop}
theorem r_gets {C n dsc : String} {idx : Nat} {v : Value} (hd : decode cc pc = .ok (.getstatic idx, 3)) (hl : Cond.fieldLink y.cls idx C n dsc ∈ lw_all) (hz : NS g C n dsc v) (k : Bd g y cc nL rt hh d kc ks M (pc + 3) lv (v :: st) Q X) : Bd g y cc nL rt hh d kc ks M pc lv st Q X := by
  intro p e s m args below meth c H locs cells slots mc ms ls hC hH hL h1 h2
  obtain ⟨cf, kf, fi, f, a, cell, z1, z2, z3, z4, z5, z6, z7, z8⟩ := hz s H hH.2.2.2.2.2
  exact W.gets hC.1 hC.2.1 hC.2.2.2.2.2.2.1 (hC.2.2.2.2.2.2.2.1 _ hl) z1 z2 z3 z4 z5 (fun e => by rw [e] at z6; cases z6) z7 rfl hd (k p e s m args below meth c H locs cells slots mc ms ls hC hH hL h1 h2)
theorem r_getsq {C n dsc : String} {idx : Nat} (hd : decode cc pc = .ok (.getstatic idx, 3)) (hl : Cond.fieldLink y.cls idx C n dsc ∈ lw_all) (hz : NSq g C n dsc) (k : ∀ r, Bd g y cc nL rt hh d kc ks M (pc + 3) lv (va_rf r :: st) Q X) : Bd g y cc nL rt hh d kc ks M pc lv st Q X := by
  intro p e s m args below meth c H locs cells slots mc ms ls hC hH hL h1 h2
  rcases hz s H hH.2.2.2.2.2 with h | ⟨t, h⟩
  · obtain ⟨cf, kf, fi, f, a, cell, z1, z2, z3, z4, z5, z6, z7, z8⟩ := h
    exact W.gets hC.1 hC.2.1 hC.2.2.2.2.2.2.1 (hC.2.2.2.2.2.2.2.1 _ hl) z1 z2 z3 z4 z5 (fun e => by rw [e] at z6; cases z6) z7 rfl hd (k none p e s m args below meth c H locs cells slots mc ms ls hC hH hL h1 h2)
  · obtain ⟨cf, kf, fi, f, a, cell, z1, z2, z3, z4, z5, z6, z7, z8⟩ := h
    exact W.gets hC.1 hC.2.1 hC.2.2.2.2.2.2.1 (hC.2.2.2.2.2.2.2.1 _ hl) z1 z2 z3 z4 z5 (fun e => by rw [e] at z6; cases z6) z7 rfl hd (k (some t) p e s m args below meth c H locs cells slots mc ms ls hC hH hL h1 h2)
end Rows17
