set_option maxRecDepth 100000
/-! TREES: casts of what a list holds -/
section Cast
variable {g : GC} {cc : ByteArray} {nL : Nat} {rt : Option FieldType} {hh : List (Nat × Nat × Nat × Nat)} {d kc ks : Nat} {M : MM} {pc : Nat} {lv : List (Option Value)} {rest : List Value} {Q : Option Value → MM → Prop} {X : Nat → MM → Prop} {y : MethodName}
theorem r_cast_X9 {D a m : Nat} {v : Value} (hg : GX g) (hy : y.cls = RX9) (hd : decode cc pc = .ok (.checkcast 2, 3)) (h : AT g M D a m v) (k : Bd g y cc nL rt hh d kc ks M (pc + 3) lv (.ref a :: rest) Q X) : Bd g y cc nL rt hh d kc ks M pc lv (.ref a :: rest) Q X := by
  rcases h with ⟨h1, -⟩ | ⟨h1, -⟩ | ⟨h1, -⟩ | ⟨h1, -⟩ | ⟨h1, -⟩
  · exact r_castY (ci := 9) (nm := "Retouched$Value") hd (by rw [hy]; exact q1254) (hg _ q2500 rfl) h1 k
  · exact r_castY (ci := 10) (nm := "Retouched$Value") hd (by rw [hy]; exact q1254) (hg _ q2503 rfl) h1 k
  · exact r_castY (ci := 11) (nm := "Retouched$Value") hd (by rw [hy]; exact q1254) (hg _ q2501 rfl) h1 k
  · exact r_castY (ci := 12) (nm := "Retouched$Value") hd (by rw [hy]; exact q1254) (hg _ q2499 rfl) h1 k
  · exact r_castY (ci := 13) (nm := "Retouched$Value") hd (by rw [hy]; exact q1254) (hg _ q2502 rfl) h1 k
theorem r_cast_X15 {D a m : Nat} {v : Value} (hg : GX g) (hy : y.cls = RX15) (hd : decode cc pc = .ok (.checkcast 2, 3)) (h : HO g M D a m v) (k : Bd g y cc nL rt hh d kc ks M (pc + 3) lv (.ref a :: rest) Q X) : Bd g y cc nL rt hh d kc ks M pc lv (.ref a :: rest) Q X := by
  rcases h with ⟨h1, -⟩ | ⟨h1, -⟩ | ⟨h1, -⟩ | ⟨h1, -⟩
  · exact r_castY (ci := 15) (nm := "Retouched$Test") hd (by rw [hy]; exact q1225) (hg _ q2496 rfl) h1 k
  · exact r_castY (ci := 16) (nm := "Retouched$Test") hd (by rw [hy]; exact q1225) (hg _ q2497 rfl) h1 k
  · exact r_castY (ci := 17) (nm := "Retouched$Test") hd (by rw [hy]; exact q1225) (hg _ q2495 rfl) h1 k
  · exact r_castY (ci := 18) (nm := "Retouched$Test") hd (by rw [hy]; exact q1225) (hg _ q2498 rfl) h1 k
end Cast
