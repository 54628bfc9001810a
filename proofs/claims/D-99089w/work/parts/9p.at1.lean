set_option maxRecDepth 100000
/-! TREES: a call of at, of holds, whatever the class -/
def AT (g : GC) (M : MM) (D a m : Nat) (v : Value) : Prop := (mK M a = 29 ∧ Ct g yX9_at cX9_at 5 (some Jvm.ClassFile.FieldType.long) D 0 0 [.ref a, .ref m] M (PQ M v) noX) ∨ (mK M a = 30 ∧ Ct g yX10_at cX10_at 6 (some Jvm.ClassFile.FieldType.long) D 0 0 [.ref a, .ref m] M (PQ M v) noX) ∨ (mK M a = 31 ∧ Ct g yX11_at cX11_at 2 (some Jvm.ClassFile.FieldType.long) D 0 0 [.ref a, .ref m] M (PQ M v) noX) ∨ (mK M a = 32 ∧ Ct g yX12_at cX12_at 2 (some Jvm.ClassFile.FieldType.long) D 0 0 [.ref a, .ref m] M (PQ M v) noX) ∨ (mK M a = 33 ∧ Ct g yX13_at cX13_at 2 (some Jvm.ClassFile.FieldType.long) D 0 0 [.ref a, .ref m] M (PQ M v) noX)
def HO (g : GC) (M : MM) (D a m : Nat) (v : Value) : Prop := (mK M a = 35 ∧ Ct g yX15_holds cX15_holds 3 (some Jvm.ClassFile.FieldType.boolean) D 0 0 [.ref a, .ref m] M (PQ M v) noX) ∨ (mK M a = 36 ∧ Ct g yX16_holds cX16_holds 2 (some Jvm.ClassFile.FieldType.boolean) D 0 0 [.ref a, .ref m] M (PQ M v) noX) ∨ (mK M a = 37 ∧ Ct g yX17_holds cX17_holds 2 (some Jvm.ClassFile.FieldType.boolean) D 0 0 [.ref a, .ref m] M (PQ M v) noX) ∨ (mK M a = 38 ∧ Ct g yX18_holds cX18_holds 6 (some Jvm.ClassFile.FieldType.boolean) D 0 0 [.ref a, .ref m] M (PQ M v) noX)
section At
variable {g : GC} {cc : ByteArray} {nL : Nat} {rt : Option FieldType} {hh : List (Nat × Nat × Nat × Nat)} {d kc ks : Nat} {M : MM} {pc : Nat} {lv : List (Option Value)} {rest : List Value} {Q : Option Value → MM → Prop} {X : Nat → MM → Prop} {y : MethodName}
theorem r_at_X10_20 {D a m : Nat} {v : Value} (hg : GX g) (hy : y.cls = RX10) (hd : decode cc pc = .ok (.invokevirtual 20, 3)) (h : AT g M D a m v) (hr : (rest.map fun v => v.category).sum ≤ 8) (hR : D + 1 ≤ d) (k : Bd g y cc nL rt hh d kc ks M (pc + 3) lv (v :: rest) Q X) : Bd g y cc nL rt hh d kc ks M pc lv (.ref m :: .ref a :: rest) Q X := by
  rcases h with ⟨h1, h2⟩ | ⟨h1, h2⟩ | ⟨h1, h2⟩ | ⟨h1, h2⟩ | ⟨h1, h2⟩
  · exact r_cA (ci := 9) hd (by rw [hy]; exact ca_X10_20_X9 hg) h1 h2 rfl rfl hr hR (fun v M' q => by obtain ⟨rfl, rfl⟩ := q; exact k)
  · exact r_cA (ci := 10) hd (by rw [hy]; exact ca_X10_20_X10 hg) h1 h2 rfl rfl hr hR (fun v M' q => by obtain ⟨rfl, rfl⟩ := q; exact k)
  · exact r_cA (ci := 11) hd (by rw [hy]; exact ca_X10_20_X11 hg) h1 h2 rfl rfl hr hR (fun v M' q => by obtain ⟨rfl, rfl⟩ := q; exact k)
  · exact r_cA (ci := 12) hd (by rw [hy]; exact ca_X10_20_X12 hg) h1 h2 rfl rfl hr hR (fun v M' q => by obtain ⟨rfl, rfl⟩ := q; exact k)
  · exact r_cA (ci := 13) hd (by rw [hy]; exact ca_X10_20_X13 hg) h1 h2 rfl rfl hr hR (fun v M' q => by obtain ⟨rfl, rfl⟩ := q; exact k)
theorem r_at_X13_21 {D a m : Nat} {v : Value} (hg : GX g) (hy : y.cls = RX13) (hd : decode cc pc = .ok (.invokevirtual 21, 3)) (h : AT g M D a m v) (hr : (rest.map fun v => v.category).sum ≤ 8) (hR : D + 1 ≤ d) (k : Bd g y cc nL rt hh d kc ks M (pc + 3) lv (v :: rest) Q X) : Bd g y cc nL rt hh d kc ks M pc lv (.ref m :: .ref a :: rest) Q X := by
  rcases h with ⟨h1, h2⟩ | ⟨h1, h2⟩ | ⟨h1, h2⟩ | ⟨h1, h2⟩ | ⟨h1, h2⟩
  · exact r_cA (ci := 9) hd (by rw [hy]; exact ca_X13_21_X9 hg) h1 h2 rfl rfl hr hR (fun v M' q => by obtain ⟨rfl, rfl⟩ := q; exact k)
  · exact r_cA (ci := 10) hd (by rw [hy]; exact ca_X13_21_X10 hg) h1 h2 rfl rfl hr hR (fun v M' q => by obtain ⟨rfl, rfl⟩ := q; exact k)
  · exact r_cA (ci := 11) hd (by rw [hy]; exact ca_X13_21_X11 hg) h1 h2 rfl rfl hr hR (fun v M' q => by obtain ⟨rfl, rfl⟩ := q; exact k)
  · exact r_cA (ci := 12) hd (by rw [hy]; exact ca_X13_21_X12 hg) h1 h2 rfl rfl hr hR (fun v M' q => by obtain ⟨rfl, rfl⟩ := q; exact k)
  · exact r_cA (ci := 13) hd (by rw [hy]; exact ca_X13_21_X13 hg) h1 h2 rfl rfl hr hR (fun v M' q => by obtain ⟨rfl, rfl⟩ := q; exact k)
theorem r_ho_X15_32 {D a m : Nat} {v : Value} (hg : GX g) (hy : y.cls = RX15) (hd : decode cc pc = .ok (.invokevirtual 32, 3)) (h : HO g M D a m v) (hr : (rest.map fun v => v.category).sum ≤ 8) (hR : D + 1 ≤ d) (k : Bd g y cc nL rt hh d kc ks M (pc + 3) lv (v :: rest) Q X) : Bd g y cc nL rt hh d kc ks M pc lv (.ref m :: .ref a :: rest) Q X := by
  rcases h with ⟨h1, h2⟩ | ⟨h1, h2⟩ | ⟨h1, h2⟩ | ⟨h1, h2⟩
  · exact r_cA (ci := 15) hd (by rw [hy]; exact ca_X15_32_X15 hg) h1 h2 rfl rfl hr hR (fun v M' q => by obtain ⟨rfl, rfl⟩ := q; exact k)
  · exact r_cA (ci := 16) hd (by rw [hy]; exact ca_X15_32_X16 hg) h1 h2 rfl rfl hr hR (fun v M' q => by obtain ⟨rfl, rfl⟩ := q; exact k)
  · exact r_cA (ci := 17) hd (by rw [hy]; exact ca_X15_32_X17 hg) h1 h2 rfl rfl hr hR (fun v M' q => by obtain ⟨rfl, rfl⟩ := q; exact k)
  · exact r_cA (ci := 18) hd (by rw [hy]; exact ca_X15_32_X18 hg) h1 h2 rfl rfl hr hR (fun v M' q => by obtain ⟨rfl, rfl⟩ := q; exact k)
theorem r_ho_X16_13 {D a m : Nat} {v : Value} (hg : GX g) (hy : y.cls = RX16) (hd : decode cc pc = .ok (.invokevirtual 13, 3)) (h : HO g M D a m v) (hr : (rest.map fun v => v.category).sum ≤ 8) (hR : D + 1 ≤ d) (k : Bd g y cc nL rt hh d kc ks M (pc + 3) lv (v :: rest) Q X) : Bd g y cc nL rt hh d kc ks M pc lv (.ref m :: .ref a :: rest) Q X := by
  rcases h with ⟨h1, h2⟩ | ⟨h1, h2⟩ | ⟨h1, h2⟩ | ⟨h1, h2⟩
  · exact r_cA (ci := 15) hd (by rw [hy]; exact ca_X16_13_X15 hg) h1 h2 rfl rfl hr hR (fun v M' q => by obtain ⟨rfl, rfl⟩ := q; exact k)
  · exact r_cA (ci := 16) hd (by rw [hy]; exact ca_X16_13_X16 hg) h1 h2 rfl rfl hr hR (fun v M' q => by obtain ⟨rfl, rfl⟩ := q; exact k)
  · exact r_cA (ci := 17) hd (by rw [hy]; exact ca_X16_13_X17 hg) h1 h2 rfl rfl hr hR (fun v M' q => by obtain ⟨rfl, rfl⟩ := q; exact k)
  · exact r_cA (ci := 18) hd (by rw [hy]; exact ca_X16_13_X18 hg) h1 h2 rfl rfl hr hR (fun v M' q => by obtain ⟨rfl, rfl⟩ := q; exact k)
theorem r_at_X18_20 {D a m : Nat} {v : Value} (hg : GX g) (hy : y.cls = RX18) (hd : decode cc pc = .ok (.invokevirtual 20, 3)) (h : AT g M D a m v) (hr : (rest.map fun v => v.category).sum ≤ 8) (hR : D + 1 ≤ d) (k : Bd g y cc nL rt hh d kc ks M (pc + 3) lv (v :: rest) Q X) : Bd g y cc nL rt hh d kc ks M pc lv (.ref m :: .ref a :: rest) Q X := by
  rcases h with ⟨h1, h2⟩ | ⟨h1, h2⟩ | ⟨h1, h2⟩ | ⟨h1, h2⟩ | ⟨h1, h2⟩
  · exact r_cA (ci := 9) hd (by rw [hy]; exact ca_X18_20_X9 hg) h1 h2 rfl rfl hr hR (fun v M' q => by obtain ⟨rfl, rfl⟩ := q; exact k)
  · exact r_cA (ci := 10) hd (by rw [hy]; exact ca_X18_20_X10 hg) h1 h2 rfl rfl hr hR (fun v M' q => by obtain ⟨rfl, rfl⟩ := q; exact k)
  · exact r_cA (ci := 11) hd (by rw [hy]; exact ca_X18_20_X11 hg) h1 h2 rfl rfl hr hR (fun v M' q => by obtain ⟨rfl, rfl⟩ := q; exact k)
  · exact r_cA (ci := 12) hd (by rw [hy]; exact ca_X18_20_X12 hg) h1 h2 rfl rfl hr hR (fun v M' q => by obtain ⟨rfl, rfl⟩ := q; exact k)
  · exact r_cA (ci := 13) hd (by rw [hy]; exact ca_X18_20_X13 hg) h1 h2 rfl rfl hr hR (fun v M' q => by obtain ⟨rfl, rfl⟩ := q; exact k)
theorem r_ho_X19_29 {D a m : Nat} {v : Value} (hg : GX g) (hy : y.cls = RX19) (hd : decode cc pc = .ok (.invokevirtual 29, 3)) (h : HO g M D a m v) (hr : (rest.map fun v => v.category).sum ≤ 8) (hR : D + 1 ≤ d) (k : Bd g y cc nL rt hh d kc ks M (pc + 3) lv (v :: rest) Q X) : Bd g y cc nL rt hh d kc ks M pc lv (.ref m :: .ref a :: rest) Q X := by
  rcases h with ⟨h1, h2⟩ | ⟨h1, h2⟩ | ⟨h1, h2⟩ | ⟨h1, h2⟩
  · exact r_cA (ci := 15) hd (by rw [hy]; exact ca_X19_29_X15 hg) h1 h2 rfl rfl hr hR (fun v M' q => by obtain ⟨rfl, rfl⟩ := q; exact k)
  · exact r_cA (ci := 16) hd (by rw [hy]; exact ca_X19_29_X16 hg) h1 h2 rfl rfl hr hR (fun v M' q => by obtain ⟨rfl, rfl⟩ := q; exact k)
  · exact r_cA (ci := 17) hd (by rw [hy]; exact ca_X19_29_X17 hg) h1 h2 rfl rfl hr hR (fun v M' q => by obtain ⟨rfl, rfl⟩ := q; exact k)
  · exact r_cA (ci := 18) hd (by rw [hy]; exact ca_X19_29_X18 hg) h1 h2 rfl rfl hr hR (fun v M' q => by obtain ⟨rfl, rfl⟩ := q; exact k)
theorem r_at_X19_45 {D a m : Nat} {v : Value} (hg : GX g) (hy : y.cls = RX19) (hd : decode cc pc = .ok (.invokevirtual 45, 3)) (h : AT g M D a m v) (hr : (rest.map fun v => v.category).sum ≤ 8) (hR : D + 1 ≤ d) (k : Bd g y cc nL rt hh d kc ks M (pc + 3) lv (v :: rest) Q X) : Bd g y cc nL rt hh d kc ks M pc lv (.ref m :: .ref a :: rest) Q X := by
  rcases h with ⟨h1, h2⟩ | ⟨h1, h2⟩ | ⟨h1, h2⟩ | ⟨h1, h2⟩ | ⟨h1, h2⟩
  · exact r_cA (ci := 9) hd (by rw [hy]; exact ca_X19_45_X9 hg) h1 h2 rfl rfl hr hR (fun v M' q => by obtain ⟨rfl, rfl⟩ := q; exact k)
  · exact r_cA (ci := 10) hd (by rw [hy]; exact ca_X19_45_X10 hg) h1 h2 rfl rfl hr hR (fun v M' q => by obtain ⟨rfl, rfl⟩ := q; exact k)
  · exact r_cA (ci := 11) hd (by rw [hy]; exact ca_X19_45_X11 hg) h1 h2 rfl rfl hr hR (fun v M' q => by obtain ⟨rfl, rfl⟩ := q; exact k)
  · exact r_cA (ci := 12) hd (by rw [hy]; exact ca_X19_45_X12 hg) h1 h2 rfl rfl hr hR (fun v M' q => by obtain ⟨rfl, rfl⟩ := q; exact k)
  · exact r_cA (ci := 13) hd (by rw [hy]; exact ca_X19_45_X13 hg) h1 h2 rfl rfl hr hR (fun v M' q => by obtain ⟨rfl, rfl⟩ := q; exact k)
theorem r_ho_X5_145 {D a m : Nat} {v : Value} (hg : GX g) (hy : y.cls = RX5) (hd : decode cc pc = .ok (.invokevirtual 145, 3)) (h : HO g M D a m v) (hr : (rest.map fun v => v.category).sum ≤ 8) (hR : D + 1 ≤ d) (k : Bd g y cc nL rt hh d kc ks M (pc + 3) lv (v :: rest) Q X) : Bd g y cc nL rt hh d kc ks M pc lv (.ref m :: .ref a :: rest) Q X := by
  rcases h with ⟨h1, h2⟩ | ⟨h1, h2⟩ | ⟨h1, h2⟩ | ⟨h1, h2⟩
  · exact r_cA (ci := 15) hd (by rw [hy]; exact ca_X5_145_X15 hg) h1 h2 rfl rfl hr hR (fun v M' q => by obtain ⟨rfl, rfl⟩ := q; exact k)
  · exact r_cA (ci := 16) hd (by rw [hy]; exact ca_X5_145_X16 hg) h1 h2 rfl rfl hr hR (fun v M' q => by obtain ⟨rfl, rfl⟩ := q; exact k)
  · exact r_cA (ci := 17) hd (by rw [hy]; exact ca_X5_145_X17 hg) h1 h2 rfl rfl hr hR (fun v M' q => by obtain ⟨rfl, rfl⟩ := q; exact k)
  · exact r_cA (ci := 18) hd (by rw [hy]; exact ca_X5_145_X18 hg) h1 h2 rfl rfl hr hR (fun v M' q => by obtain ⟨rfl, rfl⟩ := q; exact k)
theorem r_at_X5_98 {D a m : Nat} {v : Value} (hg : GX g) (hy : y.cls = RX5) (hd : decode cc pc = .ok (.invokevirtual 98, 3)) (h : AT g M D a m v) (hr : (rest.map fun v => v.category).sum ≤ 8) (hR : D + 1 ≤ d) (k : Bd g y cc nL rt hh d kc ks M (pc + 3) lv (v :: rest) Q X) : Bd g y cc nL rt hh d kc ks M pc lv (.ref m :: .ref a :: rest) Q X := by
  rcases h with ⟨h1, h2⟩ | ⟨h1, h2⟩ | ⟨h1, h2⟩ | ⟨h1, h2⟩ | ⟨h1, h2⟩
  · exact r_cA (ci := 9) hd (by rw [hy]; exact ca_X5_98_X9 hg) h1 h2 rfl rfl hr hR (fun v M' q => by obtain ⟨rfl, rfl⟩ := q; exact k)
  · exact r_cA (ci := 10) hd (by rw [hy]; exact ca_X5_98_X10 hg) h1 h2 rfl rfl hr hR (fun v M' q => by obtain ⟨rfl, rfl⟩ := q; exact k)
  · exact r_cA (ci := 11) hd (by rw [hy]; exact ca_X5_98_X11 hg) h1 h2 rfl rfl hr hR (fun v M' q => by obtain ⟨rfl, rfl⟩ := q; exact k)
  · exact r_cA (ci := 12) hd (by rw [hy]; exact ca_X5_98_X12 hg) h1 h2 rfl rfl hr hR (fun v M' q => by obtain ⟨rfl, rfl⟩ := q; exact k)
  · exact r_cA (ci := 13) hd (by rw [hy]; exact ca_X5_98_X13 hg) h1 h2 rfl rfl hr hR (fun v M' q => by obtain ⟨rfl, rfl⟩ := q; exact k)
theorem r_at_X9_39 {D a m : Nat} {v : Value} (hg : GX g) (hy : y.cls = RX9) (hd : decode cc pc = .ok (.invokevirtual 39, 3)) (h : AT g M D a m v) (hr : (rest.map fun v => v.category).sum ≤ 8) (hR : D + 1 ≤ d) (k : Bd g y cc nL rt hh d kc ks M (pc + 3) lv (v :: rest) Q X) : Bd g y cc nL rt hh d kc ks M pc lv (.ref m :: .ref a :: rest) Q X := by
  rcases h with ⟨h1, h2⟩ | ⟨h1, h2⟩ | ⟨h1, h2⟩ | ⟨h1, h2⟩ | ⟨h1, h2⟩
  · exact r_cA (ci := 9) hd (by rw [hy]; exact ca_X9_39_X9 hg) h1 h2 rfl rfl hr hR (fun v M' q => by obtain ⟨rfl, rfl⟩ := q; exact k)
  · exact r_cA (ci := 10) hd (by rw [hy]; exact ca_X9_39_X10 hg) h1 h2 rfl rfl hr hR (fun v M' q => by obtain ⟨rfl, rfl⟩ := q; exact k)
  · exact r_cA (ci := 11) hd (by rw [hy]; exact ca_X9_39_X11 hg) h1 h2 rfl rfl hr hR (fun v M' q => by obtain ⟨rfl, rfl⟩ := q; exact k)
  · exact r_cA (ci := 12) hd (by rw [hy]; exact ca_X9_39_X12 hg) h1 h2 rfl rfl hr hR (fun v M' q => by obtain ⟨rfl, rfl⟩ := q; exact k)
  · exact r_cA (ci := 13) hd (by rw [hy]; exact ca_X9_39_X13 hg) h1 h2 rfl rfl hr hR (fun v M' q => by obtain ⟨rfl, rfl⟩ := q; exact k)
end At
