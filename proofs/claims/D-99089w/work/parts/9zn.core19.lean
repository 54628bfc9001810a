set_option maxRecDepth 100000
/-! ROWS: inherited methods, arrays of references, copies of arrays, statics of nest mates, texts, class objects -/
/-- a cell's ints, its references all at once -/
def sIs (M : MM) (a : Nat) (f : Nat → Int32) : MM := (mZ M, mK M, mN M, (fun b i => if b = a then f i else mI M b i), mL M, mR M)
def sRs (M : MM) (a : Nat) (f : Nat → Option Nat) : MM := (mZ M, mK M, mN M, mI M, mL M, (fun b i => if b = a then f i else mR M b i))
theorem mI_sIf {M : MM} {a b : Nat} {f : Nat → Int32} : mI (sIs M a f) b = if b = a then f else mI M b := by
  funext i
  show (if b = a then f i else mI M b i) = _
  split <;> rfl
theorem mR_sRf {M : MM} {a b : Nat} {f : Nat → Option Nat} : mR (sRs M a f) b = if b = a then f else mR M b := by
  funext i
  show (if b = a then f i else mR M b i) = _
  split <;> rfl
theorem Sm.sIs {M : MM} {a c : Nat} {f : Nat → Int32} (h : c ≠ a) : Sm M (sIs M a f) c := ⟨rfl, rfl, by rw [mI_sIf, if_neg h], rfl, rfl⟩
theorem Sm.sRs {M : MM} {a c : Nat} {f : Nat → Option Nat} (h : c ≠ a) : Sm M (sRs M a f) c := ⟨rfl, rfl, rfl, rfl, by rw [mR_sRf, if_neg h]⟩
def CU (own : String) (idx ci : Nat) (y' : MethodName) (cc' : ByteArray) (nL' : Nat) (rt' : Option FieldType) (n : Nat) : Prop := Cond.methodLink own idx y' ∈ lw_all ∧ Cond.sameMethod y'.cls y'.cls y'.name y'.desc ∈ lw_all ∧ Cond.selects (clT ci).1 y' y' ∈ lw_all ∧ Cond.instanceMethod y' ∈ lw_all ∧ Cond.initialized y'.cls ∈ lw_all ∧ Cond.code y' cc' nL' rt' ∈ lw_all ∧ (y'.cls ≠ "java/lang/invoke/MethodHandle" ∧ y'.cls ≠ "java/lang/invoke/VarHandle" ∧ (parseMethodDescriptor y'.desc).map (fun d => d.parameters.length) = some n) ∧ nL' ≤ 45
section Rows19
variable {g : GC} {y : MethodName} {cc : ByteArray} {nL : Nat} {rt : Option FieldType} {hh : List (Nat × Nat × Nat × Nat)} {d kc ks : Nat} {M : MM} {pc : Nat} {lv : List (Option Value)} {st : List Value} {Q : Option Value → MM → Prop} {X : Nat → MM → Prop}
theorem r_cUg {y' : MethodName} {cc' : ByteArray} {nL' : Nat} {rt' : Option FieldType} {d' mc' ms' n idx : Nat} {As rest : List Value} {Q' : Option Value → MM → Prop} {X' : Nat → MM → Prop} {kc' ks' : Nat} {ci a : Nat} (hd : decode cc pc = .ok (.invokevirtual idx, 3)) (hc : CU y.cls idx ci y' cc' nL' rt' n) (hK : mK M a = 20 + ci) (hct : Ct g y' cc' nL' rt' d' mc' ms' (.ref a :: As) M Q' X') (hst : st = As.reverse ++ .ref a :: rest) (hn : As.length = n) (hr : (rest.map fun v => v.category).sum ≤ 8) (hR : d' + 1 ≤ d) (hk : kc' + mc' ≤ kc) (hs : ks' + ms' ≤ ks) (kx : ∀ q M', X' q M' → Bt g y cc nL rt hh d kc' ks' M' pc lv rest q Q X) (k : ∀ v M', Q' v M' → Bd g y cc nL rt hh d kc' ks' M' (pc + 3) lv (v.toList ++ rest) Q X) : Bd g y cc nL rt hh d kc ks M pc lv st Q X := by
  subst hst
  obtain ⟨q1, q2, q3, q4, q5, q6, hy, hL45⟩ := hc
  refine Bd.call (as := (.ref a :: As : List Value).toArray) (mc' := mc') (ms' := ms') (kc' := kc') (ks' := ks') (rest := rest) (Q' := Q') (X' := X') ?_ hk hs kx k
  intro p e s m args below meth c H locs cells slots mc ms ls hC hH hL h1 h2
  exact vx_runU (Ts := lw_all) (owner := y'.cls) ⟨hC.1, hC.2.1, hC.2.2.1, hC.2.2.2.2.2.2.1, hC.2.2.2.2.2.2.2.1⟩ hct (va_cwU n hC.2.2.2.2.2.2.2.1 (lw_U q1 q2 q3 q4 q5 q6) rfl rfl rfl rfl hy ⟨hR, by show 8 + (nL' + 11) + 64 * d' ≤ 64 * d; omega⟩) (⟨PcM.blind, Hd.recv hC.2.2.2.2.2.2.2.2.1 hH.1 hK, fun U hU hW => PcM.at hC.2.2.2.2.2.2.2.2.1 hH hU hW⟩) rfl hn hL.1 rfl (lv_room hr) hd ⟨h1, h2⟩
theorem r_cU {y' : MethodName} {cc' : ByteArray} {nL' : Nat} {rt' : Option FieldType} {d' n idx : Nat} {As rest : List Value} {Q' : Option Value → MM → Prop} {ci a : Nat} (hd : decode cc pc = .ok (.invokevirtual idx, 3)) (hc : CU y.cls idx ci y' cc' nL' rt' n) (hK : mK M a = 20 + ci) (hct : Ct g y' cc' nL' rt' d' 0 0 (.ref a :: As) M Q' noX) (hst : st = As.reverse ++ .ref a :: rest) (hn : As.length = n) (hr : (rest.map fun v => v.category).sum ≤ 8) (hR : d' + 1 ≤ d) (k : ∀ v M', Q' v M' → Bd g y cc nL rt hh d kc ks M' (pc + 3) lv (vl v rest) Q X) : Bd g y cc nL rt hh d kc ks M pc lv st Q X := r_cUg (kc' := kc) (ks' := ks) hd hc hK hct hst hn hr hR (Nat.le_refl _) (Nat.le_refl _) (fun _ _ h => h.elim) (fun v M' h => by rw [vl_eq]; exact k v M' h)
theorem r_cUm {y' : MethodName} {cc' : ByteArray} {nL' : Nat} {rt' : Option FieldType} {d' mc' ms' n idx : Nat} {As rest : List Value} {Q' : Option Value → MM → Prop} {kc' ks' : Nat} {ci a : Nat} (hd : decode cc pc = .ok (.invokevirtual idx, 3)) (hc : CU y.cls idx ci y' cc' nL' rt' n) (hK : mK M a = 20 + ci) (hct : Ct g y' cc' nL' rt' d' mc' ms' (.ref a :: As) M Q' noX) (hst : st = As.reverse ++ .ref a :: rest) (hn : As.length = n) (hr : (rest.map fun v => v.category).sum ≤ 8) (hR : d' + 1 ≤ d) (hk : kc' + mc' ≤ kc) (hs : ks' + ms' ≤ ks) (k : ∀ v M', Q' v M' → Bd g y cc nL rt hh d kc' ks' M' (pc + 3) lv (vl v rest) Q X) : Bd g y cc nL rt hh d kc ks M pc lv st Q X := r_cUg (kc' := kc') (ks' := ks') hd hc hK hct hst hn hr hR hk hs (fun _ _ h => h.elim) (fun v M' h => by rw [vl_eq]; exact k v M' h)
theorem r_cFm {x y' : MethodName} {cc' : ByteArray} {nL' : Nat} {rt' : Option FieldType} {d' mc' ms' n idx cnt : Nat} {As rest : List Value} {Q' : Option Value → MM → Prop} {kc' ks' : Nat} {ci a : Nat} (hd : decode cc pc = .ok (.invokeinterface idx cnt, 5)) (hc : CF g y.cls idx ci x y' cc' nL' rt' n) (hK : mK M a = 20 + ci) (hct : Ct g y' cc' nL' rt' d' mc' ms' (.ref a :: As) M Q' noX) (hst : st = As.reverse ++ .ref a :: rest) (hn : As.length = n) (hr : (rest.map fun v => v.category).sum ≤ 8) (hR : d' + 1 ≤ d) (hk : kc' + mc' ≤ kc) (hs : ks' + ms' ≤ ks) (k : ∀ v M', Q' v M' → Bd g y cc nL rt hh d kc' ks' M' (pc + 5) lv (vl v rest) Q X) : Bd g y cc nL rt hh d kc ks M pc lv st Q X := r_cFg (kc' := kc') (ks' := ks') hd hc hK hct hst hn hr hR hk hs (fun _ _ h => h.elim) (fun v M' h => by rw [vl_eq]; exact k v M' h)
theorem r_cPm {y' : MethodName} {cc' : ByteArray} {nL' : Nat} {rt' : Option FieldType} {d' mc' ms' n idx : Nat} {As rest : List Value} {Q' : Option Value → MM → Prop} {kc' ks' : Nat} {ci a : Nat} (hd : decode cc pc = .ok (.invokespecial idx, 3)) (hc : CPs y.cls idx y' cc' nL' rt' n) (hK : mK M a = 20 + ci) (hct : Ct g y' cc' nL' rt' d' mc' ms' (.ref a :: As) M Q' noX) (hst : st = As.reverse ++ .ref a :: rest) (hn : As.length = n) (hr : (rest.map fun v => v.category).sum ≤ 8) (hR : d' + 1 ≤ d) (hk : kc' + mc' ≤ kc) (hs : ks' + ms' ≤ ks) (k : ∀ v M', Q' v M' → Bd g y cc nL rt hh d kc' ks' M' (pc + 3) lv (vl v rest) Q X) : Bd g y cc nL rt hh d kc ks M pc lv st Q X := r_cPg (kc' := kc') (ks' := ks') hd hc hK hct hst hn hr hR hk hs (fun _ _ h => h.elim) (fun v M' h => by rw [vl_eq]; exact k v M' h)
/-- an object into an Object[] -/
theorem r_aast6 {a j v ci : Nat} (hca : NW g (.castable (clT ci).1 "java/lang/Object")) (hd : decode cc pc = .ok (.aastore, 1)) (hK : mK M a = 6) (hv : mK M v = 20 + ci) (hj : j < mN M a) (hj2 : j < 2147483648) (hb : gb g ≤ a) (k : Bd g y cc nL rt hh d kc ks (sR M a j (some v)) (pc + 1) lv st Q X) : Bd g y cc nL rt hh d kc ks M pc lv (.ref v :: .int (nI j) :: .ref a :: st) Q X := by
  intro p e s m args below meth c H locs cells slots mc ms ls hC hH hL h1 h2
  have hcell := hH.1.arr hK (by decide) (by decide) hb
  obtain ⟨hci, cv, g1, g2, g3, -⟩ := (hH.1.2 v).2 ci hv
  have hGS := hC.2.2.2.2.2.2.2.2.1
  have hcls := (hGS.1 ci hci).2
  obtain ⟨kA, comp, k1, k2, k3, -⟩ := (hGS.2.1 6 (by decide) (by decide)).2
  obtain ⟨kE, hkE, -⟩ := Vm.findClass_spec k3
  obtain ⟨c0, t1, f1, f2, f3⟩ := Cond.castable_spec (va_Nw.use (A := args) rfl (hca s H hH.2.2.2.2.2))
  cases hcls.1.symm.trans f1
  cases k3.symm.trans f2
  obtain ⟨kC, hkC, -⟩ := hcls.2
  have hin := nI_in' hj hj2
  refine W.aast hC.1 hC.2.1 hcell (fun q h => by cases h) (fun h => by cases h) k1 k2 rfl hkE ⟨fun q => hin (Or.inl q), by show _ < (arrV _ _ _).slots.size; rw [arrV_size]; exact Nat.not_le.mp fun q => hin (Or.inr q)⟩ g1 (fun q h => by have := g3.1; rw [h] at this; cases this) (by rw [g2]; exact hkC) (by rw [g2]; exact f3) rfl rfl hd fun H' e1 e2 e3 => ?_
  refine k p e s m args below meth c H' _ cells slots mc ms ls hC (hH.upd hC.2.2.2.2.2.2.2.2.1 (hH.1.upd (a := a) rfl rfl rfl (fun b k t hb => fv_sRa hb) e2 e3 (fun h1 h9 => ?_) (fun cj hcj => absurd hcj (by omega))) e2 e3 hb) hL h1 h2
  rw [e1, nI_cl hj2, arrV_store, hK]
  exact congrArg some (congrArg (arrV _ _) (arr_sR (x := some v) rfl))
/-- a new array of references: of Objects, of States -/
theorem r_anew {t n idx kc' ks' : Nat} {C : String} (hO : GO g) (ht : t = 6 ∨ t = 8) (hC' : arrTy t = .object C) (hw : Cond.arrayOver (.object C) ∈ lw_tbl) (hd : decode cc pc = .ok (.anewarray idx, 3)) (hl : Cond.classLink y.cls idx C ∈ lw_all) (hn : n ≤ 60000000) (hk : kc' + 1 ≤ kc) (hs : ks' + n ≤ ks) (k : Bd g y cc nL rt hh d kc' ks' (nw M t n) (pc + 3) lv (.ref (mZ M) :: st) Q X) : Bd g y cc nL rt hh d kc ks M pc lv (.int (nI n) :: st) Q X := by
  intro p e s m args below meth c H locs cells slots mc ms ls hC hH hL h1 h2
  have hRA : s.vm.findClass ("[" ++ (FieldType.object C).toString) = some (gA g t) := by
    have := (hC.2.2.2.2.2.2.2.2.1.2.1 t (by omega) (by omega)).2
    rw [hC'] at this
    exact va_nmO this rfl
  have hcl : (nI n).toNatClampNeg = n := nI_cl (by omega)
  refine W.anew hC.1 hC.2.1 hC.2.2.2.2.2.2.1 (hC.2.2.2.2.2.2.2.1 _ hl) (va_AO.use (C := C) (hO _ hw s H hH.2.2.2.2.2)) rfl hd rfl (fun q => nI_in' (n := n + 1) (j := n) (by omega) (by omega) (Or.inl q)) (by rw [hcl]; omega) (by show cells + 1 ≤ mc; omega) (by rw [hcl]; show slots + n ≤ ms; omega) fun cA kA comp f1 f2 f3 f4 => ?_
  have hcA : cA = gA g t := Option.some.inj (f1.symm.trans hRA)
  subst hcA
  rw [hcl]
  generalize hH1 : H.push ({ cls := gA g t, slots := Array.replicate n .null, vm := .none } : Cell) = H1
  have z1 : H1.size = H.size + 1 := by rw [← hH1, Array.size_push]
  have e1 : H1[H.size]? = some (arrV (gA g t) n (fun _ => .null)) := by rw [← hH1, Array.getElem?_push_size, ← arrV_new]
  have o1 : ∀ q : Nat, q < H.size → H1[q]? = H[q]? := fun q hq => by rw [← hH1, Array.getElem?_push, if_neg (Nat.ne_of_lt hq)]
  show W _ _ _ _ _ _ _ _ _ _ _ _ _ _ _ (F0 m (pc + 3) ls (.ref H.size :: st))
  rw [← hH.1.1]
  refine k p e s m args below meth c H1 locs (cells + 1) (slots + n) mc ms ls hC (hH.push hC.2.2.2.2.2.2.2.2.1 (hH.1.push z1 o1 (fun a b => ?_) (fun cj hcj => by omega)) (by omega) o1) hL (by omega) (by omega)
  rw [e1, hC']; rfl
/-- a static field of a nest mate -/
theorem r_getsNn {C n dsc host : String} {idx : Nat} {v : Value} (hd : decode cc pc = .ok (.getstatic idx, 3)) (hl : NW g (Cond.fieldLinkNest y.cls idx C n dsc host)) (hz : NS g C n dsc v) (k : Bd g y cc nL rt hh d kc ks M (pc + 3) lv (v :: st) Q X) : Bd g y cc nL rt hh d kc ks M pc lv st Q X := by
  intro p e s m args below meth c H locs cells slots mc ms ls hC hH hL h1 h2
  obtain ⟨cf, kf, fi, f, a, cell, z1, z2, z3, z4, z5, z6, z7, z8⟩ := hz s H hH.2.2.2.2.2
  exact va_WgetsN hC.1 hC.2.1 hC.2.2.2.2.2.2.1 (va_Nw.use (A := args) rfl (hl s H hH.2.2.2.2.2)) z1 z2 z3 z4 z5 (fun e => by rw [e] at z6; cases z6) z7 rfl hd (k p e s m args below meth c H locs cells slots mc ms ls hC hH hL h1 h2)
/-- a text of the constant pool -/
def NR (g : GC) (own : String) (idx : Nat) (tx : String) (q : Nat) : Prop := ∀ s H, gE g s H → vk_R own idx tx q s
theorem r_ldcS {idx q : Nat} {tx : String} (hd : decode cc pc = .ok (.ldc idx, 2)) (hz : NR g y.cls idx tx q) (k : Bd g y cc nL rt hh d kc ks M (pc + 2) lv (.ref q :: st) Q X) : Bd g y cc nL rt hh d kc ks M pc lv st Q X := by
  intro p e s m args below meth c H locs cells slots mc ms ls hC hH hL h1 h2
  exact va_ldcS hC.1 hC.2.1 hC.2.2.2.2.2.2.1 (hz s H hH.2.2.2.2.2) hd (k p e s m args below meth c H locs cells slots mc ms ls hC hH hL h1 h2)
/-- the class object of Object[] -/
def NM (g : GC) (C : String) (mi : Nat) : Prop := ∀ s H, gE g s H → va_Mi C mi s
theorem r_ldcM {idx mi : Nat} {C : String} (hd : decode cc pc = .ok (.ldc idx, 2)) (hl : Cond.classLink y.cls idx C ∈ lw_all) (hz : NM g C mi) (k : Bd g y cc nL rt hh d kc ks M (pc + 2) lv (.ref mi :: st) Q X) : Bd g y cc nL rt hh d kc ks M pc lv st Q X := by
  intro p e s m args below meth c H locs cells slots mc ms ls hC hH hL h1 h2
  exact va_ldcM hC.1 hC.2.1 hC.2.2.2.2.2.2.1 (hC.2.2.2.2.2.2.2.1 _ hl) (hz s H hH.2.2.2.2.2) hd (k p e s m args below meth c H locs cells slots mc ms ls hC hH hL h1 h2)
end Rows19
