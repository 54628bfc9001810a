set_option maxRecDepth 100000
/-! THE OTHER SIDE: a reference put into an array -/
/-- the array classes that stand: among what stays -/
def GO (g : GC) : Prop := ∀ t, Cond.arrayOver t ∈ lw_tbl → NW g (Cond.arrayOver t)
section Rows12
variable {g : GC} {y : MethodName} {cc : ByteArray} {nL : Nat} {rt : Option FieldType} {hh : List (Nat × Nat × Nat × Nat)} {d kc ks : Nat} {M : MM} {pc : Nat} {lv : List (Option Value)} {st : List Value} {Q : Option Value → MM → Prop} {X : Nat → MM → Prop}
/-- an int[] into an int[][] -/
theorem r_aast7 {a j v : Nat} (hO : GO g) (hd : decode cc pc = .ok (.aastore, 1)) (hK : mK M a = 7) (hv : mK M v = 1) (hj : j < mN M a) (hj2 : j < 2147483648) (hb : gb g ≤ a) (k : Bd g y cc nL rt hh d kc ks (sR M a j (some v)) (pc + 1) lv st Q X) : Bd g y cc nL rt hh d kc ks M pc lv (.ref v :: .int (nI j) :: .ref a :: st) Q X := by
  intro p e s m args below meth c H locs cells slots mc ms ls hC hH hL h1 h2
  have hcell := hH.1.arr hK (by decide) (by decide) hb
  obtain ⟨cv, hcv, hwv⟩ := hH.1.arw hv (by decide) (by decide)
  have hGS := hC.2.2.2.2.2.2.2.2.1
  have w : (Cond.arrayOver (.array .int)).before #[] s = true := hO _ q381 s H hH.2.2.2.2.2
  obtain ⟨comp, cA, kA, f1, f2, f3, f4⟩ := Cond.arrayOver_specA w
  have r7 : s.vm.findClass ("[" ++ (FieldType.array .int).toString) = some (gA g 7) := (hGS.2.1 7 (by decide) (by decide)).2
  have r1 : s.vm.findClass ("[" ++ FieldType.int.toString) = some (gA g 1) := (hGS.2.1 1 (by decide) (by decide)).2
  have e7 : cA = gA g 7 := Option.some.inj (f4.symm.trans r7)
  have e1' : comp = gA g 1 := Option.some.inj (f1.symm.trans r1)
  subst e7 e1'
  obtain ⟨kC, hkC, -⟩ := Vm.findClass_spec r1
  have hin := nI_in' hj hj2
  refine W.aast hC.1 hC.2.1 hcell (fun q h => by cases h) (fun h => by cases h) f2 f3 rfl hkC ⟨fun q => hin (Or.inl q), by show _ < (arrV _ _ _).slots.size; rw [arrV_size]; exact Nat.not_le.mp fun q => hin (Or.inr q)⟩ hcv (fun q h => by have := hwv.2.2.1; rw [h] at this; cases this) (by rw [hwv.1]; exact hkC) (by rw [hwv.1]; exact va_asg _ _) rfl rfl hd fun H' e1 e2 e3 => ?_
  refine k p e s m args below meth c H' _ cells slots mc ms ls hC (hH.upd hC.2.2.2.2.2.2.2.2.1 (hH.1.upd (a := a) rfl rfl rfl (fun b k t hb => fv_sRa hb) e2 e3 (fun h1 h9 => ?_) (fun cj hcj => absurd hcj (by omega))) e2 e3 hb) hL h1 h2
  rw [e1, nI_cl hj2, arrV_store, hK]
  exact congrArg some (congrArg (arrV _ _) (arr_sR (x := some v) rfl))
/-- a State into a State[] -/
theorem r_aast8 {a j v : Nat} (hd : decode cc pc = .ok (.aastore, 1)) (hK : mK M a = 8) (hv : mK M v = 25) (hj : j < mN M a) (hj2 : j < 2147483648) (hb : gb g ≤ a) (k : Bd g y cc nL rt hh d kc ks (sR M a j (some v)) (pc + 1) lv st Q X) : Bd g y cc nL rt hh d kc ks M pc lv (.ref v :: .int (nI j) :: .ref a :: st) Q X := by
  intro p e s m args below meth c H locs cells slots mc ms ls hC hH hL h1 h2
  have hcell := hH.1.arr hK (by decide) (by decide) hb
  obtain ⟨_, cv, g1, g2, g3, -⟩ := (hH.1.2 v).2 5 hv
  have hGS := hC.2.2.2.2.2.2.2.2.1
  have hcls := (hGS.1 5 (by decide)).2
  obtain ⟨kA, comp, k1, k2, k3, -⟩ := (hGS.2.1 8 (by decide) (by decide)).2
  have hcomp : comp = gC g 5 := Option.some.inj (k3.symm.trans hcls.1)
  subst hcomp
  obtain ⟨kC, hkC, -⟩ := hcls.2
  have hin := nI_in' hj hj2
  refine W.aast hC.1 hC.2.1 hcell (fun q h => by cases h) (fun h => by cases h) k1 k2 rfl hkC ⟨fun q => hin (Or.inl q), by show _ < (arrV _ _ _).slots.size; rw [arrV_size]; exact Nat.not_le.mp fun q => hin (Or.inr q)⟩ g1 (fun q h => by have := g3.1; rw [h] at this; cases this) (by rw [g2]; exact hkC) (by rw [g2]; exact va_asg _ _) rfl rfl hd fun H' e1 e2 e3 => ?_
  refine k p e s m args below meth c H' _ cells slots mc ms ls hC (hH.upd hC.2.2.2.2.2.2.2.2.1 (hH.1.upd (a := a) rfl rfl rfl (fun b k t hb => fv_sRa hb) e2 e3 (fun h1 h9 => ?_) (fun cj hcj => absurd hcj (by omega))) e2 e3 hb) hL h1 h2
  rw [e1, nI_cl hj2, arrV_store, hK]
  exact congrArg some (congrArg (arrV _ _) (arr_sR (x := some v) rfl))
end Rows12
section RowsX12
variable {g : GC} {y : MethodName} {cc : ByteArray} {nL : Nat} {rt : Option FieldType} {hh : List (Nat × Nat × Nat × Nat)} {d kc ks : Nat} {M : MM} {pc : Nat} {lv : List (Option Value)} {st : List Value} {Q : Option Value → MM → Prop} {X : Nat → MM → Prop} {o c : Nat} {s : XS}
theorem x_aast7 {j n v : Nat} (hO : GO g) (hS : ShX g M o) (hc : ow c) (hk : kd c = 7) (hl : ln c = n) (hd : decode cc pc = .ok (.aastore, 1)) (hj : j < n) (hj2 : j < 2147483648) (hv : ow v) (hkv : kd v = 1) (k : Bd g y cc nL rt hh d kc ks (putX M o (uR s c j (some (o + v)))) (pc + 1) lv st Q X) : Bd g y cc nL rt hh d kc ks (putX M o s) pc lv (.ref (o + v) :: .int (nI j) :: .ref (o + c) :: st) Q X := r_aast7 hO hd (hS.k hc hk) (hS.k hv hkv) (hS.n hc hl hj) hj2 hS.b (Bd.eqM (putX_R hc) k)
theorem x_aast8 {j n v : Nat} (hS : ShX g M o) (hc : ow c) (hk : kd c = 8) (hl : ln c = n) (hd : decode cc pc = .ok (.aastore, 1)) (hj : j < n) (hj2 : j < 2147483648) (hv : ow v) (hkv : kd v = 25) (k : Bd g y cc nL rt hh d kc ks (putX M o (uR s c j (some (o + v)))) (pc + 1) lv st Q X) : Bd g y cc nL rt hh d kc ks (putX M o s) pc lv (.ref (o + v) :: .int (nI j) :: .ref (o + c) :: st) Q X := r_aast8 hd (hS.k hc hk) (hS.k hv hkv) (hS.n hc hl hj) hj2 hS.b (Bd.eqM (putX_R hc) k)
end RowsX12
