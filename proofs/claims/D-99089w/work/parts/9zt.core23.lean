set_option maxRecDepth 100000
/-! ROWS: a private method of a class above the receiver's (by invokevirtual) -/
/-- the words of such a call; x0: a method of the same class for which the class is known to be no interface -/
def CUp (g : GC) (own : String) (idx : Nat) (x0 y' : MethodName) (cc' : ByteArray) (nL' : Nat) (rt' : Option FieldType) (n : Nat) : Prop := Cond.methodLink own idx y' ∈ lw_all ∧ Cond.sameMethod x0.cls x0.cls x0.name x0.desc ∈ lw_all ∧ NW g (Cond.privateMethod y') ∧ Cond.instanceMethod y' ∈ lw_all ∧ Cond.initialized y'.cls ∈ lw_all ∧ Cond.code y' cc' nL' rt' ∈ lw_all ∧ (y'.cls ≠ "java/lang/invoke/MethodHandle" ∧ y'.cls ≠ "java/lang/invoke/VarHandle" ∧ (parseMethodDescriptor y'.desc).map (fun d => d.parameters.length) = some n) ∧ nL' ≤ 45 ∧ x0.cls = y'.cls ∧ Cond.instanceMethod x0 ∈ lw_all
theorem up_words {s : State} {args : Array Value} {C : String} {c0 : ClassId} {x0 y : MethodName} (hc : s.vm.findClass C = some c0) (hs : (Cond.sameMethod x0.cls x0.cls x0.name x0.desc).before args s = true) (hi0 : (Cond.instanceMethod x0).before args s = true) (hp : (Cond.privateMethod y).before args s = true) (hi : (Cond.instanceMethod y).before args s = true) (hx : x0.cls = y.cls) (hy : y.cls ≠ "java/lang/invoke/MethodHandle" ∧ y.cls ≠ "java/lang/invoke/VarHandle") : (Cond.sameMethod y.cls y.cls y.name y.desc).before args s = true ∧ (Cond.selects C y y).before args s = true := by
  have hpriv := Cond.privateMethod_at hp
  obtain ⟨mk, methM, hnamed, hmethM, -, -⟩ := Cond.instanceMethod_spec hi
  obtain ⟨mk0, methM0, hnamed0, -, -, -⟩ := Cond.instanceMethod_spec hi0
  have hfound : s.methodFound? y.cls y.name y.desc = some mk := State.methodFound?_of_named hnamed hy
  have hfound0 : s.methodFound? x0.cls x0.name x0.desc = some mk0 := State.methodFound?_of_named hnamed0 (by rw [hx]; exact hy)
  have hcl := findClass_of_methodNamed hnamed
  obtain ⟨-, k, hk, hni⟩ := Cond.sameMethod_spec (by rw [hx]; exact hcl) hfound0 hs
  have hsel : selectMethod {} s.vm c0 mk = .method mk := selectMethod_private hmethM (hpriv mk methM hnamed hmethM)
  refine ⟨?_, ?_⟩
  · simp only [Cond.before, Cond.holds, Cond.value, hcl, hfound, hnamed, hk]
    simp; exact hni
  · simp only [Cond.before, Cond.holds, Cond.value, hc, hfound, hnamed, hsel, hk]
    simp; exact hni
section Rows23
variable {g : GC} {y : MethodName} {cc : ByteArray} {nL : Nat} {rt : Option FieldType} {hh : List (Nat × Nat × Nat × Nat)} {d kc ks : Nat} {M : MM} {pc : Nat} {lv : List (Option Value)} {st : List Value} {Q : Option Value → MM → Prop} {X : Nat → MM → Prop}
theorem r_cUpg {x0 y' : MethodName} {cc' : ByteArray} {nL' : Nat} {rt' : Option FieldType} {d' mc' ms' n idx : Nat} {As rest : List Value} {Q' : Option Value → MM → Prop} {X' : Nat → MM → Prop} {kc' ks' : Nat} {ci a : Nat} (hd : decode cc pc = .ok (.invokevirtual idx, 3)) (hc : CUp g y.cls idx x0 y' cc' nL' rt' n) (hK : mK M a = 20 + ci) (hct : Ct g y' cc' nL' rt' d' mc' ms' (.ref a :: As) M Q' X') (hst : st = As.reverse ++ .ref a :: rest) (hn : As.length = n) (hr : (rest.map fun v => v.category).sum ≤ 8) (hR : d' + 1 ≤ d) (hk : kc' + mc' ≤ kc) (hs : ks' + ms' ≤ ks) (kx : ∀ q M', X' q M' → Bt g y cc nL rt hh d kc' ks' M' pc lv rest q Q X) (k : ∀ v M', Q' v M' → Bd g y cc nL rt hh d kc' ks' M' (pc + 3) lv (v.toList ++ rest) Q X) : Bd g y cc nL rt hh d kc ks M pc lv st Q X := by
  subst hst
  obtain ⟨q1, q2, q3, q4, q5, q6, hy, hL45, hx, q7⟩ := hc
  refine Bd.call (as := (.ref a :: As : List Value).toArray) (mc' := mc') (ms' := ms') (kc' := kc') (ks' := ks') (rest := rest) (Q' := Q') (X' := X') ?_ hk hs kx k
  intro p e s m args below meth c H locs cells slots mc ms ls hC hH hL h1 h2
  have ht := hC.2.2.2.2.2.2.2.1
  have hci := ((hH.1.2 a).2 ci hK).1
  have hfc := (hC.2.2.2.2.2.2.2.2.1.1 ci hci).2.1
  obtain ⟨w1, w2⟩ := up_words hfc (ht _ q2) (ht _ q7) (va_Nw.use (A := args) rfl (q3 s H hH.2.2.2.2.2)) (ht _ q4) hx ⟨hy.1, hy.2.1⟩
  refine vx_runU (Ts := lw_all) (owner := y'.cls) (C := (clT ci).1) (x := y') (n := n) (bytes := cc') (maxL := nL') (ret := rt') ⟨hC.1, hC.2.1, hC.2.2.1, hC.2.2.2.2.2.2.1, ht⟩ hct ?_ (⟨PcM.blind, Hd.recv hC.2.2.2.2.2.2.2.2.1 hH.1 hK, fun U hU hW => PcM.at hC.2.2.2.2.2.2.2.2.1 hH hU hW⟩) rfl hn hL.1 rfl (lv_room hr) hd ⟨h1, h2⟩
  refine ⟨⟨rfl, rfl, hR, by show 8 + (nL' + 11) + 64 * d' ≤ 64 * d; omega, pay_in ht (lw_meth q6), List.mem_cons_self⟩, ht _ q6, ht _ q5, ⟨hy.1, hy.2.1⟩, fun sig h => ?_, ht _ q1, w1, va_Decl.of (ht _ q4) (ht _ q6), w2, ht _ q4⟩
  have h2 := hy.2.2
  rw [h] at h2
  exact (Option.some.inj h2).symm
theorem r_cUp {x0 y' : MethodName} {cc' : ByteArray} {nL' : Nat} {rt' : Option FieldType} {d' n idx : Nat} {As rest : List Value} {Q' : Option Value → MM → Prop} {ci a : Nat} (hd : decode cc pc = .ok (.invokevirtual idx, 3)) (hc : CUp g y.cls idx x0 y' cc' nL' rt' n) (hK : mK M a = 20 + ci) (hct : Ct g y' cc' nL' rt' d' 0 0 (.ref a :: As) M Q' noX) (hst : st = As.reverse ++ .ref a :: rest) (hn : As.length = n) (hr : (rest.map fun v => v.category).sum ≤ 8) (hR : d' + 1 ≤ d) (k : ∀ v M', Q' v M' → Bd g y cc nL rt hh d kc ks M' (pc + 3) lv (vl v rest) Q X) : Bd g y cc nL rt hh d kc ks M pc lv st Q X := r_cUpg (kc' := kc) (ks' := ks) hd hc hK hct hst hn hr hR (Nat.le_refl _) (Nat.le_refl _) (fun _ _ h => h.elim) (fun v M' h => by rw [vl_eq]; exact k v M' h)
theorem r_cUpm {x0 y' : MethodName} {cc' : ByteArray} {nL' : Nat} {rt' : Option FieldType} {d' mc' ms' n idx : Nat} {As rest : List Value} {Q' : Option Value → MM → Prop} {kc' ks' : Nat} {ci a : Nat} (hd : decode cc pc = .ok (.invokevirtual idx, 3)) (hc : CUp g y.cls idx x0 y' cc' nL' rt' n) (hK : mK M a = 20 + ci) (hct : Ct g y' cc' nL' rt' d' mc' ms' (.ref a :: As) M Q' noX) (hst : st = As.reverse ++ .ref a :: rest) (hn : As.length = n) (hr : (rest.map fun v => v.category).sum ≤ 8) (hR : d' + 1 ≤ d) (hk : kc' + mc' ≤ kc) (hs : ks' + ms' ≤ ks) (k : ∀ v M', Q' v M' → Bd g y cc nL rt hh d kc' ks' M' (pc + 3) lv (vl v rest) Q X) : Bd g y cc nL rt hh d kc ks M pc lv st Q X := r_cUpg (kc' := kc') (ks' := ks') hd hc hK hct hst hn hr hR hk hs (fun _ _ h => h.elim) (fun v M' h => by rw [vl_eq]; exact k v M' h)
end Rows23
theorem cup_J14_100 {g : GC} (hg : GX g) : CUp g RJ14 100 yJ14_isLatin1 yJ14_ensureCapacityInternal cJ14_ensureCapacityInternal 3 none 1 := ⟨q1048, q1070, hg _ q1049 rfl, q1050, q170, q1051, by decide +kernel, by decide, rfl, q1069⟩
theorem cup_J14_104 {g : GC} (hg : GX g) : CUp g RJ14 104 yJ14_isLatin1 yJ14_newCapacity cJ14_newCapacity 6 (some .int) 1 := ⟨q1052, q1070, hg _ q1053 rfl, q1054, q170, q1055, by decide +kernel, by decide, rfl, q1069⟩
theorem cu_J14_83 : CU RJ14 83 21 yJ14_isLatin1 cJ14_isLatin1 1 (some .boolean) 0 := ⟨q1068, q1070, q1071, q1069, q170, q1072, by decide +kernel, by decide⟩
