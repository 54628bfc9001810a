set_option maxRecDepth 100000
/-! contracts of methods of classes some of whose methods are the machine's own (Math ..): by the method, not the class -/
theorem vx_ofWF {l : Launch} {y : MethodName} {ws ws' : List Cond} {rm : Room} {Pc : Array Value → State → Prop} {Qc : Array Value → State → Outcome → State → Prop} {XC : String → Addr → State → State → Prop} {mc ms : Nat} {free : Addr → Prop} {cc : ByteArray} {maxL : Nat} {ret : Option FieldType}
    (hy : plainFor y = true) (hw : ws = Cond.code y cc maxL ret :: ws')
    (body : ∀ p e s m args below meth c s₁, BodyLoose p l y (headSpec ws rm) cc maxL ret e s m args below meth c s₁ → c.maxLocals = maxL → (∀ x ∈ c.exceptionTable.toList, False) → Pc args s →
      W p l e (headSpec ws rm).room s m args below meth c s.heap [] 0 0 (vx_MQ below Qc XC args s mc ms free) (entryFrame m args maxL)) : vx_Met l y ws rm Pc Qc XC mc ms free := by
  refine MetFree.of_bodySF (code := cc) (maxLocals := maxL) (ret := ret) hy ?_ ?_
  · intro args s m h hn
    obtain ⟨meth, c, h1, h2, h3, h4, h5, h6, -, -⟩ := Cond.code_spec hn (atoms_spec (ws := ws) h _ (by rw [hw]; exact List.mem_cons_self))
    exact ⟨meth, c, h1, h2, h3, h4, h5, h6⟩
  · intro p e s m args below meth c s₁ B hml hP _
    have hh0 : s₁.heap = s.heap := by rw [B.state]; rfl
    have ht : ∀ x ∈ c.exceptionTable.toList, False := by
      obtain ⟨meth9, c9, h1, h2, -, -, -, -, h7, -⟩ := Cond.code_spec B.named (atoms_spec (ws := ws) B.pre _ (by rw [hw]; exact List.mem_cons_self))
      cases Option.some.inj (h1.symm.trans B.method)
      cases Option.some.inj (h2.symm.trans (Stand.of_body B).code)
      intro x hx
      rw [Array.isEmpty_iff.mp h7] at hx
      cases hx
    obtain ⟨t, a1, o, b1, b2, b3⟩ := body p e s m args below meth c s₁ B hml ht hP s₁ hh0 (Stand.of_body B)
    exact ⟨t, o, a1, b1, b2, b3⟩
section Rows16
variable {g : GC} {y : MethodName} {cc : ByteArray} {nL : Nat} {rt : Option FieldType} {d kc ks : Nat} {M : MM} {lv : List (Option Value)} {Q : Option Value → MM → Prop} {X : Nat → MM → Prop}
theorem Ct.ofF {as : List Value} (hy : plainFor y = true) (hlen : (lg_sl as).length ≤ nL) (hlv : lvo nL as = lv) (k : Bd g y cc nL rt [] d kc ks M 0 lv [] Q X) : Ct g y cc nL rt d kc ks as M Q X := by
  refine vx_ofWF (ws' := lw_all) hy rfl ?_
  intro p e s m args below meth c s₁ B0 hml htab hP
  obtain ⟨rfl, hG, hH, hb, hE⟩ := hP
  have hl := lv_entry as hlen
  rw [lg_entry_eq]
  have hts := atoms_spec (ws := ws_ y cc nL rt) B0.pre
  refine k p e s m _ below meth c s.heap [] 0 0 kc ks _ ⟨B0.exec, B0.bytes, hml, B0.returns, B0.notSynchronized, (name_of_methodNamed B0.named B0.method).1, findClass_of_methodNamed B0.named, fun w h => hts w (List.mem_cons_of_mem _ h), hG, ?_⟩ ⟨hH, Nat.le_refl _, fun _ _ => rfl, (fun q hq => nomatch hq), hb, hE⟩ ⟨hl.1, hl.2.1, fun i v h => hl.2.2 (i, v) ?_⟩ (by omega) (by omega)
  · exact List.eq_nil_iff_forall_not_mem.mpr htab
  · have := lvo_args as nL i 0 v (by rw [hlv]; exact h)
    rw [Nat.zero_add] at this
    exact this
end Rows16
theorem pf_J12_min : plainFor yJ12_min = true := by decide +kernel
theorem pf_J12_max : plainFor yJ12_max = true := by decide +kernel
theorem pf_J12_min_2 : plainFor yJ12_min_2 = true := by decide +kernel
theorem pf_J12_max_2 : plainFor yJ12_max_2 = true := by decide +kernel
theorem pf_J12_floorDiv : plainFor yJ12_floorDiv = true := by decide +kernel
