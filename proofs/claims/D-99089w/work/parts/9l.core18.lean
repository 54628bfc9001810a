set_option maxRecDepth 100000
/-! calls of the superclass's method -/
theorem lw_P {own : String} {idx : Nat} {y : MethodName} {b : ByteArray} {L : Nat} {r : Option FieldType} (h1 : Cond.methodLink own idx y ∈ lw_all) (h2 : Cond.sameMethod y.cls y.cls y.name y.desc ∈ lw_all) (h3 : Cond.superclass own y.cls ∈ lw_all) (h4 : Cond.instanceMethod y ∈ lw_all) (h5 : Cond.initialized y.cls ∈ lw_all) (h6 : Cond.code y b L r ∈ lw_all) : GoodIn lw_all (va_wsSU own idx y (ws_ y b L r)) := by
  refine lw_app ?_ (lw_meth h6)
  intro w hw
  simp only [List.mem_cons, List.not_mem_nil, or_false] at hw
  rcases hw with e | e | e | e | e
  · rw [e]; exact h1
  · rw [e]; exact h2
  · rw [e]; exact h3
  · rw [e]; exact h4
  · rw [e]; exact h5
def CPs (own : String) (idx : Nat) (y' : MethodName) (cc' : ByteArray) (nL' : Nat) (rt' : Option FieldType) (n : Nat) : Prop := Cond.methodLink own idx y' ∈ lw_all ∧ Cond.sameMethod y'.cls y'.cls y'.name y'.desc ∈ lw_all ∧ Cond.superclass own y'.cls ∈ lw_all ∧ Cond.instanceMethod y' ∈ lw_all ∧ Cond.initialized y'.cls ∈ lw_all ∧ Cond.code y' cc' nL' rt' ∈ lw_all ∧ (y'.name ≠ "<init>" ∧ (parseMethodDescriptor y'.desc).map (fun d => d.parameters.length) = some n) ∧ nL' ≤ 45
section Rows18
variable {g : GC} {y : MethodName} {cc : ByteArray} {nL : Nat} {rt : Option FieldType} {hh : List (Nat × Nat × Nat × Nat)} {d kc ks : Nat} {M : MM} {pc : Nat} {lv : List (Option Value)} {st : List Value} {Q : Option Value → MM → Prop} {X : Nat → MM → Prop}
theorem r_cPg {y' : MethodName} {cc' : ByteArray} {nL' : Nat} {rt' : Option FieldType} {d' mc' ms' n idx : Nat} {As rest : List Value} {Q' : Option Value → MM → Prop} {X' : Nat → MM → Prop} {kc' ks' : Nat} {ci a : Nat} (hd : decode cc pc = .ok (.invokespecial idx, 3)) (hc : CPs y.cls idx y' cc' nL' rt' n) (hK : mK M a = 20 + ci) (hct : Ct g y' cc' nL' rt' d' mc' ms' (.ref a :: As) M Q' X') (hst : st = As.reverse ++ .ref a :: rest) (hn : As.length = n) (hr : (rest.map fun v => v.category).sum ≤ 8) (hR : d' + 1 ≤ d) (hk : kc' + mc' ≤ kc) (hs : ks' + ms' ≤ ks) (kx : ∀ q M', X' q M' → Bt g y cc nL rt hh d kc' ks' M' pc lv rest q Q X) (k : ∀ v M', Q' v M' → Bd g y cc nL rt hh d kc' ks' M' (pc + 3) lv (v.toList ++ rest) Q X) : Bd g y cc nL rt hh d kc ks M pc lv st Q X := by
  subst hst
  obtain ⟨q1, q2, q3, q4, q5, q6, hy, hL45⟩ := hc
  refine Bd.call (as := (.ref a :: As : List Value).toArray) (mc' := mc') (ms' := ms') (kc' := kc') (ks' := ks') (rest := rest) (Q' := Q') (X' := X') ?_ hk hs kx k
  intro p e s m args below meth c H locs cells slots mc ms ls hC hH hL h1 h2
  have hci := ((hH.1.2 a).2 ci hK).1
  exact vx_runSU (Ts := lw_all) (hC.2.2.2.2.2.2.2.2.1.1 ci hci).2 ⟨hC.1, hC.2.1, hC.2.2.1, hC.2.2.2.2.2.2.1, hC.2.2.2.2.2.2.2.1⟩ hct (va_cwSU n hC.2.2.2.2.2.2.2.1 (lw_P q1 q2 q3 q4 q5 q6) rfl rfl rfl hy ⟨hR, by show 8 + (nL' + 11) + 64 * d' ≤ 64 * d; omega⟩) (⟨PcM.blind, Hd.recv hC.2.2.2.2.2.2.2.2.1 hH.1 hK, fun U hU hW => PcM.at hC.2.2.2.2.2.2.2.2.1 hH hU hW⟩) rfl hn hL.1 rfl (lv_room hr) hd ⟨h1, h2⟩
theorem r_cP {y' : MethodName} {cc' : ByteArray} {nL' : Nat} {rt' : Option FieldType} {d' n idx : Nat} {As rest : List Value} {Q' : Option Value → MM → Prop} {ci a : Nat} (hd : decode cc pc = .ok (.invokespecial idx, 3)) (hc : CPs y.cls idx y' cc' nL' rt' n) (hK : mK M a = 20 + ci) (hct : Ct g y' cc' nL' rt' d' 0 0 (.ref a :: As) M Q' noX) (hst : st = As.reverse ++ .ref a :: rest) (hn : As.length = n) (hr : (rest.map fun v => v.category).sum ≤ 8) (hR : d' + 1 ≤ d) (k : ∀ v M', Q' v M' → Bd g y cc nL rt hh d kc ks M' (pc + 3) lv (vl v rest) Q X) : Bd g y cc nL rt hh d kc ks M pc lv st Q X := r_cPg (kc' := kc) (ks' := ks) hd hc hK hct hst hn hr hR (Nat.le_refl _) (Nat.le_refl _) (fun _ _ h => h.elim) (fun v M' h => by rw [vl_eq]; exact k v M' h)
end Rows18
