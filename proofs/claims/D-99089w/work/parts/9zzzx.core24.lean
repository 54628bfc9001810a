set_option maxRecDepth 100000
/-! METHODS WITH HANDLERS: their contracts, what is caught, their calls -/
def CtW (g : GC) (y : MethodName) (cc : ByteArray) (nL : Nat) (rt : Option FieldType) (hh : List (Nat × Nat × Nat × Nat)) (d mc ms : Nat) (as : List Value) (M : MM) (Q : Option Value → MM → Prop) (X : Nat → MM → Prop) : Prop :=
  vx_Met (gl g) y (wsW_ y cc nL rt hh) (rmm d mc ms) (PcM g as M) (QQ g Q) (XX g X) mc ms (fun q => gb g ≤ q)
def CVW (own : String) (idx ci : Nat) (y' : MethodName) (cc' : ByteArray) (nL' : Nat) (rt' : Option FieldType) (hh' : List (Nat × Nat × Nat × Nat)) (n : Nat) : Prop := Cond.methodLink own idx y' ∈ lw_all ∧ Cond.instanceMethod y' ∈ lw_all ∧ Cond.selects (clT ci).1 y' y' ∈ lw_all ∧ Cond.initialized (clT ci).1 ∈ lw_all ∧ Cond.codeWith y' cc' nL' rt' hh' ∈ lw_all ∧ (y'.cls = (clT ci).1 ∧ y'.cls ≠ "java/lang/invoke/MethodHandle" ∧ y'.cls ≠ "java/lang/invoke/VarHandle" ∧ (parseMethodDescriptor y'.desc).map (fun d => d.parameters.length) = some n) ∧ nL' ≤ 45
section Rows24
variable {g : GC} {y : MethodName} {cc : ByteArray} {nL : Nat} {rt : Option FieldType} {hh : List (Nat × Nat × Nat × Nat)} {d kc ks : Nat} {M : MM} {pc : Nat} {lv : List (Option Value)} {st : List Value} {Q : Option Value → MM → Prop} {X : Nat → MM → Prop}
theorem CtW.of {as : List Value} (hy : plainName y.cls = true) (hlen : (lg_sl as).length ≤ nL) (hlv : lvo nL as = lv) (k : Bd g y cc nL rt hh d kc ks M 0 lv [] Q X) : CtW g y cc nL rt hh d kc ks as M Q X := by
  refine vx_ofWH (ws' := lw_all) hy rfl ?_
  intro p e s m args below meth c s₁ B0 hml hP
  obtain ⟨rfl, hG, hH, hb, hE⟩ := hP
  have hl := lv_entry as hlen
  rw [lg_entry_eq]
  have hts := atoms_spec (ws := wsW_ y cc nL rt hh) B0.pre
  refine k p e s m _ below meth c s.heap [] 0 0 kc ks _ ⟨B0.exec, B0.bytes, hml, B0.returns, B0.notSynchronized, (name_of_methodNamed B0.named B0.method).1, findClass_of_methodNamed B0.named, fun w h => hts w (List.mem_cons_of_mem _ h), hG, ?_⟩ ⟨hH, Nat.le_refl _, fun _ _ => rfl, (fun q hq => nomatch hq), hb, hE⟩ ⟨hl.1, hl.2.1, fun i v h => hl.2.2 (i, v) ?_⟩ (by omega) (by omega)
  · exact vx_table (x := y) B0 (hts _ List.mem_cons_self)
  · have := lvo_args as nL i 0 v (by rw [hlv]; exact h)
    rw [Nat.zero_add] at this
    exact this
/-- a fault is caught -/
theorem Bt.catch {q a b h ct : Nat} (hx : covers ⟨a, b, h, ct⟩ pc = true) (h0 : ct ≠ 0) (hl : Cond.classLink y.cls ct RX3 ∈ lw_all) (hca : NW g (Cond.castable RX3 RX3)) (k : Bd g y cc nL rt [(a, b, h, ct)] d kc ks M h lv [.ref q] Q X) : Bt g y cc nL rt [(a, b, h, ct)] d kc ks M pc lv st q Q X := by
  intro p e s m args below meth c H locs cells slots mc ms ls hC hH hL h1 h2 hq
  obtain ⟨ce, q1, q2, q3⟩ := hq
  exact vx_catch (own := y.cls) (name := RX3) (E := RX3) hC.2.2.2.2.2.2.1 [] ⟨a, b, h, ct⟩ [] (by rw [hC.2.2.2.2.2.2.2.2.2]; rfl) (fun z hz => nomatch hz) hx h0 (hC.2.2.2.2.2.2.2.1 _ hl) (va_Nw.use (A := args) rfl (hca s H hH.2.2.2.2.2)) q1 q2 q3 (k p e s m args below meth c H locs cells slots mc ms ls hC hH hL h1 h2)
theorem r_cVW {y' : MethodName} {cc' : ByteArray} {nL' : Nat} {rt' : Option FieldType} {hh' : List (Nat × Nat × Nat × Nat)} {d' mc' ms' n idx : Nat} {As rest : List Value} {Q' : Option Value → MM → Prop} {kc' ks' : Nat} {ci a : Nat} (hd : decode cc pc = .ok (.invokevirtual idx, 3)) (hc : CVW y.cls idx ci y' cc' nL' rt' hh' n) (hK : mK M a = 20 + ci) (hct : CtW g y' cc' nL' rt' hh' d' mc' ms' (.ref a :: As) M Q' noX) (hst : st = As.reverse ++ .ref a :: rest) (hn : As.length = n) (hr : (rest.map fun v => v.category).sum ≤ 8) (hR : d' + 1 ≤ d) (hk : kc' + mc' ≤ kc) (hs : ks' + ms' ≤ ks) (k : ∀ v M', Q' v M' → Bd g y cc nL rt hh d kc' ks' M' (pc + 3) lv (vl v rest) Q X) : Bd g y cc nL rt hh d kc ks M pc lv st Q X := by
  subst hst
  obtain ⟨q1, q2, q3, q4, q5, hy, h45⟩ := hc
  refine Bd.call (as := (.ref a :: As : List Value).toArray) (mc' := mc') (ms' := ms') (kc' := kc') (ks' := ks') (rest := rest) (Q' := Q') (X' := noX) ?_ hk hs (fun _ _ h => h.elim) (fun v M' h => vl_eq v rest ▸ k v M' h)
  intro p e s m args below meth c H locs cells slots mc ms ls hC hH hL h1 h2
  exact vx_runVX (Ts := lw_all) ⟨hC.1, hC.2.1, hC.2.2.1, hC.2.2.2.2.2.2.1, hC.2.2.2.2.2.2.2.1⟩ hct (vx_cwVW n hC.2.2.2.2.2.2.2.1 (lw_VW q1 q2 q3 q4 q5) rfl rfl rfl hy ⟨hR, by show 8 + (nL' + 11) + 64 * d' ≤ 64 * d; omega⟩) (⟨PcM.blind, Hd.recv hC.2.2.2.2.2.2.2.2.1 hH.1 hK, fun U hU hW => PcM.at hC.2.2.2.2.2.2.2.2.1 hH hU hW⟩) rfl hn hL.1 rfl (lv_room hr) hd ⟨h1, h2⟩
end Rows24
