set_option maxRecDepth 100000
/-! THE OTHER SIDE: calls through an interface; checkcast -/
section Rows14
variable {g : GC} {y : MethodName} {cc : ByteArray} {nL : Nat} {rt : Option FieldType} {hh : List (Nat × Nat × Nat × Nat)} {d kc ks : Nat} {M : MM} {pc : Nat} {lv : List (Option Value)} {st : List Value} {Q : Option Value → MM → Prop} {X : Nat → MM → Prop}
theorem Bd.call5 {mc' ms' kc' ks' : Nat} {rest : List Value} {Q' : Option Value → MM → Prop} {X' : Nat → MM → Prop} {as : Array Value}
    (run : ∀ {p : Program} {e : Env} {s : State} {m : MethodId} {args : Array Value} {below : List Frame} {meth : Method} {c : Code} {H : Heap} {locs : List Loc} {cells slots mc ms : Nat} {ls : Array Slot}, Cx g y cc nL rt hh p s m args meth c → Hx g M s H locs → LV ls nL lv → cells + mc' ≤ mc → slots + ms' ≤ ms →
      vx_Run5 p (gl g) e (rmm d mc ms) s m args below meth c H locs cells slots mc' ms' (F0 m pc ls st) rest (QQ g Q' as) (XX g X') (fun q => gb g ≤ q))
    (hk : kc' + mc' ≤ kc) (hs : ks' + ms' ≤ ks) (kx : ∀ q M', X' q M' → Bt g y cc nL rt hh d kc' ks' M' pc lv rest q Q X)
    (k : ∀ v M', Q' v M' → Bd g y cc nL rt hh d kc' ks' M' (pc + 5) lv (v.toList ++ rest) Q X) : Bd g y cc nL rt hh d kc ks M pc lv st Q X := by
  intro p e s m args below meth c H locs cells slots mc ms ls hC hH hL h1 h2 T hT S
  have hx : ∀ (st₀ t T' : State) (L : List Loc) (M' : MM), st₀.heap = H → T'.heap = t.heap → (∀ q ∈ L, gb g ≤ q.base) → Hd g M' t.heap → st₀.heap.size ≤ t.heap.size → (∀ q, q < gb g → t.heap[q]? = st₀.heap[q]?) → Hx g M' s T'.heap (locs ++ L) := by
    intro st₀ t T' L M' a1 a2 a3 a4 a5 a6
    have hlow : ∀ q, q < gb g → T'.heap[q]? = H[q]? := fun q hq => by rw [a2, a6 q hq, a1]
    refine ⟨by rw [a2]; exact a4, Nat.le_trans hH.2.1 (by rw [a2, ← a1]; exact a5), fun q hq => (hlow q hq).trans (hH.2.2.1 q hq), fun q hq => ?_, hH.2.2.2.2.1, hC.2.2.2.2.2.2.2.2.1.2.2 s s H T'.heap (State.WarmedH.refl s) hlow hH.2.2.2.2.2⟩
    rcases List.mem_append.mp hq with h | h
    · exact hH.2.2.2.1 q h
    · exact a3 q h
  rcases run hC hH hL (by omega) (by omega) T hT S with ⟨v, st₀, t, T', L, h0, S', hLf, e1, e2, ⟨⟨v', M', hv, hQ, hHd⟩, hsz, hlow⟩, hgo⟩ | ⟨q, st₀, t, T', L, E, ce, h0, S', hLf, e1, e2, ⟨rfl, ⟨M', hX', hHd⟩, hsz, hlow⟩, hce, hcv, hcl, hgo⟩
  · cases hv
    obtain ⟨t2, a1, b1⟩ := k v M' hQ p e s m args below meth c T'.heap (locs ++ L) (cells + mc') (slots + ms') mc ms ls hC (hx st₀ t T' L M' h0 e1 hLf hHd hsz hlow) hL (by omega) (by omega) T' rfl S'
    exact ⟨t2, hgo t2 a1, b1⟩
  · obtain ⟨t2, a1, b1⟩ := kx q M' hX' p e s m args below meth c T'.heap (locs ++ L) (cells + mc') (slots + ms') mc ms ls hC (hx st₀ t T' L M' h0 e1 hLf hHd hsz hlow) hL (by omega) (by omega) ⟨ce, by rw [e1]; exact hce, hcv, hcl⟩ T' rfl S'
    exact ⟨t2, hgo.trans a1, b1⟩
theorem lw_F {own : String} {idx : Nat} {C : String} {x y : MethodName} {b : ByteArray} {L : Nat} {r : Option FieldType} (h1 : Cond.methodLink own idx x ∈ lw_all) (h3 : Cond.selects C x y ∈ lw_all) (h4 : Cond.instanceMethod y ∈ lw_all) (h5 : Cond.initialized y.cls ∈ lw_all) (h6 : Cond.code y b L r ∈ lw_all) : GoodIn lw_all (va_wsF own idx C x y (ws_ y b L r)) := by
  refine lw_app ?_ (lw_meth h6)
  intro w hw
  simp only [List.mem_cons, List.not_mem_nil, or_false] at hw
  rcases hw with e | e | e | e
  · rw [e]; exact h1
  · rw [e]; exact h3
  · rw [e]; exact h4
  · rw [e]; exact h5
/-- the words of a call through an interface's method x that runs y' at an object of class ci -/
def CF (g : GC) (own : String) (idx ci : Nat) (x y' : MethodName) (cc' : ByteArray) (nL' : Nat) (rt' : Option FieldType) (n : Nat) : Prop := (Cond.methodLink own idx x ∈ lw_all ∧ Cond.selects (clT ci).1 x y' ∈ lw_all ∧ Cond.instanceMethod y' ∈ lw_all ∧ Cond.initialized y'.cls ∈ lw_all ∧ Cond.code y' cc' nL' rt' ∈ lw_all) ∧ (NW g (Cond.declares x) ∧ NW g (Cond.interfaceMethod x.cls x.cls x.name x.desc) ∧ NW g (Cond.publicMethod y') ∧ NW g (Cond.unhidden (clT ci).1 x.name x.desc) ∧ NW g (Cond.castable (clT ci).1 x.cls)) ∧ (x.cls ≠ "java/lang/invoke/MethodHandle" ∧ x.cls ≠ "java/lang/invoke/VarHandle" ∧ (parseMethodDescriptor x.desc).map (fun d => d.parameters.length) = some n) ∧ nL' ≤ 45
theorem r_cFg {x y' : MethodName} {cc' : ByteArray} {nL' : Nat} {rt' : Option FieldType} {d' mc' ms' n idx cnt : Nat} {As rest : List Value} {Q' : Option Value → MM → Prop} {X' : Nat → MM → Prop} {kc' ks' : Nat} {ci a : Nat} (hd : decode cc pc = .ok (.invokeinterface idx cnt, 5)) (hc : CF g y.cls idx ci x y' cc' nL' rt' n) (hK : mK M a = 20 + ci) (hct : Ct g y' cc' nL' rt' d' mc' ms' (.ref a :: As) M Q' X') (hst : st = As.reverse ++ .ref a :: rest) (hn : As.length = n) (hr : (rest.map fun v => v.category).sum ≤ 8) (hR : d' + 1 ≤ d) (hk : kc' + mc' ≤ kc) (hs : ks' + ms' ≤ ks) (kx : ∀ q M', X' q M' → Bt g y cc nL rt hh d kc' ks' M' pc lv rest q Q X) (k : ∀ v M', Q' v M' → Bd g y cc nL rt hh d kc' ks' M' (pc + 5) lv (v.toList ++ rest) Q X) : Bd g y cc nL rt hh d kc ks M pc lv st Q X := by
  subst hst
  obtain ⟨⟨q1, q3, q4, q5, q6⟩, ⟨f1, f2, f3, f4, f5⟩, hy, hL45⟩ := hc
  refine Bd.call5 (as := (.ref a :: As : List Value).toArray) (mc' := mc') (ms' := ms') (kc' := kc') (ks' := ks') (rest := rest) (Q' := Q') (X' := X') ?_ hk hs kx k
  intro p e s m args below meth c H locs cells slots mc ms ls hC hH hL h1 h2
  have hE := hH.2.2.2.2.2
  have hci := ((hH.1.2 a).2 ci hK).1
  exact vx_runF (Ts := lw_all) (hC.2.2.2.2.2.2.2.2.1.1 ci hci).2 ⟨hC.1, hC.2.1, hC.2.2.1, hC.2.2.2.2.2.2.1, hC.2.2.2.2.2.2.2.1⟩ hct (va_cwF n hC.2.2.2.2.2.2.2.1 (lw_F q1 q3 q4 q5 q6) rfl rfl rfl ⟨f1 s H hE, f2 s H hE, f3 s H hE, f4 s H hE, f5 s H hE⟩ hy ⟨hR, by show 8 + (nL' + 11) + 64 * d' ≤ 64 * d; omega⟩) (⟨PcM.blind, Hd.recv hC.2.2.2.2.2.2.2.2.1 hH.1 hK, fun U hU hW => PcM.at hC.2.2.2.2.2.2.2.2.1 hH hU hW⟩) rfl hn hL.1 rfl (lv_room hr) hd ⟨h1, h2⟩
theorem r_cF {x y' : MethodName} {cc' : ByteArray} {nL' : Nat} {rt' : Option FieldType} {d' n idx cnt : Nat} {As rest : List Value} {Q' : Option Value → MM → Prop} {ci a : Nat} (hd : decode cc pc = .ok (.invokeinterface idx cnt, 5)) (hc : CF g y.cls idx ci x y' cc' nL' rt' n) (hK : mK M a = 20 + ci) (hct : Ct g y' cc' nL' rt' d' 0 0 (.ref a :: As) M Q' noX) (hst : st = As.reverse ++ .ref a :: rest) (hn : As.length = n) (hr : (rest.map fun v => v.category).sum ≤ 8) (hR : d' + 1 ≤ d) (k : ∀ v M', Q' v M' → Bd g y cc nL rt hh d kc ks M' (pc + 5) lv (vl v rest) Q X) : Bd g y cc nL rt hh d kc ks M pc lv st Q X := r_cFg (kc' := kc) (ks' := ks) hd hc hK hct hst hn hr hR (Nat.le_refl _) (Nat.le_refl _) (fun _ _ h => h.elim) (fun v M' h => by rw [vl_eq]; exact k v M' h)
end Rows14
