set_option maxRecDepth 100000
/-! THE LAW: calls of both sides -/
section X108
variable {g : GC} {y : MethodName} {cc : ByteArray} {nL : Nat} {rt : Option FieldType} {hh : List (Nat × Nat × Nat × Nat)} {d kc ks : Nat} {G : MM} {pc : Nat} {lv : List (Option Value)} {st : List Value} {Q : Option Value → MM → Prop} {X : Nat → MM → Prop} {oX oM b L : Nat} {xs : Nat → Int32} {q q' : Sg}
theorem r_lx {y' : MethodName} {cc' : ByteArray} {nL' : Nat} {rt' : Option FieldType} {d' n idx : Nat} {As rest : List Value} {v0 : Value} (h : LI g oX oM b L xs q q G) (hd : decode cc pc = .ok (.invokevirtual idx, 3)) (hc : CV y.cls idx 0 y' cc' nL' rt' n) (hct : ∀ N P ta s, IX g N oX P ta s q → GI q → Ct g y' cc' nL' rt' d' 0 0 (.ref oX :: As) (putX N oX s) (QI g N oX P ta q' v0) noX) (hst : st = As.reverse ++ .ref oX :: rest) (hn : As.length = n) (hr : (rest.map fun v => v.category).sum ≤ 8) (hR : d' + 1 ≤ d) (k : ∀ G', LI g oX oM b L xs q q' G' → Bd g y cc nL rt hh d kc ks G' (pc + 3) lv (v0 :: rest) Q X) : Bd g y cc nL rt hh d kc ks G pc lv st Q X := by
  have hK := h.kX
  obtain ⟨N, P, ta, s, t, e, hI, hP, hM, hT, hb, ho, hG⟩ := h
  subst e
  refine r_cV hd hc hK (hct N P ta s hI hG) hst hn hr hR ?_
  rintro v M' ⟨s', e', ev, hI'⟩
  subst e' ev
  exact k _ ⟨N, P, ta, s', t, rfl, hI', hP, hM, hT, hb, ho, hG⟩
theorem r_lm {y' : MethodName} {cc' : ByteArray} {nL' : Nat} {rt' : Option FieldType} {d' n idx : Nat} {As rest : List Value} {v0 : Value} (h : LI g oX oM b L xs q q' G) (hG' : GI q → GI q') (hd : decode cc pc = .ok (.invokevirtual idx, 3)) (hc : CV y.cls idx 6 y' cc' nL' rt' n) (hct : ∀ N t, ShM g N oM → IM t q → GI q → Ct g y' cc' nL' rt' d' 0 0 (.ref oM :: As) (putM N oM t) (PM N oM q' v0) noX) (hst : st = As.reverse ++ .ref oM :: rest) (hn : As.length = n) (hr : (rest.map fun v => v.category).sum ≤ 8) (hR : d' + 1 ≤ d) (k : ∀ G', LI g oX oM b L xs q' q' G' → Bd g y cc nL rt hh d kc ks G' (pc + 3) lv (v0 :: rest) Q X) : Bd g y cc nL rt hh d kc ks G pc lv st Q X := by
  have hK := h.kM
  obtain ⟨N, P, ta, s, t, e, hI, hP, ⟨hM1, hM2, hM3⟩, hT, hb, ho, hG⟩ := h
  have hS := hI.W.S
  have hsm : ∀ c, oM ≤ c → c ≤ oM + 71 → Sm N (putX N oX s) c := fun c h1 h2 => Sm.put (fun z => by unfold owA at z; omega)
  have e1 : putM (putX N oX s) oM t = putX N oX s := by rw [put_comm ho.1, hM1]
  have ct := hct (putX N oX s) t (hM2.sm hsm) hM3 hG
  rw [e1, ← e] at ct
  refine r_cV hd hc hK ct hst hn hr hR ?_
  rintro v M' ⟨t', e', ev, hI'⟩
  subst e' ev
  rw [e, put_comm ho.1]
  have hlow : ∀ c, c < gb g → Sm N (putM N oM t') c := fun c hc => Sm.putM (fun z => by have := hS.1; omega)
  have hbs := hlow b hb.1
  exact k _ ⟨putM N oM t', P, ta, s, t', rfl, hI.mv (Nat.le_refl _) (fun _ _ => ⟨rfl, rfl⟩) (fun c hc => Sm.putM (hP c hc).2), hP, ⟨putM_putM N oM t' t', hM2, hI'⟩, ⟨hT.1.fr hlow, hT.2.fr hlow⟩, ⟨hb.1, hbs.1.trans hb.2.1, hbs.2.1.trans hb.2.2.1, fun j hj => by rw [hbs.2.2.1]; exact hb.2.2.2 j hj⟩, ho, hG' hG⟩
theorem r_lxW {y' : MethodName} {cc' : ByteArray} {nL' : Nat} {rt' : Option FieldType} {hh' : List (Nat × Nat × Nat × Nat)} {d' mc' ms' n idx kc' ks' : Nat} {As rest : List Value} {v0 : Value} (h : LI g oX oM b L xs q q G) (hd : decode cc pc = .ok (.invokevirtual idx, 3)) (hc : CVW y.cls idx 0 y' cc' nL' rt' hh' n) (hct : ∀ N P ta s, IX g N oX P ta s q → GI q → (∀ c, P c → c < mZ N) → TXT g N → WST g N → CtW g y' cc' nL' rt' hh' d' mc' ms' (.ref oX :: As) (putX N oX s) (QR g N oX P q' v0) noX) (hst : st = As.reverse ++ .ref oX :: rest) (hn : As.length = n) (hr : (rest.map fun v => v.category).sum ≤ 8) (hR : d' + 1 ≤ d) (hk : kc' + mc' ≤ kc) (hs : ks' + ms' ≤ ks) (k : ∀ G', LI g oX oM b L xs q q' G' → Bd g y cc nL rt hh d kc' ks' G' (pc + 3) lv (v0 :: rest) Q X) : Bd g y cc nL rt hh d kc ks G pc lv st Q X := by
  have hK := h.kX
  obtain ⟨N, P, ta, s, t, e, hI, hP, ⟨hM1, hM2, hM3⟩, hT, hb, ho, hG⟩ := h
  subst e
  have hS := hI.W.S
  refine r_cVW hd hc hK (hct N P ta s hI hG (fun c hc => (hP c hc).1) hT.1 hT.2) hst hn hr hR hk hs ?_
  rintro v M' ⟨ev, M2, P2, ta2, s2, e', hI', hF, hP2⟩
  subst e' ev
  have hmod : ∀ c, oM ≤ c → c ≤ oM + 71 → Sm N M2 c := fun c h1 h2 => hF.2 c (by omega) (fun z => by unfold owA at z; omega)
  have hlow : ∀ c, c < gb g → Sm N M2 c := fun c hc => hF.2 c (by have := hS.1; have := hS.2.1; omega) (fun z => by have := hS.1; unfold owA at z; omega)
  have hbs := hlow b hb.1
  exact k _ ⟨M2, P2, ta2, s2, t, rfl, hI', fun c hc => ⟨(hP2 c hc).1, fun z => by
    rcases (hP2 c hc).2 with w | w
    · exact (hP c w).2 z
    · omega⟩, ⟨HM.fo hM1 hmod, hM2.sm hmod, hM3⟩, ⟨hT.1.fr hlow, hT.2.fr hlow⟩, ⟨hb.1, hbs.1.trans hb.2.1, hbs.2.1.trans hb.2.2.1, fun j hj => by rw [hbs.2.2.1]; exact hb.2.2.2 j hj⟩, ⟨ho.1, Nat.le_trans ho.2 hF.1⟩, hG⟩
end X108
