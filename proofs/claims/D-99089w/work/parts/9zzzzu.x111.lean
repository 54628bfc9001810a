set_option maxRecDepth 100000
/-! THE LAW: from its entry -/
section X111
variable {g : GC} {M M0 M' : MM} {o b L : Nat} {xs : Nat → Int32}
theorem XNW.sm (h : XNW M0 o M') {c : Nat} (hc : c < o) : Sm M0 M' c := by
  obtain ⟨M2, -, h1, -, h2, -⟩ := h
  exact (h1 c hc).trans (h2 c (by omega) (by omega))
theorem XNW.z (h : XNW M0 o M') : mZ M' = o + 1517 := by
  obtain ⟨M2, -, -, h1, -⟩ := h
  exact h1
/-- X's own picture stands in a memory that agrees on its cells -/
theorem putX_sm {N M2 : MM} (hS : ∀ c, owA o c → Sm N M2 c) : putX M2 o (getX N o) = M2 := by
  refine Prod.ext rfl (Prod.ext rfl (Prod.ext rfl (Prod.ext ?_ (Prod.ext ?_ ?_))))
  · funext a j
    show (if a = o ∨ (o + 4 ≤ a ∧ a < o + 1517) then mI N (o + (a - o)) j else mI M2 a j) = mI M2 a j
    split
    · next h => rw [show o + (a - o) = a by omega, (hS a h).2.2.1]
    · rfl
  · funext a j
    show (if a = o ∨ (o + 4 ≤ a ∧ a < o + 1517) then mL N (o + (a - o)) j else mL M2 a j) = mL M2 a j
    split
    · next h => rw [show o + (a - o) = a by omega, (hS a h).2.2.2.1]
    · rfl
  · funext a j
    show (if a = o ∨ (o + 4 ≤ a ∧ a < o + 1517) then mR N (o + (a - o)) j else mR M2 a j) = mR M2 a j
    split
    · next h => rw [show o + (a - o) = a by omega, (hS a h).2.2.2.2]
    · rfl
theorem law_body (hW : GX g ∧ GO g ∧ SIOF g ∧ CMPS g) (hU : UNST g) (hV : SUPS g) (hNM : ∃ mi, NM g "[Ljava/lang/Object;" mi) (hz : gb g ≤ mZ M) (hT : TXT g M ∧ WST g M) (hb : b < gb g ∧ mK M b = 1 ∧ mN M b = L ∧ ∀ j, j < L → mI M b j = xs j) (hL : L ≤ 384) : Bd g yL cL_law 4 (some .boolean) [] 500 601024 7293034 M 0 [some (.ref b), none, none, none] [] QL noX := by
  refine r_new (pc := 0) (ci := 0) (kc' := 601023) (ks' := 7293011) dL_law_0 q183 q184 q145 (by decide) (by omega) (by omega) ?_
  have c1 : ZC (nw M (20 + 0) 0) (mZ M) 20 0 (fun _ => 0) (fun _ => none) := ZC.nw
  have c2 : ∀ c, c < mZ M → Sm M (nw M (20 + 0) 0) c := fun c hc => Sm.nw (by omega)
  have c3 : mZ (nw M (20 + 0) 0) = mZ M + 1 := mZ_nw _ _ _
  generalize nw M (20 + 0) 0 = M1 at *
  generalize hoX : mZ M = oX at *
  refine r_dup (pc := 3) dL_law_3 rfl ?_
  refine r_cIm (pc := 4) (kc' := 599507) (ks' := 7282350) dL_law_4 ci_L_9 (ct_X0_init hW.1 hW.2.1 hU hV hz c3 c1) rfl rfl (Nat.le_of_ble_eq_true rfl) (by decide) (by omega) (by omega) ?_
  rintro _ M2 ⟨rfl, x1⟩
  have x2 := x1.z
  have x3 : ∀ c, c < oX → Sm M M2 c := fun c hc => (c2 c hc).trans (x1.sm hc)
  have x4 := ix_new hW hz x1
  refine r_ast1 (pc := 7) dL_law_7 ?_
  refine r_new (pc := 8) (ci := 6) (kc' := 599506) (ks' := 7282237) dL_law_8 q1602 q1603 q157 (by decide) (by omega) (by omega) ?_
  have d1 : ZC (nw M2 (20 + 6) 0) (mZ M2) 26 0 (fun _ => 0) (fun _ => none) := ZC.nw
  have d2 : ∀ c, c < mZ M2 → Sm M2 (nw M2 (20 + 6) 0) c := fun c hc => Sm.nw (by omega)
  have d3 : mZ (nw M2 (20 + 6) 0) = mZ M2 + 1 := mZ_nw _ _ _
  generalize nw M2 (20 + 6) 0 = M3 at *
  generalize hoM : mZ M2 = oM at *
  refine r_dup (pc := 11) dL_law_11 rfl ?_
  refine r_cIm (pc := 12) (kc' := 599435) (ks' := 7264993) dL_law_12 ci_L_12 (ct_X6_init (by omega) d3 d1) rfl rfl (Nat.le_of_ble_eq_true rfl) (by decide) (by omega) (by omega) ?_
  rintro _ M4 ⟨rfl, y1⟩
  have y2 : ∀ c, c < oM → Sm M2 M4 c := fun c hc => (d2 c hc).trans (y1.2.1 c hc)
  have y3 : mZ M4 = oM + 72 := y1.1
  refine r_ast2 (pc := 15) dL_law_15 ?_
  refine r_iconst (v := nI 0) (pc := 16) dL_law_16 (by decide) ?_
  refine r_ist3 (pc := 17) dL_law_17 ?_
  have hlow : ∀ c, c < gb g → Sm M M4 c := fun c hc => (x3 c (by omega)).trans (y2 c (by omega))
  have hbs := hlow b hb.1
  refine law_loop (xs := xs) hL hNM (L / 6) 0 q00 M4 _ _ (by omega) (by omega) (by show 0 + 20 * (L / 6) ≤ 1280; omega) (by show 60 * (0 + 20 * (L / 6)) + 110 * (L / 6) ≤ _; omega) (by show 4000 * (0 + 20 * (L / 6)) + 16000 * (L / 6) ≤ _; omega) ⟨M4, _, oX + 1, getX M2 oX, getM M4 oM, (putX_sm (fun c hc => y2 c (by unfold owA at hc; omega))).symm, x4.mv (by omega) (fun c hc => ?_) (fun c hc => y2 c (by omega)), fun c hc => ⟨by omega, by omega⟩, ⟨putM_get M4 oM, sh_new (by omega) y1, im_new y1⟩, ⟨hT.1.fr hlow, hT.2.fr hlow⟩, ⟨hb.1, hbs.1.trans hb.2.1, hbs.2.1.trans hb.2.2.1, fun j hj => by rw [hbs.2.2.1]; exact hb.2.2.2 j hj⟩, ⟨by omega, by omega⟩, GI00⟩
  have := y2 (oX + c) (by unfold ow at hc; omega)
  exact ⟨this.1, this.2.1⟩
end X111
