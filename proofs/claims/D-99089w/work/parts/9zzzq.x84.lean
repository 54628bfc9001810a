set_option maxRecDepth 100000
/-! THE READER: the statements told -/
def cstB (K t F n a : Nat) (R : Pz (To × Nat)) : Nat := match R with
  | .ok y => K * (y.2 - a) + t
  | .error _ => K * (n - a) + F
theorem cstB_ok {K t F n a : Nat} {y : To × Nat} : cstB K t F n a (.ok y) = K * (y.2 - a) + t := rfl
theorem cstB_er {K t F n a : Nat} {e : Nat × Nat} : cstB K t F n a (.error e) = K * (n - a) + F := rfl
section X84
variable {g : GC} {M0 M : MM} {o n ta l v m a p x d : Nat} {f : Nat → Nat} {tA : Nat → Nat} {T : To}
theorem TW.cx {v5 : Int32} (h : TW g M0 M o n f ta l v tA T m a) : TW g M0 (sI M (o + 5) 5 v5) o n f ta l v tA T m a := by
  have ho := h.z0
  have hgb := h.w.1.2.1
  have hz := h.2.1.1
  have hS : ∀ c, c ≠ o + 5 → Sm M (sI M (o + 5) 5 v5) c := fun c hc => Sm.sI hc
  exact ⟨⟨h.w.1.at (by decide), h.w.2.1, h.w.2.2.1, h.w.2.2.2.1.fr (fun c hc => hS c (by omega)), h.w.2.2.2.2.fr (fun c hc => hS c (by omega))⟩, h.2.1.trans (T := fun c => c = o + 5 ∨ c = o + 6) (FM.sI fun _ => Or.inl rfl) (fun _ _ e => e) (fun _ _ e => e), ho, h.to, (mI_sIj (by decide)).trans h.2.2.2.2.1, (mI_sIj (by decide)).trans h.at, h.le, h.t.mv (Nat.le_refl _) (fun c h1 h2 => hS c (by omega)) (fun c hc => rfl), h.V⟩
theorem TW.rwa (h : TW g M0 M o n f ta l v tA T m a) (hx : x ≤ 3) : RWA g (sI M (o + 5) 5 (nI (cxN x))) o n f x 6 a := ⟨h.cx.w, h.le, h.cx.at, h.cx.2.2.2.2.1, Nat.le_refl _, mI_sIs _ _ _ _, hx⟩
theorem ct_X2_once0 (W : TW g M0 M o n f ta l v tA T m a) (hx : x ≤ 3) : Ct g yX2_once cX2_once 4 (some (.object "Retouched$Value")) 50 (cst 60 30 30 n a (sumP f n (atomP f n x 6) a)) (cst 4000 400 400 n a (sumP f n (atomP f n x 6) a)) [.ref (o + 5), .null, .int (nI p), .int (nI (cxN x))] M (RVQ (sI M (o + 5) 5 (nI (cxN x))) o 21 (sumP f n (atomP f n x 6) a)) (RVX (sI M (o + 5) 5 (nI (cxN x))) o (sumP f n (atomP f n x 6) a)) := by
  have h := W.w.1
  have hgb := h.2.1
  have r7 := h.2.2.2.2.2.2.2.1.1
  have W1 := W.rwa hx
  have r71 := W1.rd.2.2.2.2.2.2.2.1.1
  have hs := ct_sums (g := g) (o := o) (n := n) (f := f) (x := x) (oo := 6) _ a W1
  refine Ct.of (by decide) (Nat.le_of_ble_eq_true rfl) rfl ?_
  refine r_ald0 (pc := 0) dX2_once_0 ?_
  refine r_aload_nq (r := none) (pc := 1) dX2_once_1 rfl ?_
  refine r_ifnull (pc := 2) (tgt := 9) dX2_once_2 (by decide) (fun h2 => ?_) (fun _ h2 => ?_)
  · skip
    refine r_iconst (v := nI 0) (pc := 9) dX2_once_9 (by decide) ?_
    refine r_ild2 (pc := 10) dX2_once_10 ?_
    refine r_cV (ci := 2) (pc := 11) dX2_once_11 cv_X2_128 r7 (ct_most0 h) rfl rfl (Nat.le_of_ble_eq_true rfl) (by decide) ?_
    rintro _ M9 ⟨rfl, e9⟩
    rw [e9]
    refine r_ald0 (pc := 14) dX2_once_14 ?_
    refine r_ild3 (pc := 15) dX2_once_15 ?_
    refine r_putI (pc := 16) (ty := .int) dX2_once_16 fl_X2_162 ⟨rfl, rfl⟩ rfl rfl r7 (by omega) ?_
    refine r_ald0 (pc := 19) dX2_once_19 ?_
    refine r_cVx (ci := 2) (pc := 20) (kc' := 0) (ks' := 0) dX2_once_20 cv_X2_165 r71 hs rfl rfl (Nat.le_of_ble_eq_true rfl) (by decide) (by omega) (by omega) (fun q M' hx => hx) ?_
    rintro v9 M9 hV
    have hV9 := hV
    obtain ⟨y9, z9, hy9, rfl, -⟩ := hV
    refine r_aretR (pc := 23) dX2_once_23 ?_
    exact hV9
  · skip
    exact absurd h2 (by simp)
theorem ct_X2_once1 {xx : Nat} {c9 : Int32} (h : RDF g M o n f) : Ct g yX2_once cX2_once 4 (some (.object "Retouched$Value")) 50 0 0 [.ref (o + 5), .ref xx, .int (nI p), .int c9] M (fun _ _ => False) (XE M o 5 p) := by
  have r7 := h.2.2.2.2.2.2.2.1.1
  refine Ct.of (by decide) (Nat.le_of_ble_eq_true rfl) rfl ?_
  refine r_ald0 (pc := 0) dX2_once_0 ?_
  refine r_aload_nq (r := some xx) (pc := 1) dX2_once_1 rfl ?_
  refine r_ifnull (pc := 2) (tgt := 9) dX2_once_2 (by decide) (fun h2 => ?_) (fun _ h2 => ?_)
  · skip
    exact absurd h2 (by simp)
  · skip
    refine r_iconst (v := nI 1) (pc := 5) dX2_once_5 (by decide) ?_
    refine r_goto (pc := 6) (tgt := 10) dX2_once_6 (by decide) ?_
    refine r_ild2 (pc := 10) dX2_once_10 ?_
    refine r_cVx (ci := 2) (pc := 11) (kc' := 0) (ks' := 0) dX2_once_11 cv_X2_128 r7 (ct_most1 h) rfl rfl (Nat.le_of_ble_eq_true rfl) (by decide) (by omega) (by omega) (fun q M' hx => hx) ?_
    rintro _ M9 hF
    exact hF.elim
/-- what a value's cells are, seen from the terrace -/
theorem TW.pt {Mx M3 : MM} {zz : Nat} {cs : List Nat} {D : Nat} (h : TLD g M0 Mx o ta l v tA T m) (h0 : mZ M0 ≤ mZ Mx) (hV : VAL M3 o (fun c => mZ Mx ≤ c ∧ c < mZ M3) D zz cs) (hD : D ≤ 40) : VAL M3 o (Pt M0 M3 ta l v) 40 zz cs := by
  obtain ⟨a1, a2, a3⟩ := h.2.2.1
  exact VAL.fr (fun _ _ => Sm.rf) (fun c hc => ⟨by omega, hc.1.2, by omega, by omega, by omega, hc.2⟩) D 40 zz cs hD (VAL.nk D zz cs hV)
theorem TW.ptT {Mx M3 : MM} {zz : Nat} {cs : List Nat} {D : Nat} (h : TLD g M0 Mx o ta l v tA T m) (h0 : mZ M0 ≤ mZ Mx) (hV : TST M3 o (fun c => mZ Mx ≤ c ∧ c < mZ M3) D zz cs) (hD : D ≤ 40) : TST M3 o (Pt M0 M3 ta l v) 40 zz cs := by
  obtain ⟨a1, a2, a3⟩ := h.2.2.1
  exact TST.fr (fun _ _ => Sm.rf) (fun c hc => ⟨by omega, hc.1.2, by omega, by omega, by omega, hc.2⟩) D 40 zz cs hD (TST.nk D zz cs hV)
/-- a sum is told, for paints or minds -/
theorem TLD.codes {w zz : Nat} {cs : List Nat} (h : TLD g M0 M o ta l v tA T m) (hw : w < 2) (hV : VAL M o (Pt M0 M ta l v) 40 zz cs) : TLD g M0 (sR M ta (4 + w) (some zz)) o ta l v tA (pC T w cs) m := by
  refine h.at rfl (fun c hc => Sm.sR hc) rfl h.1.2.1 h.1.2.2.1 h.1.2.2.2.1 (mR_sRj (by omega)) rfl rfl (fun h1 h2 => ?_)
  have hT := h.2.2.2.2.2.2.2.2.2.2
  have eC : ∀ i, oC (pC T w cs) i = if i = w then some cs else oC T i := fun i => rfl
  refine ⟨fun i hi => ?_, ?_⟩
  · rw [eC]
    by_cases e : i = w
    · subst e
      rw [if_pos rfl]
      exact Or.inr ⟨cs, zz, rfl, mR_sRs _ _ _ _, VAL.fr h1 h2 40 40 zz cs (Nat.le_refl _) hV⟩
    · rw [if_neg e, mR_sRj (show 4 + i ≠ 4 + w by omega)]
      rcases hT.1 i hi with q | ⟨ds, y, q1, q2, q3⟩
      · exact Or.inl q
      · exact Or.inr ⟨ds, y, q1, q2, VAL.fr h1 h2 40 40 y ds (Nat.le_refl _) q3⟩
  · rw [eC, if_neg (by omega), mR_sRj (show 6 ≠ 4 + w by omega)]
    rcases hT.2 with q | ⟨ds, y, q1, q2, q3⟩
    · exact Or.inl q
    · exact Or.inr ⟨ds, y, q1, q2, TST.fr h1 h2 40 40 y ds (Nat.le_refl _) q3⟩
theorem TLD.codesT {zz : Nat} {cs : List Nat} (h : TLD g M0 M o ta l v tA T m) (hV : TST M o (Pt M0 M ta l v) 40 zz cs) : TLD g M0 (sR M ta 6 (some zz)) o ta l v tA (pC T 2 cs) m := by
  refine h.at rfl (fun c hc => Sm.sR hc) rfl h.1.2.1 h.1.2.2.1 h.1.2.2.2.1 (mR_sRj (by omega)) rfl rfl (fun h1 h2 => ?_)
  have hT := h.2.2.2.2.2.2.2.2.2.2
  have eC : ∀ i, oC (pC T 2 cs) i = if i = 2 then some cs else oC T i := fun i => rfl
  refine ⟨fun i hi => ?_, ?_⟩
  · rw [eC, if_neg (by omega), mR_sRj (show 4 + i ≠ 6 by omega)]
    rcases hT.1 i hi with q | ⟨ds, y, q1, q2, q3⟩
    · exact Or.inl q
    · exact Or.inr ⟨ds, y, q1, q2, VAL.fr h1 h2 40 40 y ds (Nat.le_refl _) q3⟩
  · rw [eC, if_pos rfl]
    exact Or.inr ⟨cs, zz, rfl, mR_sRs _ _ _ _, TST.fr h1 h2 40 40 zz cs (Nat.le_refl _) hV⟩
end X84
