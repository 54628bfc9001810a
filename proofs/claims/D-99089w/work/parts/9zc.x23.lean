set_option maxRecDepth 100000
/-! RETOUCHED: acts -/
section X23
variable {g : GC} {M : MM} {o ta : Nat} {P : Nat → Prop} {s : XS} {q : Sg}
/-- a new now -/
theorem IX.now {s' : XS} {t' : St} {L' : List Ev} (h : IX g M o P ta s q) (hG : GI q) (hN : SX s' 12 (tn (gT q)) (fa (gT q)) (ki (gT q)) t') (hR : RX s' o 12 L') (hF : FrX (yP 12) s s') (hX : FxX (rX s') o) (hm : MmX s' 8) : IX g M o P ta s' (uNw q (t', L')) := by
  obtain ⟨w1, w2, a1, a2, a3, a4, a5, a6, a7, a8, a9, a10⟩ := h
  have hn : tn (gT q) ≤ 8 := w1.B.1
  have hy : ∀ c, yP 12 c → c = 8 ∨ (12 ≤ c ∧ c < 68) := fun c hc => by unfold yP stP at hc; omega
  have hr : ∀ c, ¬ yP 12 c → rX s' c = rX s c := hF.2.2
  refine ⟨w1.to hX (by rw [hr 0 (fun z => by have := hy _ z; omega)]) hm, w2, a1.fr (Ag.of hF fun c j r z => ?_), a2.fr (Ag.of hF fun c j r z => ?_), a3.fr (Ag.of hF fun c j r z => ?_), ⟨hN, hR⟩, a5.fr hn ?_ (Ag.of hF fun c j r z => ?_) (fun c j h1 h2 => by rw [hr c (fun z => by have := hy _ z; omega)]), fun b hb => ?_, a7.fr (Ag.of hF fun c j r z => ?_), ?_, a9.fr (Ag.of hF fun c j r z => ?_), fun k hk => ?_⟩
  · have := hy _ z; unfold rTp at r; omega
  · have := hy _ z; unfold rFt at r; omega
  · have := hy _ z; unfold rRf at r; omega
  · exact hG.2.2.2.2.2.2.2.1
  · have := hy _ z; unfold rUn at r; omega
  · by_cases e : b = 12
    · subst e; obtain ⟨pm, hp, -⟩ := hR; exact ⟨pm, hp⟩
    · have := isS_c hb
      obtain ⟨pm, p1, p2⟩ := a6 b hb
      exact ⟨pm, fun j hj => ⟨(p1 j hj).1, by rw [hr (b + 15) (fun z => by have := hy _ z; omega)]; exact (p1 j hj).2⟩, p2⟩
  · have := hy _ z; unfold rRw at r; omega
  · unfold cSd; rw [hF.2.1 0 (fun z => by have := hy _ z; omega)]; exact a8
  · have := hy _ z; unfold rOu at r; omega
  · rw [hF.2.1 10 (fun z => by have := hy _ z; omega)]; exact a10 k hk
theorem YrQ.now {T : Te} {s' : XS} {t' : St} {L' : List Ev} (h : YrQ g M o P ta T 12 s t' L' s') (hT : T = gT q) (hI : IX g M o P ta s q) (hG : GI q) : IX g M o P ta s' (uNw q (t', L')) := by
  subst hT
  exact hI.now hG h.2.1 h.2.2.1 h.2.2.2 h.1.X h.1.m
theorem xcurtainLoop {p : Nat} (hG : GI q) (hp : p < tn (gT q)) (hI0 : IX g M o P ta s q) : ∀ m k s1 L1, k + m = min 61 (1000 - yr (gS q)) → YrQ g M o P ta (gT q) 68 s (yearsS (gT q) k (gS q)).1 L1 s1 →
    Bd g yX0_curtain cX0_curtain 3 (some Jvm.ClassFile.FieldType.int) [] 433 0 0 (putX M o s1) 24 [some (.ref o), some (.int (nI p)), some (.int (nI k))] [] (QI g M o P ta q (.int (oI (gone (gT q) (gS q) p m k)))) noX := by
  have hy : yr (gS q) ≤ 999 := hG.2.2.2.2.2.1.2.1
  have hH : 0 < tH (gT q) := by have := hG.2.2.2.2.2.1.2.2.1 p hp; omega
  intro m
  induction m with
  | zero =>
    intro k s1 L1 hk hQ
    have hI := hQ.I hI0 hG
    have W := hI.W
    have S := hI.So
    have hg := W.gx
    have hS := W.S
    have hX := W.X
    have hTB := W.B
    have hn8 := hTB.1
    have hH9 := hTB.2.1
    have hN := hI.nw.1
    have hR := hI.nw.2
    have hB : SB (tn (gT q)) (gS q) := hG.2.2.2.2.2.1.1
    refine r_ald0 (pc := 24) dX0_curtain_24 ?_
    refine r_ild2 (pc := 25) dX0_curtain_25 ?_
    refine r_iconst (v := nI 0) (pc := 26) dX0_curtain_26 (by decide) ?_
    refine r_bipush (v := nI 60) (pc := 27) dX0_curtain_27 (by decide) ?_
    refine r_cV (pc := 29) dX0_curtain_29 cv_X0_236 (hS.k (c := 0) ow_0 kd_0) (ct_X0_isAhead W hN.1 hB.1 (by decide) (by decide)) rfl rfl (Nat.le_of_ble_eq_true rfl) (by first | decide | omega) ?_
    rintro _ _ ⟨rfl, rfl⟩
    first | refine r_if_eqZ (pc := 32) (tgt := 63) dX0_curtain_32 (by decide) (fun h32 => ?_) (fun h32 => ?_) | refine r_if_eqN (pc := 32) (tgt := 63) dX0_curtain_32 (by decide) (by omega) (fun h32 => ?_) (fun h32 => ?_) | refine r_if_eq (pc := 32) (tgt := 63) dX0_curtain_32 (by decide) (fun h32 => ?_) (fun h32 => ?_)
    · skip
      refine r_iconst (v := -1) (pc := 63) dX0_curtain_63 (by decide) ?_
      refine r_iret (pc := 64) dX0_curtain_64 ?_
      exact ⟨s1, rfl, rfl, hI⟩
    · skip
      exfalso
      rw [nI_toInt (by omega)] at h32
      omega
  | succ m ih =>
    intro k s1 L1 hk hQ
    have hI := hQ.I hI0 hG
    have W := hI.W
    have S := hI.So
    have hg := W.gx
    have hS := W.S
    have hX := W.X
    have hTB := W.B
    have hn8 := hTB.1
    have hH9 := hTB.2.1
    have hN := hI.nw.1
    have hR := hI.nw.2
    have hB : SB (tn (gT q)) (gS q) := hG.2.2.2.2.2.1.1
    have hBk := yearsS_SB k (gT q) (gS q) hB (by omega)
    have hlk := (hBk.2 p hp).2.1
    have hyk := yearsS_yr k (gT q) (gS q)
    refine r_ald0 (pc := 24) dX0_curtain_24 ?_
    refine r_ild2 (pc := 25) dX0_curtain_25 ?_
    refine r_iconst (v := nI 0) (pc := 26) dX0_curtain_26 (by decide) ?_
    refine r_bipush (v := nI 60) (pc := 27) dX0_curtain_27 (by decide) ?_
    refine r_cV (pc := 29) dX0_curtain_29 cv_X0_236 (hS.k (c := 0) ow_0 kd_0) (ct_X0_isAhead W hN.1 hB.1 (by decide) (by decide)) rfl rfl (Nat.le_of_ble_eq_true rfl) (by first | decide | omega) ?_
    rintro _ _ ⟨rfl, rfl⟩
    first | refine r_if_eqZ (pc := 32) (tgt := 63) dX0_curtain_32 (by decide) (fun h32 => ?_) (fun h32 => ?_) | refine r_if_eqN (pc := 32) (tgt := 63) dX0_curtain_32 (by decide) (by omega) (fun h32 => ?_) (fun h32 => ?_) | refine r_if_eq (pc := 32) (tgt := 63) dX0_curtain_32 (by decide) (fun h32 => ?_) (fun h32 => ?_)
    · skip
      exfalso
      rw [nI_toInt (by omega)] at h32
      omega
    · skip
      refine r_ald0 (pc := 35) dX0_curtain_35 ?_
      refine x_getR (c := 0) hS ow_0 kd_0 (pc := 36) dX0_curtain_36 fl_X0_73 (fx_0_10 hX) ?_
      refine x_getRN (c := 68) hS (st_ow isS_68) (st_kd isS_68) (pc := 39) dX0_curtain_39 (fn_X0_174 hg) (fs_4 hX isS_68) ?_
      refine r_ild1 (pc := 42) dX0_curtain_42 ?_
      refine x_iald (c := (68 + 2)) hS (st_ow2 isS_68) (st_kd2 isS_68) (st_ln2 isS_68) (pc := 43) dX0_curtain_43 (by omega) (by omega) ?_
      refine Bd.eqI (hQ.2.1.2.2.2.1 p hp) ?_
      refine r_if_neN (pc := 44) (tgt := 49) dX0_curtain_44 (by decide) (by omega) (fun h44 => ?_) (fun h44 => ?_)
      · skip
        have hg1 : gone (gT q) (gS q) p (m + 1) k = gone (gT q) (gS q) p m (k + 1) := by unfold gone; show (if (lk (yearsS (gT q) k (gS q)).1 p == 0) = true then some k else ff _ m (k + 1)) = _; rw [if_neg (by simpa using h44)]
        rw [hg1]
        refine r_ald0 (pc := 49) dX0_curtain_49 ?_
        refine x_getR (c := 0) hS ow_0 kd_0 (pc := 50) dX0_curtain_50 fl_X0_73 (fx_0_10 hX) ?_
        refine r_cV (pc := 53) dX0_curtain_53 cv_X0_247 (hS.k (c := 68) (st_ow isS_68) (st_kd isS_68)) (ct_X5_passes hQ.1 isS_68 hQ.2.1 hQ.2.2.1 hBk (by omega)) rfl rfl (Nat.le_of_ble_eq_true rfl) (by first | decide | omega) ?_
        rintro _ _ ⟨s2, rfl, rfl, hQ2⟩
        have hQ2 := hQ2.from hQ.2.2.2
        rw [← yearsS_succ] at hQ2
        refine r_pop (pc := 56) dX0_curtain_56 rfl ?_
        first | refine r_iinc2N (j := 1) (pc := 57) dX0_curtain_57 rfl ?_ | refine r_iinc2 (pc := 57) dX0_curtain_57 ?_
        refine r_goto (pc := 60) (tgt := 24) dX0_curtain_60 (by decide) ?_
        exact ih (k + 1) s2 _ (by omega) hQ2
      · skip
        have hg1 : gone (gT q) (gS q) p (m + 1) k = some k := by unfold gone; show (if (lk (yearsS (gT q) k (gS q)).1 p == 0) = true then some k else ff _ m (k + 1)) = _; rw [if_pos (by simpa using h44)]
        refine r_ild2 (pc := 47) dX0_curtain_47 ?_
        refine r_iret (pc := 48) dX0_curtain_48 ?_
        exact ⟨s1, rfl, by rw [hg1]; rfl, hI⟩
theorem px_curtain {x : Int32} (hI : IX g M o P ta s q) (hG : GI q) : Ct g yX0_curtain cX0_curtain 3 (some Jvm.ClassFile.FieldType.int) 433 0 0 [.ref o, .int x] (putX M o s) (QI g M o P ta q (.int (curtS q x))) noX := by
  have W := hI.W
  have S := hI.So
  have hg := W.gx
  have hS := W.S
  have hX := W.X
  have hTB := W.B
  have hn8 := hTB.1
  have hH9 := hTB.2.1
  have hN := hI.nw.1
  have hR := hI.nw.2
  have hB : SB (tn (gT q)) (gS q) := hG.2.2.2.2.2.1.1
  obtain ⟨pm, hpm⟩ := hI.pm 68 isS_68
  refine Ct.of (by decide) (Nat.le_of_ble_eq_true rfl) rfl ?_
  unfold curtS
  cases hp : pidx x (tn (gT q)) with
  | none =>
    have hp := pidx_none hp
    refine r_ald0 (pc := 0) dX0_curtain_0 ?_
    refine r_ild1 (pc := 1) dX0_curtain_1 ?_
    refine r_cV (pc := 2) dX0_curtain_2 cv_X0_161 (hS.k (c := 0) ow_0 kd_0) (ct_X0_isPerson W S) rfl rfl (Nat.le_of_ble_eq_true rfl) (by first | decide | omega) ?_
    rintro _ _ ⟨rfl, rfl⟩
    first | refine r_if_neZ (pc := 5) (tgt := 10) dX0_curtain_5 (by decide) (fun h5 => ?_) (fun h5 => ?_) | refine r_if_neN (pc := 5) (tgt := 10) dX0_curtain_5 (by decide) (by omega) (fun h5 => ?_) (fun h5 => ?_) | refine r_if_ne (pc := 5) (tgt := 10) dX0_curtain_5 (by decide) (fun h5 => ?_) (fun h5 => ?_)
    · skip
      exact absurd h5 hp
    · skip
      refine r_iconst (v := -1) (pc := 8) dX0_curtain_8 (by decide) ?_
      refine r_iret (pc := 9) dX0_curtain_9 ?_
      exact ⟨s, rfl, rfl, hI⟩
  | some p =>
    obtain ⟨hp1, rfl⟩ := pidx_some hp
    refine r_ald0 (pc := 0) dX0_curtain_0 ?_
    refine r_ild1 (pc := 1) dX0_curtain_1 ?_
    refine r_cV (pc := 2) dX0_curtain_2 cv_X0_161 (hS.k (c := 0) ow_0 kd_0) (ct_X0_isPerson W S) rfl rfl (Nat.le_of_ble_eq_true rfl) (by first | decide | omega) ?_
    rintro _ _ ⟨rfl, rfl⟩
    first | refine r_if_neZ (pc := 5) (tgt := 10) dX0_curtain_5 (by decide) (fun h5 => ?_) (fun h5 => ?_) | refine r_if_neN (pc := 5) (tgt := 10) dX0_curtain_5 (by decide) (by omega) (fun h5 => ?_) (fun h5 => ?_) | refine r_if_ne (pc := 5) (tgt := 10) dX0_curtain_5 (by decide) (fun h5 => ?_) (fun h5 => ?_)
    · skip
      refine r_ald0 (pc := 10) dX0_curtain_10 ?_
      refine x_getR (c := 0) hS ow_0 kd_0 (pc := 11) dX0_curtain_11 fl_X0_73 (fx_0_10 hX) ?_
      refine r_ald0 (pc := 14) dX0_curtain_14 ?_
      refine x_getR (c := 0) hS ow_0 kd_0 (pc := 15) dX0_curtain_15 fl_X0_69 (fx_0_9 hX) ?_
      refine r_cV (pc := 18) dX0_curtain_18 cv_X0_239 (hS.k (c := 68) (st_ow isS_68) (st_kd isS_68)) (ct_X5_copy hS hX isS_68 isS_12 (by decide) hN hn8 hR hpm) rfl rfl (Nat.le_of_ble_eq_true rfl) (by first | decide | omega) ?_
      rintro _ _ ⟨s1, rfl, rfl, hN1, hR1, hr1, hF1⟩
      have W1 := hI.copyd hr1 hF1
      refine r_pop (pc := 21) dX0_curtain_21 rfl ?_
      refine r_iconst (v := nI 0) (pc := 22) dX0_curtain_22 (by decide) ?_
      refine r_ist2 (pc := 23) dX0_curtain_23 ?_
      exact xcurtainLoop hG hp1 hI (min 61 (1000 - yr (gS q))) 0 s1 _ (by omega) ⟨W1, hN1, hR1, hF1.mono (fun c hc => Or.inl hc)⟩
    · skip
      exact absurd (by rw [nI_toInt (by omega)]; omega) h5
/-- the kept states turned round so far -/
def KpR (s : XS) (o : Nat) (pk : Nat → Nat) (k : Nat) (s1 : XS) : Prop := iX s1 = iX s ∧ lX s1 = lX s ∧ (∀ c, c ≠ 395 → rX s1 c = rX s c) ∧ ∀ j, j < 20 → rX s1 395 j = some (o + (396 + 56 * (if j < k then pk (j + 1) else pk j)))
theorem fx395 {r r' : Nat → Nat → Option Nat} (h : FxX r o) (hc : ∀ c, c ≠ 395 → r' c = r c) : FxX r' o := h.of (fun c j hf => by
  rw [hc c (fun e => by
    rcases hf with h | h | h | h | h | h | ⟨b, hb, h⟩
    all_goals try omega
    have := isS_c hb
    rcases hb with hb | hb | ⟨k, hk, hb⟩ <;> omega)])
theorem KpR.fx {pk : Nat → Nat} {k : Nat} {s1 : XS} (h : KpR s o pk k s1) (hX : FxX (rX s) o) : FxX (rX s1) o := fx395 hX h.2.2.1
theorem xkeepsLoop {pk : Nat → Nat} {Q : Option Value → MM → Prop} (hS : ShX g M o) (hX : FxX (rX s) o) (hpk : ∀ j, j < 20 → pk j < 20) (K : ∀ s2, KpR s o pk 19 s2 → Bd g yX0_keeps cX0_keeps 3 none [] 1 0 0 (putX M o s2) 44 [some (.ref o), some (.ref (o + (396 + 56 * pk 0))), none] [] Q noX) : ∀ m k s1, k + m = 20 → 1 ≤ k → KpR s o pk (k - 1) s1 →
    Bd g yX0_keeps cX0_keeps 3 none [] 1 0 0 (putX M o s1) 18 [some (.ref o), some (.ref (o + (396 + 56 * pk 0))), some (.int (nI k))] [] Q noX := by
  have hX0 := hX
  intro m
  induction m with
  | zero =>
    intro k s1 hk h1 hR
    obtain rfl : k = 20 := by omega
    have hX := hR.fx hX0
    refine r_ild2 (pc := 18) dX0_keeps_18 ?_
    refine r_bipush (v := nI 20) (pc := 19) dX0_keeps_19 (by decide) ?_
    first | refine r_icmp_geN (pc := 21) (tgt := 44) dX0_keeps_21 (by decide) (by omega) (by omega) (fun h21 => ?_) (fun h21 => ?_) | refine r_icmp_ge (pc := 21) (tgt := 44) dX0_keeps_21 (by decide) (fun h21 => ?_) (fun h21 => ?_)
    · skip
      refine Bd.kill 2 ?_
      exact K s1 hR
    · skip
      exact absurd h21 (by decide)
  | succ m ih =>
    intro k s1 hk h1 hR
    have hX := hR.fx hX0
    have hr := hR.2.2.2 k (by omega)
    rw [if_neg (by omega)] at hr
    have hp := hpk k (by omega)
    refine r_ild2 (pc := 18) dX0_keeps_18 ?_
    refine r_bipush (v := nI 20) (pc := 19) dX0_keeps_19 (by decide) ?_
    first | refine r_icmp_geN (pc := 21) (tgt := 44) dX0_keeps_21 (by decide) (by omega) (by omega) (fun h21 => ?_) (fun h21 => ?_) | refine r_icmp_ge (pc := 21) (tgt := 44) dX0_keeps_21 (by decide) (fun h21 => ?_) (fun h21 => ?_)
    · skip
      exact absurd h21 (by omega)
    · skip
      refine r_ald0 (pc := 24) dX0_keeps_24 ?_
      refine x_getR (c := 0) hS ow_0 kd_0 (pc := 25) dX0_keeps_25 fl_X0_93 (fx_0_17 hX) ?_
      refine r_ild2 (pc := 28) dX0_keeps_28 ?_
      refine r_iconst (v := nI 1) (pc := 29) dX0_keeps_29 (by decide) ?_
      refine r_isubN (pc := 30) dX0_keeps_30 (by omega) ?_
      refine r_ald0 (pc := 31) dX0_keeps_31 ?_
      refine x_getR (c := 0) hS ow_0 kd_0 (pc := 32) dX0_keeps_32 fl_X0_93 (fx_0_17 hX) ?_
      refine r_ild2 (pc := 35) dX0_keeps_35 ?_
      refine x_aald (c := 395) (j := k) hS ow_395 kd_395 (by decide) ln_395 (pc := 36) dX0_keeps_36 (by omega) (by omega) hr ?_
      refine x_aast8 (c := 395) (v := 396 + 56 * pk k) hS ow_395 kd_395 ln_395 (pc := 37) dX0_keeps_37 (by omega) (by omega) (st_ow (isS_kp hp)) (st_kd (isS_kp hp)) ?_
      first | refine r_iinc2N (j := 1) (pc := 38) dX0_keeps_38 rfl ?_ | refine r_iinc2 (pc := 38) dX0_keeps_38 ?_
      refine r_goto (pc := 41) (tgt := 18) dX0_keeps_41 (by decide) ?_
      refine ih (k + 1) _ (by omega) (by omega) ⟨hR.1, hR.2.1, fun c hc => ?_, fun j hj => ?_⟩
      · rw [show rX (uR s1 395 (k - 1) (some (o + (396 + 56 * pk k)))) c = rX s1 c from funext fun j => by rw [rX_uR, if_neg (fun z => hc z.1)]]; exact hR.2.2.1 c hc
      · rw [rX_uR]
        by_cases e : j = k - 1
        · rw [if_pos ⟨rfl, e⟩, if_pos (by omega), show j + 1 = k by omega]
        · rw [if_neg (fun z => e z.2), hR.2.2.2 j hj]
          by_cases e2 : j < k - 1
          · rw [if_pos e2, if_pos (by omega)]
          · rw [if_neg e2, if_neg (by omega)]

theorem xkeepsTail {s1 : XS} {x1 x2 : Option Value} {U : List (St × List Ev)} (hI : IX g M o P ta s1 (uUn q U)) (hG : GI q) (hU : U.length < 20) :
    Bd g yX0_keeps cX0_keeps 3 none [] 1 0 0 (putX M o s1) 62 [some (.ref o), x1, x2] [] (QX M o (fun v s' => v = none ∧ IX g M o P ta s' (uUn q ((gS q, gK q) :: U)))) noX := by
  have W := hI.W
  have hS := W.S
  have hX := W.X
  have hn8 : tn (gT q) ≤ 8 := W.B.1
  have hN : SX s1 12 (tn (gT q)) (fa (gT q)) (ki (gT q)) (gS q) := hI.nw.1
  have hR : RX s1 o 12 (gK q) := hI.nw.2
  obtain ⟨hu, pk, hpk, hE⟩ := hI.un
  have hu : iX s1 0 18 = nI U.length := hu
  have hE : ∀ i x, U[i]? = some x → SX s1 (396 + 56 * pk (U.length - 1 - i)) (tn (gT q)) (fa (gT q)) (ki (gT q)) x.1 ∧ RX s1 o (396 + 56 * pk (U.length - 1 - i)) x.2 := hE
  obtain ⟨k1, k2⟩ := hpk.1 U.length hU
  have hb := isS_kp k1
  obtain ⟨pm, hpm⟩ := hI.pm _ hb
  obtain ⟨w1, w2, a1, a2, a3, a4, a5, a6, a7, a8, a9, a10⟩ := hI
  refine r_ald0 (pc := 62) dX0_keeps_62 ?_
  refine x_getR (c := 0) hS ow_0 kd_0 (pc := 63) dX0_keeps_63 fl_X0_93 (fx_0_17 hX) ?_
  refine r_ald0 (pc := 66) dX0_keeps_66 ?_
  refine x_getI (c := 0) hS ow_0 kd_0 (pc := 67) dX0_keeps_67 fl_X0_137 ?_
  rw [hu]
  refine x_aald (c := 395) (j := U.length) hS ow_395 kd_395 (by decide) ln_395 (pc := 70) dX0_keeps_70 (by omega) (by omega) k2 ?_
  refine r_ald0 (pc := 71) dX0_keeps_71 ?_
  refine x_getR (c := 0) hS ow_0 kd_0 (pc := 72) dX0_keeps_72 fl_X0_69 (fx_0_9 hX) ?_
  refine r_cV (pc := 75) dX0_keeps_75 cv_X0_239 (hS.k (c := (396 + 56 * pk U.length)) (st_ow hb) (st_kd hb)) (ct_X5_copy hS hX hb isS_12 (by omega) hN hn8 hR hpm) rfl rfl (Nat.le_of_ble_eq_true rfl) (by first | decide | omega) ?_
  rintro _ _ ⟨s2, rfl, rfl, hN2, hR2, hr2, hF2⟩
  have hX := (show FxX (rX s2) o by rw [hr2]; exact hX)
  refine r_pop (pc := 78) dX0_keeps_78 rfl ?_
  refine r_ald0 (pc := 79) dX0_keeps_79 ?_
  refine r_dup (pc := 80) dX0_keeps_80 rfl ?_
  refine x_getI (c := 0) hS ow_0 kd_0 (pc := 81) dX0_keeps_81 fl_X0_137 ?_
  rw [show iX s2 0 18 = nI U.length by rw [hF2.1 0 (fun z => by unfold stP at z; omega)]; exact hu]
  refine r_iconst (v := nI 1) (pc := 84) dX0_keeps_84 (by decide) ?_
  first | refine r_iaddN (pc := 85) dX0_keeps_85 ?_ | refine r_iaddJ (pc := 85) dX0_keeps_85 ?_ | refine r_iadd (pc := 85) dX0_keeps_85 ?_
  refine x_putI (c := 0) hS ow_0 kd_0 (pc := 86) dX0_keeps_86 fl_X0_137 fw_X0_18 rfl rfl ?_
  refine r_vret (pc := 89) dX0_keeps_89 ?_
  have hst : ∀ c, stP (396 + 56 * pk U.length) c → 396 + 56 * pk U.length ≤ c ∧ c < 396 + 56 * pk U.length + 56 := fun c z => z
  refine ⟨_, rfl, rfl, w1.rx hr2 (fun k hk => by rw [show lX (uI s2 0 18 (nI (U.length + 1))) 8 = lX s1 8 from hF2.2.1 8 (fun z => by have := hst _ z; omega)]; exact w1.m k hk), w2, a1.fr ((Ag.of hF2 fun c j r z => by have := hst _ z; unfold rTp at r; omega).trans (Ag.uI (by unfold rTp; omega))), a2.fr ((Ag.of hF2 fun c j r z => by have := hst _ z; unfold rFt at r; omega).trans (Ag.uI (by unfold rFt; omega))), a3.fr ((Ag.of hF2 fun c j r z => by have := hst _ z; unfold rRf at r; omega).trans (Ag.uI (by unfold rRf; omega))), a4.fr hn8 ((Ag.of hF2 fun c j r z => by have := hst _ z; unfold rNw at r; omega).trans (Ag.uI (by unfold rNw; omega))) (fun j => by rw [rX_uI, hr2]), ⟨iX_s, pk, (by rw [rX_uI, hr2]; exact hpk), fun i x hx => ?_⟩, (by unfold cPm; rw [rX_uI, hr2]; exact a6), a7.fr ((Ag.of hF2 fun c j r z => by have := hst _ z; unfold rRw at r; omega).trans (Ag.uI (by unfold rRw; omega))), (by unfold cSd; rw [lX_uI, hF2.2.1 0 (fun z => by have := hst _ z; omega)]; exact a8), a9.fr ((Ag.of hF2 fun c j r z => by have := hst _ z; unfold rOu at r; omega).trans (Ag.uI (by unfold rOu; omega))), fun k hk => by rw [lX_uI, hF2.2.1 10 (fun z => by have := hst _ z; omega)]; exact a10 k hk⟩
  have hx : ((gS q, gK q) :: U)[i]? = some x := hx
  show SX _ (396 + 56 * pk (U.length + 1 - 1 - i)) (tn (gT q)) (fa (gT q)) (ki (gT q)) x.1 ∧ RX _ o (396 + 56 * pk (U.length + 1 - 1 - i)) x.2
  cases i with
  | zero =>
    cases hx
    rw [show U.length + 1 - 1 - 0 = U.length by omega]
    exact ⟨hN2.fr (fun c h1 h2 j _ => by rw [iX_c (by omega)]) hn8, hR2.fr (fun c j hc => by rw [iX_c (by omega)]) (fun _ => rfl)⟩
  | succ i =>
    have hx : U[i]? = some x := hx
    have hi : i < U.length := (List.getElem?_eq_some_iff.mp hx).1
    rw [show U.length + 1 - 1 - (i + 1) = U.length - 1 - i by omega]
    obtain ⟨e1, e2⟩ := hE i x hx
    have hp2 := (hpk.1 (U.length - 1 - i) (by omega)).1
    have hne : pk (U.length - 1 - i) ≠ pk U.length := fun z => by have := hpk.2 _ _ (by omega) hU z; omega
    exact ⟨e1.fr (fun c h1 h2 j _ => by rw [iX_c (by omega), hF2.1 c (fun z => by have := hst _ z; omega)]) hn8, e2.fr (fun c j hc => by rw [iX_c (by omega), hF2.1 c (fun z => by have := hst _ z; omega)]) (fun j => by rw [rX_uI, hr2])⟩

theorem xkeepsMid {s2 : XS} {pk : Nat → Nat} (hI : IX g M o P ta s q) (hG : GI q) (h20 : (gUn q).length = 20) (hpk : pkX (rX s) o pk) (hE : ∀ i x, (gUn q)[i]? = some x → SX s (396 + 56 * pk ((gUn q).length - 1 - i)) (tn (gT q)) (fa (gT q)) (ki (gT q)) x.1 ∧ RX s o (396 + 56 * pk ((gUn q).length - 1 - i)) x.2) (hK : KpR s o pk 19 s2) :
    Bd g yX0_keeps cX0_keeps 3 none [] 1 0 0 (putX M o s2) 44 [some (.ref o), some (.ref (o + (396 + 56 * pk 0))), none] [] (QX M o (fun v s' => v = none ∧ IX g M o P ta s' (uUn q ((gS q, gK q) :: (gUn q).take 19)))) noX := by
  have W := hI.W
  have hS := W.S
  have hX := hK.fx W.X
  have hn8 : tn (gT q) ≤ 8 := W.B.1
  have k1 := (hpk.1 0 (by decide)).1
  have hu := hI.un.1
  obtain ⟨c1, c2, c3, c4⟩ := hK
  have htk : ((gUn q).take 19).length = 19 := by rw [List.length_take]; omega
  obtain ⟨w1, w2, a1, a2, a3, a4, a5, a6, a7, a8, a9, a10⟩ := hI
  have ri : ∀ c j, iX (uI (uR s2 395 19 (some (o + (396 + 56 * pk 0)))) 0 18 (nI 19)) c j = if c = 0 ∧ j = 18 then nI 19 else iX s c j := fun c j => by rw [iX_uI, iX_uR, c1]
  have rr : ∀ c, c ≠ 395 → rX (uI (uR s2 395 19 (some (o + (396 + 56 * pk 0)))) 0 18 (nI 19)) c = rX s c := fun c hc => by rw [rX_uI, ← c3 c hc]; funext j; rw [rX_uR, if_neg (fun z => hc z.1)]
  have rl : lX (uI (uR s2 395 19 (some (o + (396 + 56 * pk 0)))) 0 18 (nI 19)) = lX s := by rw [lX_uI, lX_uR, c2]
  have hag : ∀ R : Nat → Nat → Prop, ¬ R 0 18 → Ag R s (uI (uR s2 395 19 (some (o + (396 + 56 * pk 0)))) 0 18 (nI 19)) := fun R hR c j hcj => by rw [ri, if_neg (fun z => hR (by rw [← z.1, ← z.2]; exact hcj))]
  have hn2 : IX g M o P ta (uI (uR s2 395 19 (some (o + (396 + 56 * pk 0)))) 0 18 (nI 19)) (uUn q ((gUn q).take 19)) := by
    refine ⟨w1.to (fx395 w1.X rr) (by rw [rr 0 (by decide)]) (fun k hk => by rw [rl]; exact w1.m k hk), w2, a1.fr (hag _ (by unfold rTp; omega)), a2.fr (hag _ (by unfold rFt; omega)), a3.fr (hag _ (by unfold rRf; omega)), a4.fr hn8 (hag _ (by unfold rNw; omega)) (fun j => by rw [rr 27 (by decide)]), ⟨?_, fun j => if j < 19 then pk (j + 1) else pk 0, ⟨fun j hj => ?_, fun i j hi hj hij => ?_⟩, fun i x hx => ?_⟩, fun b hb => ?_, a7.fr (hag _ (by unfold rRw; omega)), (by unfold cSd; rw [rl]; exact a8), a9.fr (hag _ (by unfold rOu; omega)), fun k hk => by rw [rl]; exact a10 k hk⟩
    · show iX _ 0 18 = nI ((gUn q).take 19).length
      rw [htk, ri, if_pos ⟨rfl, rfl⟩]
    · rw [rX_uI, rX_uR]
      by_cases e : j < 19
      · simp only [if_pos e]
        rw [if_neg (fun z => by omega), c4 j hj, if_pos e]
        exact ⟨(hpk.1 (j + 1) (by omega)).1, rfl⟩
      · simp only [if_neg e]
        rw [if_pos (by first | exact ⟨rfl, by omega⟩ | exact ⟨trivial, by omega⟩)]
        exact ⟨k1, rfl⟩
    · have h0 : ∀ a b, a < 20 → b < 20 → pk a = pk b → a = b := hpk.2
      by_cases e1 : i < 19 <;> by_cases e2 : j < 19 <;> simp only [if_pos, if_neg, e1, e2, not_false_eq_true] at hij
      · have := h0 _ _ (by omega) (by omega) hij; omega
      · have := h0 _ _ (by omega) (by omega) hij; omega
      · have := h0 _ _ (by omega) (by omega) hij; omega
      · omega
    · have hx : ((gUn q).take 19)[i]? = some x := hx
      have hi : i < 19 := by have := (List.getElem?_eq_some_iff.mp hx).1; omega
      rw [List.getElem?_take_of_lt hi] at hx
      obtain ⟨e1, e2⟩ := hE i x hx
      show SX _ (396 + 56 * (if ((gUn q).take 19).length - 1 - i < 19 then pk (((gUn q).take 19).length - 1 - i + 1) else pk 0)) (tn (gT q)) (fa (gT q)) (ki (gT q)) x.1 ∧ RX _ o (396 + 56 * (if ((gUn q).take 19).length - 1 - i < 19 then pk (((gUn q).take 19).length - 1 - i + 1) else pk 0)) x.2
      rw [htk, if_pos (by omega), show 19 - 1 - i + 1 = (gUn q).length - 1 - i by omega]
      exact ⟨e1.fr (fun c h1 h2 j _ => by rw [ri, if_neg (by omega)]) hn8, e2.fr (fun c j hc => by rw [ri, if_neg (by omega)]) (fun j => by rw [rr _ (by omega)])⟩
    · have hq := isS_c hb
      obtain ⟨pm, p1, p2⟩ := a6 b hb
      exact ⟨pm, fun j hj => ⟨(p1 j hj).1, by rw [rr _ (by omega)]; exact (p1 j hj).2⟩, p2⟩
  refine r_ald0 (pc := 44) dX0_keeps_44 ?_
  refine x_getR (c := 0) hS ow_0 kd_0 (pc := 45) dX0_keeps_45 fl_X0_93 (fx_0_17 hX) ?_
  refine r_bipush (v := nI 19) (pc := 48) dX0_keeps_48 (by decide) ?_
  refine r_ald1 (pc := 50) dX0_keeps_50 ?_
  refine x_aast8 (c := 395) (v := 396 + 56 * pk 0) hS ow_395 kd_395 ln_395 (pc := 51) dX0_keeps_51 (by omega) (by omega) (st_ow (isS_kp k1)) (st_kd (isS_kp k1)) ?_
  refine r_ald0 (pc := 52) dX0_keeps_52 ?_
  refine r_dup (pc := 53) dX0_keeps_53 rfl ?_
  refine x_getI (c := 0) hS ow_0 kd_0 (pc := 54) dX0_keeps_54 fl_X0_137 ?_
  rw [show iX (uR s2 395 19 (some (o + (396 + 56 * pk 0)))) 0 18 = nI 20 by rw [iX_uR, c1, hu, h20]]
  refine r_iconst (v := nI 1) (pc := 57) dX0_keeps_57 (by decide) ?_
  refine r_isubN (pc := 58) dX0_keeps_58 (by omega) ?_
  refine x_putI (c := 0) hS ow_0 kd_0 (pc := 59) dX0_keeps_59 fl_X0_137 fw_X0_18 rfl rfl ?_
  exact xkeepsTail (q := q) (U := (gUn q).take 19) hn2 hG (by omega)

theorem ct_X0_keeps (hI : IX g M o P ta s q) (hG : GI q) : Ct g yX0_keeps cX0_keeps 3 none 1 0 0 [.ref o] (putX M o s) (QX M o (fun v s' => v = none ∧ IX g M o P ta s' (keepU q))) noX := by
  have W := hI.W
  have S := hI.So
  have hg := W.gx
  have hS := W.S
  have hX := W.X
  have hTB := W.B
  have hn8 := hTB.1
  have hH9 := hTB.2.1
  have hN := hI.nw.1
  have hR := hI.nw.2
  have hB : SB (tn (gT q)) (gS q) := hG.2.2.2.2.2.1.1
  have h20 : (gUn q).length ≤ 20 := hG.2.2.2.2.2.2.2.1
  obtain ⟨hu, pk, hpk, hE⟩ := hI.un
  refine Ct.of (by decide) (Nat.le_of_ble_eq_true rfl) rfl ?_
  by_cases e : (gUn q).length = 20
  · have hk : keepU q = uUn q ((gS q, gK q) :: (gUn q).take 19) := rfl
    rw [hk]
    obtain ⟨k1, k2⟩ := hpk.1 0 (by decide)
    have htk : ((gUn q).take 19).length = 19 := by rw [List.length_take]; omega
    refine r_ald0 (pc := 0) dX0_keeps_0 ?_
    refine x_getI (c := 0) hS ow_0 kd_0 (pc := 1) dX0_keeps_1 fl_X0_137 ?_
    rw [hu]
    refine r_bipush (v := nI 20) (pc := 4) dX0_keeps_4 (by decide) ?_
    first | refine r_icmp_neN (pc := 6) (tgt := 62) dX0_keeps_6 (by decide) (by omega) (by omega) (fun h6 => ?_) (fun h6 => ?_) | refine r_icmp_ne (pc := 6) (tgt := 62) dX0_keeps_6 (by decide) (fun h6 => ?_) (fun h6 => ?_)
    · skip
      exact absurd e h6
    · skip
      refine r_ald0 (pc := 9) dX0_keeps_9 ?_
      refine x_getR (c := 0) hS ow_0 kd_0 (pc := 10) dX0_keeps_10 fl_X0_93 (fx_0_17 hX) ?_
      refine r_iconst (v := nI 0) (pc := 13) dX0_keeps_13 (by decide) ?_
      refine x_aald (c := 395) (j := 0) hS ow_395 kd_395 (by decide) ln_395 (pc := 14) dX0_keeps_14 (by omega) (by omega) k2 ?_
      refine r_ast1 (pc := 15) dX0_keeps_15 ?_
      refine r_iconst (v := nI 1) (pc := 16) dX0_keeps_16 (by decide) ?_
      refine r_ist2 (pc := 17) dX0_keeps_17 ?_
      refine xkeepsLoop hS hX (fun j hj => (hpk.1 j hj).1) (fun s2 hK => ?_) 19 1 s (by decide) (by decide) ⟨rfl, rfl, fun _ _ => rfl, fun j hj => by rw [if_neg (by omega)]; exact (hpk.1 j hj).2⟩
      have hX := hK.fx hX
      exact xkeepsMid hI hG e hpk hE hK
  · have hk : keepU q = uUn q ((gS q, gK q) :: gUn q) := by unfold keepU; rw [List.take_of_length_le (by simp; omega)]
    rw [hk]
    refine r_ald0 (pc := 0) dX0_keeps_0 ?_
    refine x_getI (c := 0) hS ow_0 kd_0 (pc := 1) dX0_keeps_1 fl_X0_137 ?_
    rw [hu]
    refine r_bipush (v := nI 20) (pc := 4) dX0_keeps_4 (by decide) ?_
    first | refine r_icmp_neN (pc := 6) (tgt := 62) dX0_keeps_6 (by decide) (by omega) (by omega) (fun h6 => ?_) (fun h6 => ?_) | refine r_icmp_ne (pc := 6) (tgt := 62) dX0_keeps_6 (by decide) (fun h6 => ?_) (fun h6 => ?_)
    · skip
      exact xkeepsTail (q := q) (U := gUn q) hI hG (by omega)
    · skip
      exact absurd h6 e

end X23
