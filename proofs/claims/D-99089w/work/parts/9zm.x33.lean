set_option maxRecDepth 100000
/-! RETOUCHED: on, 2 -/
theorem shl8_or : ∀ a, a < 256 → ∀ b, b < 256 → nI a <<< (nI 8 &&& 31) ||| nI b = nI (256 * a + b) := by decide +kernel
section X33
variable {g : GC} {M : MM} {o ta : Nat} {P : Nat → Prop} {s : XS} {q : Sg}
theorem xonLoop {nn yy : Nat} {r : Bool} (hG : GI q) : ∀ k p s1, p + k = tn (gT q) → OnX g M o P ta q (OnR (gTp q) (tn (gT q)) (gS q) p) s1 → allR (pTold (gTp q) (tn (gT q)) (tH (gT q))) k p = r →
    Bd g yX0_comesOn cX0_comesOn 5 (some Jvm.ClassFile.FieldType.boolean) [] 5 0 0 (putX M o s1) 96 [some (.ref o), some (.int (nI nn)), some (.int (nI (2 + tn (gT q)))), some (.int (nI yy)), some (.int (nI p))] [] (QX M o (fun v s' => v = some (.int (zI (r = true))) ∧ IX g M o P ta s' q ∧ (r = true → OnX g M o P ta q (OnR (gTp q) (tn (gT q)) (gS q) (tn (gT q))) s'))) noX := by
  intro k
  induction k with
  | zero =>
    intro p s1 hk hO hr
    have hI := hO.1
    have W := hI.W
    have S := hI.So
    have hg := W.gx
    have hS := W.S
    have hX := W.X
    have hTB := W.B
    have hn8 := hTB.1
    have hH9 := hTB.2.1
    have hN := hI.nw.1
    have hR := hI.nw.2
    have hB : SB (tn (gT q)) (gS q) := hG.2.2.2.2.2.1.1
    obtain rfl : p = tn (gT q) := by omega
    have hr : true = r := hr
    refine r_ild4 (pc := 96) dX0_comesOn_96 ?_
    refine r_ald0 (pc := 98) dX0_comesOn_98 ?_
    refine r_cV (pc := 99) dX0_comesOn_99 cv_X0_158 (hS.k (c := 0) ow_0 kd_0) (ct_X0_people W S) rfl rfl (Nat.le_of_ble_eq_true rfl) (by first | decide | omega) ?_
    rintro _ _ ⟨rfl, rfl⟩
    first | refine r_icmp_geN (pc := 102) (tgt := 128) dX0_comesOn_102 (by decide) (by omega) (by omega) (fun h102 => ?_) (fun h102 => ?_) | refine r_icmp_ge (pc := 102) (tgt := 128) dX0_comesOn_102 (by decide) (fun h102 => ?_) (fun h102 => ?_)
    · skip
      refine r_iconst (v := nI 1) (pc := 128) dX0_comesOn_128 (by decide) ?_
      refine r_zret (pc := 129) dX0_comesOn_129 (by first | rfl | exact zI_nar | assumption) ?_
      exact ⟨s1, rfl, by rw [zI_t hr.symm]; rfl, hI, fun _ => hO⟩
    · skip
      exact absurd h102 (by omega)
  | succ k ih =>
    intro p s1 hk hO hr
    have hI := hO.1
    have W := hI.W
    have S := hI.So
    have hg := W.gx
    have hS := W.S
    have hX := W.X
    have hTB := W.B
    have hn8 := hTB.1
    have hH9 := hTB.2.1
    have hN := hI.nw.1
    have hR := hI.nw.2
    have hB : SB (tn (gT q)) (gS q) := hG.2.2.2.2.2.1.1
    have hmul : (2 + tn (gT q)) * p ≤ 10 * 7 := Nat.mul_le_mul (by omega) (by omega)
    have hr : (pTold (gTp q) (tn (gT q)) (tH (gT q)) p && allR (pTold (gTp q) (tn (gT q)) (tH (gT q))) k (p + 1)) = r := hr
    refine r_ild4 (pc := 96) dX0_comesOn_96 ?_
    refine r_ald0 (pc := 98) dX0_comesOn_98 ?_
    refine r_cV (pc := 99) dX0_comesOn_99 cv_X0_158 (hS.k (c := 0) ow_0 kd_0) (ct_X0_people W S) rfl rfl (Nat.le_of_ble_eq_true rfl) (by first | decide | omega) ?_
    rintro _ _ ⟨rfl, rfl⟩
    first | refine r_icmp_geN (pc := 102) (tgt := 128) dX0_comesOn_102 (by decide) (by omega) (by omega) (fun h102 => ?_) (fun h102 => ?_) | refine r_icmp_ge (pc := 102) (tgt := 128) dX0_comesOn_102 (by decide) (fun h102 => ?_) (fun h102 => ?_)
    · skip
      exact absurd h102 (by omega)
    · skip
      refine r_ald0 (pc := 105) dX0_comesOn_105 ?_
      refine r_ild4 (pc := 106) dX0_comesOn_106 ?_
      refine r_iconst (v := nI 2) (pc := 108) dX0_comesOn_108 (by decide) ?_
      refine r_ild2 (pc := 109) dX0_comesOn_109 ?_
      refine r_ild4 (pc := 110) dX0_comesOn_110 ?_
      first | refine r_imulN (pc := 112) dX0_comesOn_112 ?_ | refine r_imulJ (pc := 112) dX0_comesOn_112 ?_ | refine r_imul (pc := 112) dX0_comesOn_112 ?_
      first | refine r_iaddN (pc := 113) dX0_comesOn_113 ?_ | refine r_iaddJ (pc := 113) dX0_comesOn_113 ?_ | refine r_iadd (pc := 113) dX0_comesOn_113 ?_
      refine r_cV (pc := 114) dX0_comesOn_114 cv_X0_336 (hS.k (c := 0) ow_0 kd_0) (ct_X0_personOn hG (p := p) (b := 2 + (2 + tn (gT q)) * p) (by omega) rfl hO) rfl rfl (Nat.le_of_ble_eq_true rfl) (by first | decide | omega) ?_
      rintro _ _ ⟨s2, rfl, rfl, hI2, hO2⟩
      refine r_if_neZ (pc := 117) (tgt := 122) dX0_comesOn_117 (by decide) (fun h117 => ?_) (fun h117 => ?_)
      · skip
        first | refine r_iinc4N (j := 1) (pc := 122) dX0_comesOn_122 rfl ?_ | refine r_iinc4 (pc := 122) dX0_comesOn_122 ?_
        refine r_goto (pc := 125) (tgt := 96) dX0_comesOn_125 (by decide) ?_
        exact ih (p + 1) s2 (by omega) (hO2 h117) (by rw [h117, Bool.true_and] at hr; exact hr)
      · skip
        refine r_iconst (v := nI 0) (pc := 120) dX0_comesOn_120 (by decide) ?_
        refine r_zret (pc := 121) dX0_comesOn_121 (by first | rfl | exact zI_nar | assumption) ?_
        have hrf : r = false := by rw [← hr, Bool.eq_false_iff.mpr h117]; rfl
        exact ⟨s2, rfl, by rw [zI_f (by rw [hrf]; decide)]; rfl, hI2, fun z => by rw [hrf] at z; cases z⟩
theorem ct_X0_comesOn {nn : Nat} (hI : IX g M o P ta s q) (hG : GI q) (hnn : nn ≤ 1600) : Ct g yX0_comesOn cX0_comesOn 5 (some Jvm.ClassFile.FieldType.boolean) 5 0 0 [.ref o, .int (nI nn)] (putX M o s) (QX M o (fun v s' => v = some (.int (zI ((gIt q && nn == 3 + tn (gT q) * (2 + tn (gT q)) && gTp q (nn - 1) == chkF (gTp q) (nn - 1) && decide (256 * gTp q 0 + gTp q 1 ≤ 999) && allR (pTold (gTp q) (tn (gT q)) (tH (gT q))) (tn (gT q)) 0) = true))) ∧ IX g M o P ta s' q ∧ ((gIt q && nn == 3 + tn (gT q) * (2 + tn (gT q)) && gTp q (nn - 1) == chkF (gTp q) (nn - 1) && decide (256 * gTp q 0 + gTp q 1 ≤ 999) && allR (pTold (gTp q) (tn (gT q)) (tH (gT q))) (tn (gT q)) 0) = true → OnX g M o P ta q (OnR (gTp q) (tn (gT q)) (gS q) (tn (gT q))) s'))) noX := by
  have W := hI.W
  have S := hI.So
  have hg := W.gx
  have hS := W.S
  have hX := W.X
  have hTB := W.B
  have hn8 := hTB.1
  have hH9 := hTB.2.1
  have hN := hI.nw.1
  have hR := hI.nw.2
  have hB : SB (tn (gT q)) (gS q) := hG.2.2.2.2.2.1.1
  have hby := hG.2.1
  have b0 := hby 0
  have b1 := hby 1
  have bl := hby (nn - 1)
  have hcl := chkF_lt (gTp q) (nn - 1)
  have hmul : tn (gT q) * (2 + tn (gT q)) ≤ 8 * 10 := Nat.mul_le_mul (by omega) (by omega)
  have hcm : (2 + tn (gT q)) * tn (gT q) = tn (gT q) * (2 + tn (gT q)) := Nat.mul_comm _ _
  have hit : gIt q = true ↔ 0 < tH (gT q) := by
    constructor
    · intro h; have := hG.2.2.2.2.1 h; omega
    · intro h; cases e : gIt q with | true => rfl | false => have := (hG.2.2.2.1 e).1; omega
  obtain ⟨pm, hpm⟩ := hI.pm 68 isS_68
  generalize hC : (gIt q && nn == 3 + tn (gT q) * (2 + tn (gT q)) && gTp q (nn - 1) == chkF (gTp q) (nn - 1) && decide (256 * gTp q 0 + gTp q 1 ≤ 999) && allR (pTold (gTp q) (tn (gT q)) (tH (gT q))) (tn (gT q)) 0) = C
  have hno : ∀ v, v = some (Value.int (nI 0)) → C = false → QX M o (fun v s' => v = some (.int (zI (C = true))) ∧ IX g M o P ta s' q ∧ (C = true → OnX g M o P ta q (OnR (gTp q) (tn (gT q)) (gS q) (tn (gT q))) s')) v (putX M o s) := by
    intro v hv hf
    refine ⟨s, rfl, ?_, hI, fun z => by rw [hf] at z; cases z⟩
    rw [hv, zI_f (by rw [hf]; decide)]; rfl
  refine Ct.of (by decide) (Nat.le_of_ble_eq_true rfl) rfl ?_
  refine r_iconst (v := nI 2) (pc := 0) dX0_comesOn_0 (by decide) ?_
  refine r_ald0 (pc := 1) dX0_comesOn_1 ?_
  refine r_cV (pc := 2) dX0_comesOn_2 cv_X0_158 (hS.k (c := 0) ow_0 kd_0) (ct_X0_people W S) rfl rfl (Nat.le_of_ble_eq_true rfl) (by first | decide | omega) ?_
  rintro _ _ ⟨rfl, rfl⟩
  first | refine r_iaddN (pc := 5) dX0_comesOn_5 ?_ | refine r_iaddJ (pc := 5) dX0_comesOn_5 ?_ | refine r_iadd (pc := 5) dX0_comesOn_5 ?_
  refine r_ist2 (pc := 6) dX0_comesOn_6 ?_
  refine r_ald0 (pc := 7) dX0_comesOn_7 ?_
  refine r_iconst (v := nI 0) (pc := 8) dX0_comesOn_8 (by decide) ?_
  refine r_cV (pc := 9) dX0_comesOn_9 cv_X0_275 (hS.k (c := 0) ow_0 kd_0) (hI.byte (k := 0) (by decide)) rfl rfl (Nat.le_of_ble_eq_true rfl) (by first | decide | omega) ?_
  rintro _ _ ⟨rfl, rfl⟩
  refine r_bipush (v := nI 8) (pc := 12) dX0_comesOn_12 (by decide) ?_
  refine r_ishl (pc := 14) dX0_comesOn_14 ?_
  refine r_ald0 (pc := 15) dX0_comesOn_15 ?_
  refine r_iconst (v := nI 1) (pc := 16) dX0_comesOn_16 (by decide) ?_
  refine r_cV (pc := 17) dX0_comesOn_17 cv_X0_275 (hS.k (c := 0) ow_0 kd_0) (hI.byte (k := 1) (by decide)) rfl rfl (Nat.le_of_ble_eq_true rfl) (by first | decide | omega) ?_
  rintro _ _ ⟨rfl, rfl⟩
  refine r_ior (pc := 20) dX0_comesOn_20 ?_
  refine Bd.eqI (x' := nI (256 * gTp q 0 + gTp q 1)) (shl8_or _ b0 _ b1) ?_
  refine r_ist3 (pc := 21) dX0_comesOn_21 ?_
  refine r_ald0 (pc := 22) dX0_comesOn_22 ?_
  refine r_cV (pc := 23) dX0_comesOn_23 cv_X0_232 (hS.k (c := 0) ow_0 kd_0) (ct_X0_isTerrace W) rfl rfl (Nat.le_of_ble_eq_true rfl) (by first | decide | omega) ?_
  rintro _ _ ⟨rfl, rfl⟩
  refine r_if_eqZ (pc := 26) (tgt := 68) dX0_comesOn_26 (by decide) (fun h26 => ?_) (fun h26 => ?_)
  · skip
    refine r_iconst (v := nI 0) (pc := 68) dX0_comesOn_68 (by decide) ?_
    refine r_zret (pc := 69) dX0_comesOn_69 (by first | rfl | exact zI_nar | assumption) ?_
    first | exact hno _ rfl (by rw [← hC, show gIt q = false from Bool.eq_false_iff.mpr (fun z => h26 (hit.mp z))]; rfl) | exact hno _ rfl (by rw [← hC, show (nn == 3 + tn (gT q) * (2 + tn (gT q))) = false from beq_eq_false_iff_ne.mpr (by omega), Bool.and_false]; rfl) | exact hno _ rfl (by rw [← hC, show (gTp q (nn - 1) == chkF (gTp q) (nn - 1)) = false from beq_eq_false_iff_ne.mpr h58, Bool.and_false]; rfl) | exact hno _ rfl (by rw [← hC, decide_eq_false (show ¬ 256 * gTp q 0 + gTp q 1 ≤ 999 by omega), Bool.and_false]; rfl)
  · skip
    refine r_ild1 (pc := 29) dX0_comesOn_29 ?_
    refine r_iconst (v := nI 3) (pc := 30) dX0_comesOn_30 (by decide) ?_
    refine r_ild2 (pc := 31) dX0_comesOn_31 ?_
    refine r_ald0 (pc := 32) dX0_comesOn_32 ?_
    refine r_cV (pc := 33) dX0_comesOn_33 cv_X0_158 (hS.k (c := 0) ow_0 kd_0) (ct_X0_people W S) rfl rfl (Nat.le_of_ble_eq_true rfl) (by first | decide | omega) ?_
    rintro _ _ ⟨rfl, rfl⟩
    first | refine r_imulN (pc := 36) dX0_comesOn_36 ?_ | refine r_imulJ (pc := 36) dX0_comesOn_36 ?_ | refine r_imul (pc := 36) dX0_comesOn_36 ?_
    first | refine r_iaddN (pc := 37) dX0_comesOn_37 ?_ | refine r_iaddJ (pc := 37) dX0_comesOn_37 ?_ | refine r_iadd (pc := 37) dX0_comesOn_37 ?_
    refine r_icmp_neN (pc := 38) (tgt := 68) dX0_comesOn_38 (by decide) (by omega) (by omega) (fun h38 => ?_) (fun h38 => ?_)
    · skip
      refine r_iconst (v := nI 0) (pc := 68) dX0_comesOn_68 (by decide) ?_
      refine r_zret (pc := 69) dX0_comesOn_69 (by first | rfl | exact zI_nar | assumption) ?_
      first | exact hno _ rfl (by rw [← hC, show gIt q = false from Bool.eq_false_iff.mpr (fun z => h26 (hit.mp z))]; rfl) | exact hno _ rfl (by rw [← hC, show (nn == 3 + tn (gT q) * (2 + tn (gT q))) = false from beq_eq_false_iff_ne.mpr (by omega), Bool.and_false]; rfl) | exact hno _ rfl (by rw [← hC, show (gTp q (nn - 1) == chkF (gTp q) (nn - 1)) = false from beq_eq_false_iff_ne.mpr h58, Bool.and_false]; rfl) | exact hno _ rfl (by rw [← hC, decide_eq_false (show ¬ 256 * gTp q 0 + gTp q 1 ≤ 999 by omega), Bool.and_false]; rfl)
    · skip
      refine r_ald0 (pc := 41) dX0_comesOn_41 ?_
      refine r_ild1 (pc := 42) dX0_comesOn_42 ?_
      refine r_iconst (v := nI 1) (pc := 43) dX0_comesOn_43 (by decide) ?_
      refine r_isubN (pc := 44) dX0_comesOn_44 (by omega) ?_
      refine r_cV (pc := 45) dX0_comesOn_45 cv_X0_275 (hS.k (c := 0) ow_0 kd_0) (hI.byte (k := nn - 1) (by omega)) rfl rfl (Nat.le_of_ble_eq_true rfl) (by first | decide | omega) ?_
      rintro _ _ ⟨rfl, rfl⟩
      refine r_ald0 (pc := 48) dX0_comesOn_48 ?_
      refine x_getR (c := 0) hS ow_0 kd_0 (pc := 49) dX0_comesOn_49 fl_X0_35 (fx_0_1 hX) ?_
      refine r_ild1 (pc := 52) dX0_comesOn_52 ?_
      refine r_iconst (v := nI 1) (pc := 53) dX0_comesOn_53 (by decide) ?_
      refine r_isubN (pc := 54) dX0_comesOn_54 (by omega) ?_
      refine r_cS (pc := 55) dX0_comesOn_55 cs_X0_332 (ct_X0_check (c := 4) (N := 1600) (f := gTp q) (n := nn - 1) hS ow_4 kd_4 ln_4 (by omega) (by decide) (fun i hi => ⟨hI.tp.2.1 i (by omega), hby i⟩)) rfl rfl (Nat.le_of_ble_eq_true rfl) (by decide) ?_
      rintro _ _ ⟨rfl, rfl⟩
      first | refine r_icmp_neN (pc := 58) (tgt := 68) dX0_comesOn_58 (by decide) (by omega) (by omega) (fun h58 => ?_) (fun h58 => ?_) | refine r_icmp_ne (pc := 58) (tgt := 68) dX0_comesOn_58 (by decide) (fun h58 => ?_) (fun h58 => ?_)
      · skip
        refine r_iconst (v := nI 0) (pc := 68) dX0_comesOn_68 (by decide) ?_
        refine r_zret (pc := 69) dX0_comesOn_69 (by first | rfl | exact zI_nar | assumption) ?_
        first | exact hno _ rfl (by rw [← hC, show gIt q = false from Bool.eq_false_iff.mpr (fun z => h26 (hit.mp z))]; rfl) | exact hno _ rfl (by rw [← hC, show (nn == 3 + tn (gT q) * (2 + tn (gT q))) = false from beq_eq_false_iff_ne.mpr (by omega), Bool.and_false]; rfl) | exact hno _ rfl (by rw [← hC, show (gTp q (nn - 1) == chkF (gTp q) (nn - 1)) = false from beq_eq_false_iff_ne.mpr h58, Bool.and_false]; rfl) | exact hno _ rfl (by rw [← hC, decide_eq_false (show ¬ 256 * gTp q 0 + gTp q 1 ≤ 999 by omega), Bool.and_false]; rfl)
      · skip
        refine r_ild3 (pc := 61) dX0_comesOn_61 ?_
        refine r_sipush (v := nI 999) (pc := 62) dX0_comesOn_62 (by decide) ?_
        first | refine r_icmp_leN (pc := 65) (tgt := 70) dX0_comesOn_65 (by decide) (by omega) (by omega) (fun h65 => ?_) (fun h65 => ?_) | refine r_icmp_le (pc := 65) (tgt := 70) dX0_comesOn_65 (by decide) (fun h65 => ?_) (fun h65 => ?_)
        · skip
          refine r_ald0 (pc := 70) dX0_comesOn_70 ?_
          refine x_getR (c := 0) hS ow_0 kd_0 (pc := 71) dX0_comesOn_71 fl_X0_73 (fx_0_10 hX) ?_
          refine r_ald0 (pc := 74) dX0_comesOn_74 ?_
          refine x_getR (c := 0) hS ow_0 kd_0 (pc := 75) dX0_comesOn_75 fl_X0_69 (fx_0_9 hX) ?_
          refine r_cV (pc := 78) dX0_comesOn_78 cv_X0_239 (hS.k (c := 68) (st_ow isS_68) (st_kd isS_68)) (ct_X5_copy hS hX isS_68 isS_12 (by decide) hN hn8 hR hpm) rfl rfl (Nat.le_of_ble_eq_true rfl) (by first | decide | omega) ?_
          rintro _ _ ⟨s1, rfl, rfl, hN1, hR1, hr1, hF1⟩
          have hX := (show FxX (rX s1) o by rw [hr1]; exact hX)
          refine r_ild3 (pc := 81) dX0_comesOn_81 ?_
          refine x_putIN (c := 68) hS (st_ow isS_68) (st_kd isS_68) (pc := 82) dX0_comesOn_82 (fn_X0_171 hg) fw_X5_0 rfl rfl ?_
          refine r_ald0 (pc := 85) dX0_comesOn_85 ?_
          refine x_getR (c := 0) hS ow_0 kd_0 (pc := 86) dX0_comesOn_86 fl_X0_73 (fx_0_10 hX) ?_
          refine r_iconst (v := nI 0) (pc := 89) dX0_comesOn_89 (by decide) ?_
          refine x_putIN (c := 68) hS (st_ow isS_68) (st_kd isS_68) (pc := 90) dX0_comesOn_90 (fn_X0_187 hg) fw_X5_2 rfl rfl ?_
          refine r_iconst (v := nI 0) (pc := 93) dX0_comesOn_93 (by decide) ?_
          refine r_ist4 (pc := 94) dX0_comesOn_94 ?_
          have hI1 : IX g M o P ta s1 q := hI.scr hG (hF1.mono (fun c hc => Or.inl (Or.inl hc))) hX (by obtain ⟨pm, h, -⟩ := hR1; exact ⟨pm, h⟩) (hI.copyd hr1 hF1).m
          have hI2 := (hI1.try68 (c := 68) (j := 0) (v := nI (256 * gTp q 0 + gTp q 1)) hG (by omega) (by omega)).try68 (c := 68) (j := 2) (v := nI 0) hG (by omega) (by omega)
          have hN2 := (hN1.year (v := 256 * gTp q 0 + gTp q 1)).fr (s' := uI (uI s1 68 0 (nI (256 * gTp q 0 + gTp q 1))) 68 2 (nI 0)) (fun c h1 h2 j hj => by by_cases e : c = 68; (subst e; rw [iX_j (by have := hj rfl; omega)]); rw [iX_c e]) hn8
          have hR2 : RX (uI (uI s1 68 0 (nI (256 * gTp q 0 + gTp q 1))) 68 2 (nI 0)) o 68 [] := by
            obtain ⟨pm, h1, -, -, -⟩ := hR1
            exact ⟨pm, h1, iX_s, Nat.zero_le _, fun i a c e h => by cases h⟩
          have hall : allR (pTold (gTp q) (tn (gT q)) (tH (gT q))) (tn (gT q)) 0 = C := by
            rw [← hC, hit.mpr h26, show (nn == 3 + tn (gT q) * (2 + tn (gT q))) = true from beq_iff_eq.mpr (by omega), show (gTp q (nn - 1) == chkF (gTp q) (nn - 1)) = true from beq_iff_eq.mpr h58, decide_eq_true (show 256 * gTp q 0 + gTp q 1 ≤ 999 by omega)]; rfl
          exact xonLoop hG (tn (gT q)) 0 _ (by omega) ⟨hI2, hR2, _, hN2, rfl, fun r hr => by rw [if_neg (by omega)]; rfl, fun r hr => by rw [if_neg (by omega)]; rfl, fun r hr => by rw [if_neg (by omega)]; rfl, fun r hr c hc => by rw [if_neg (by omega)]; rfl⟩ hall
        · skip
          refine r_iconst (v := nI 0) (pc := 68) dX0_comesOn_68 (by decide) ?_
          refine r_zret (pc := 69) dX0_comesOn_69 (by first | rfl | exact zI_nar | assumption) ?_
          first | exact hno _ rfl (by rw [← hC, show gIt q = false from Bool.eq_false_iff.mpr (fun z => h26 (hit.mp z))]; rfl) | exact hno _ rfl (by rw [← hC, show (nn == 3 + tn (gT q) * (2 + tn (gT q))) = false from beq_eq_false_iff_ne.mpr (by omega), Bool.and_false]; rfl) | exact hno _ rfl (by rw [← hC, show (gTp q (nn - 1) == chkF (gTp q) (nn - 1)) = false from beq_eq_false_iff_ne.mpr h58, Bool.and_false]; rfl) | exact hno _ rfl (by rw [← hC, decide_eq_false (show ¬ 256 * gTp q 0 + gTp q 1 ≤ 999 by omega), Bool.and_false]; rfl)
theorem px_on (hI : IX g M o P ta s q) (hG : GI q) : Ct g yX0_on cX0_on 1 (some Jvm.ClassFile.FieldType.boolean) 6 0 0 [.ref o] (putX M o s) (QI g M o P ta (onQ q).2 (.int (onQ q).1)) noX := by
  have W := hI.W
  have S := hI.So
  have hg := W.gx
  have hS := W.S
  have hX := W.X
  have hTB := W.B
  have hn8 := hTB.1
  have hH9 := hTB.2.1
  have hN := hI.nw.1
  have hR := hI.nw.2
  have hB : SB (tn (gT q)) (gS q) := hG.2.2.2.2.2.1.1
  have hd : gTd q ≤ 1600 := hG.1
  have hI1 := hI.take hG
  have hG1 := hG.take
  have hX1 := hI1.W.X
  have hco := ct_X0_comesOn (nn := gTd q) hI1 hG1 hd
  have himg : imgOk q = (gIt q && gTd q == 3 + tn (gT q) * (2 + tn (gT q)) && gTp q (gTd q - 1) == chkF (gTp q) (gTd q - 1) && decide (256 * gTp q 0 + gTp q 1 ≤ 999) && allR (pTold (gTp q) (tn (gT q)) (tH (gT q))) (tn (gT q)) 0) := rfl
  refine Ct.of (by decide) (Nat.le_of_ble_eq_true rfl) rfl ?_
  unfold onQ
  refine r_ald0 (pc := 0) dX0_on_0 ?_
  refine r_ald0 (pc := 1) dX0_on_1 ?_
  refine r_cV (pc := 2) dX0_on_2 cv_X0_118 (hS.k (c := 0) ow_0 kd_0) (ct_X0_taken hS hX) rfl rfl (Nat.le_of_ble_eq_true rfl) (by first | decide | omega) ?_
  rintro _ _ ⟨rfl, rfl⟩
  rw [hI.tp.1]
  refine r_cV (pc := 5) dX0_on_5 cv_X0_339 (hS.k (c := 0) ow_0 kd_0) hco rfl rfl (Nat.le_of_ble_eq_true rfl) (by first | decide | omega) ?_
  rintro _ _ ⟨s1, rfl, rfl, hI2, hO2⟩
  have hX := hI2.W.X
  refine r_if_neZ (pc := 8) (tgt := 25) dX0_on_8 (by decide) (fun h8 => ?_) (fun h8 => ?_)
  · skip
    have hok : imgOk q = true := h8
    rw [if_pos hok]
    refine r_ald0 (pc := 25) dX0_on_25 ?_
    obtain ⟨-, hR3, t', hN3, hOn⟩ := hO2 h8
    have hN3 := OnR.onT hOn hN3
    obtain ⟨pmN, hpmN⟩ := hI2.pm 12 isS_12
    refine x_getR (c := 0) hS ow_0 kd_0 (pc := 26) dX0_on_26 fl_X0_69 (fx_0_9 hX) ?_
    refine r_ald0 (pc := 29) dX0_on_29 ?_
    refine x_getR (c := 0) hS ow_0 kd_0 (pc := 30) dX0_on_30 fl_X0_73 (fx_0_10 hX) ?_
    refine r_cV (pc := 33) dX0_on_33 cv_X0_239 (hS.k (c := 12) (st_ow isS_12) (st_kd isS_12)) (ct_X5_copy hS hX isS_12 isS_68 (by decide) hN3 hn8 hR3 hpmN) rfl rfl (Nat.le_of_ble_eq_true rfl) (by first | decide | omega) ?_
    rintro _ _ ⟨s3, rfl, rfl, hN4, hR4, hr4, hF4⟩
    refine r_pop (pc := 36) dX0_on_36 rfl ?_
    refine r_ald0 (pc := 37) dX0_on_37 ?_
    refine r_iconst (v := nI 0) (pc := 38) dX0_on_38 (by decide) ?_
    refine x_putI (c := 0) hS ow_0 kd_0 (pc := 39) dX0_on_39 fl_X0_137 fw_X0_18 rfl rfl ?_
    refine r_iconst (v := nI 1) (pc := 42) dX0_on_42 (by decide) ?_
    refine r_zret (pc := 43) dX0_on_43 (by first | rfl | exact zI_nar | assumption) ?_
    have hI4 := IX.now (t' := onT (gTp q) (tn (gT q)) (gS q)) (L' := []) hI2 hG1 hN4 hR4 (hF4.mono (fun c hc => Or.inl hc)) (by rw [hr4]; exact hX) (fun k hk => by rw [hF4.2.1 8 (by unfold stP; omega)]; exact hI2.W.m k hk)
    obtain ⟨w1, w2, a1, a2, a3, a4, a5, a6, a7, a8, a9, a10⟩ := hI4
    obtain ⟨-, pk, hpk, -⟩ := a5
    exact ⟨_, rfl, rfl, w1.uI, w2, a1.fr (Ag.uI (by unfold rTp; omega)), a2.fr (Ag.uI (by unfold rFt; omega)), a3.fr (Ag.uI (by unfold rRf; omega)), a4.fr hn8 (Ag.uI (by unfold rNw; omega)) (fun _ => rfl), ⟨iX_s, pk, hpk, fun i x hx => by cases hx⟩, a6, a7.fr (Ag.uI (by unfold rRw; omega)), a8, a9.fr (Ag.uI (by unfold rOu; omega)), a10⟩
  · skip
    have hok : ¬ imgOk q = true := h8
    rw [if_neg hok]
    refine r_ald0 (pc := 11) dX0_on_11 ?_
    refine r_iconst (v := nI 5) (pc := 12) dX0_on_12 (by decide) ?_
    refine r_cV (pc := 13) dX0_on_13 cv_X0_107 (hS.k (c := 0) ow_0 kd_0) (ct_X0_refuses hS hX (by decide)) rfl rfl (Nat.le_of_ble_eq_true rfl) (by first | decide | omega) ?_
    rintro _ _ ⟨rfl, rfl⟩
    refine r_if_lt (pc := 16) (tgt := 23) dX0_on_16 (by decide) (fun h16 => ?_) (fun h16 => ?_)
    · skip
      refine r_iconst (v := nI 0) (pc := 23) dX0_on_23 (by decide) ?_
      refine r_zret (pc := 24) dX0_on_24 (by first | rfl | exact zI_nar | assumption) ?_
      exact ⟨_, rfl, rfl, hI2.ref hG1 (by decide)⟩
    · skip
      exact absurd (by decide) h16
end X33
