set_option maxRecDepth 100000
/-! THE READER: a number (2) -/
section X54
variable {g : GC} {M : MM} {o n : Nat} {f : Nat → Nat}
theorem lp_num {p lo hi : Nat} {M2 : MM} (h : RDF g M2 o n f) (hr : RFr o M M2) (h4 : mI M2 (o + 5) 4 = mI M (o + 5) 4) (hF : mI M2 (o + 5) 3 = nI p) (hl : lo < 100000) (hh : hi < 100000) : ∀ k b v c, b + k = n → b = p + c → c ≤ 4 → v < 10 ^ c → Bd g yX2_number cX2_number 4 (some Jvm.ClassFile.FieldType.int) [] 2 0 0 (atM M2 o b) 34 [some (.ref (o + 5)), some (.int (nI lo)), some (.int (nI hi)), some (.int (nI v))] [] (NQ M o p (numR lo hi p (numL f k b v c))) (NX M o (numR lo hi p (numL f k b v c))) := by
  have hg := h.1
  have hgb := h.2.1
  have hn := h.2.2.2.2.1
  intro k
  induction k with
  | zero =>
    intro b v c hb hpc hc4 hv
    have hv5 : v < 100000 := Nat.lt_of_lt_of_le hv (Nat.le_trans (Nat.pow_le_pow_right (by decide) hc4) (by decide))
    have hR := h.at (v := nI b) (Nat.le_refl 2)
    have r7 := hR.2.2.2.2.2.2.2.1.1
    have ea : mI (atM M2 o b) (o + 5) 2 = nI b := mI_sIs _ _ _ _
    have eb : bI f n b = iI (-1) := if_neg (by omega)
    have hct := ct_X2_byteAt hR (show b ≤ 1600 by omega)
    rw [eb] at hct
    refine r_ald0 (pc := 34) dX2_number_34 ?_
    refine r_ald0 (pc := 35) dX2_number_35 ?_
    refine r_getI' (pc := 36) dX2_number_36 fl_X2_36 r7 ea ?_
    refine r_cV (ci := 2) (pc := 39) dX2_number_39 cv_X2_39 r7 hct rfl rfl (Nat.le_of_ble_eq_true rfl) (by decide) ?_
    rintro _ M9 ⟨rfl, e9⟩
    rw [e9]
    refine r_cSN (pc := 42) dX2_number_42 (csn_X2_55 hg) ct_X0_isDigit_neg rfl rfl (Nat.le_of_ble_eq_true rfl) (by decide) ?_
    rintro _ M8 ⟨rfl, e8⟩
    rw [e8]
    first | refine r_if_eqZ (pc := 45) (tgt := 101) dX2_number_45 (by decide) (fun h45 => ?_) (fun h45 => ?_) | refine r_if_eqN (pc := 45) (tgt := 101) dX2_number_45 (by decide) (by omega) (fun h45 => ?_) (fun h45 => ?_) | refine r_if_eq (pc := 45) (tgt := 101) dX2_number_45 (by decide) (fun h45 => ?_) (fun h45 => ?_)
    · skip
      exact numTail hR (hr.trans (RFr.at (Nat.le_refl 2) (by decide))) ((mI_sIj (by decide)).trans h4) ea ((mI_sIj (by decide)).trans hF) hv5 hl hh
    · skip
      exact absurd h45 (by decide)
  | succ k ih =>
    intro b v c hb hpc hc4 hv
    have hv5 : v < 100000 := Nat.lt_of_lt_of_le hv (Nat.le_trans (Nat.pow_le_pow_right (by decide) hc4) (by decide))
    have hR := h.at (v := nI b) (Nat.le_refl 2)
    have r7 := hR.2.2.2.2.2.2.2.1.1
    have r11 := hR.2.2.2.2.2.2.2.2.1
    have hfa := h.2.2.2.2.2.2.1.1 b
    have ea : mI (atM M2 o b) (o + 5) 2 = nI b := mI_sIs _ _ _ _
    have ef : mI (atM M2 o b) (o + 5) 3 = nI p := (mI_sIj (by decide)).trans hF
    have eb : bI f n b = nI (f b) := if_pos (by omega)
    have hct := ct_X2_byteAt hR (show b ≤ 1600 by omega)
    have krr : RFr o M (atM M2 o b) := hr.trans (RFr.at (Nat.le_refl 2) (by decide))
    rw [eb] at hct
    refine r_ald0 (pc := 34) dX2_number_34 ?_
    refine r_ald0 (pc := 35) dX2_number_35 ?_
    refine r_getI' (pc := 36) dX2_number_36 fl_X2_36 r7 ea ?_
    refine r_cV (ci := 2) (pc := 39) dX2_number_39 cv_X2_39 r7 hct rfl rfl (Nat.le_of_ble_eq_true rfl) (by decide) ?_
    rintro _ M9 ⟨rfl, e9⟩
    rw [e9]
    refine r_cSN (pc := 42) dX2_number_42 (csn_X2_55 hg) (ct_X0_isDigit hfa) rfl rfl (Nat.le_of_ble_eq_true rfl) (by decide) ?_
    rintro _ M8 ⟨rfl, e8⟩
    rw [e8]
    first | refine r_if_eqZ (pc := 45) (tgt := 101) dX2_number_45 (by decide) (fun h45 => ?_) (fun h45 => ?_) | refine r_if_eqN (pc := 45) (tgt := 101) dX2_number_45 (by decide) (by omega) (fun h45 => ?_) (fun h45 => ?_) | refine r_if_eq (pc := 45) (tgt := 101) dX2_number_45 (by decide) (fun h45 => ?_) (fun h45 => ?_)
    · skip
      rw [show numL f (k + 1) b v c = .ok (v, b) from if_neg h45]
      exact numTail hR krr ((mI_sIj (by decide)).trans h4) ea ef hv5 hl hh
    · skip
      refine r_ald0 (pc := 48) dX2_number_48 ?_
      refine r_getI' (pc := 49) dX2_number_49 fl_X2_36 r7 ea ?_
      refine r_ald0 (pc := 52) dX2_number_52 ?_
      refine r_getI' (pc := 53) dX2_number_53 fl_X2_61 r7 ef ?_
      refine r_isubN (pc := 56) dX2_number_56 (by omega) ?_
      rw [show b - p = c by omega]
      refine r_iconst (v := nI 4) (pc := 57) dX2_number_57 (by decide) ?_
      first | refine r_icmp_neN (pc := 58) (tgt := 71) dX2_number_58 (by decide) (by omega) (by omega) (fun h58 => ?_) (fun h58 => ?_) | refine r_icmp_ne (pc := 58) (tgt := 71) dX2_number_58 (by decide) (fun h58 => ?_) (fun h58 => ?_)
      · skip
        refine r_bipush (v := nI 10) (pc := 71) dX2_number_71 (by decide) ?_
        refine r_ild3 (pc := 73) dX2_number_73 ?_
        refine r_imulN (pc := 74) dX2_number_74 ?_
        refine r_ald0 (pc := 75) dX2_number_75 ?_
        refine r_ald0 (pc := 76) dX2_number_76 ?_
        refine r_getI' (pc := 77) dX2_number_77 fl_X2_36 r7 ea ?_
        refine r_cV (ci := 2) (pc := 80) dX2_number_80 cv_X2_39 r7 hct rfl rfl (Nat.le_of_ble_eq_true rfl) (by decide) ?_
        rintro _ M6 ⟨rfl, e6⟩
        rw [e6]
        refine r_iaddN (pc := 83) dX2_number_83 ?_
        refine r_bipush (v := nI 48) (pc := 84) dX2_number_84 (by decide) ?_
        refine r_isubN (pc := 86) dX2_number_86 (by unfold dgt at h45; simp at h45; omega) ?_
        refine r_ist3 (pc := 87) dX2_number_87 ?_
        refine r_ald0 (pc := 88) dX2_number_88 ?_
        refine r_dup (pc := 89) dX2_number_89 rfl ?_
        refine r_getI' (pc := 90) dX2_number_90 fl_X2_36 r7 ea ?_
        refine r_iconst (v := nI 1) (pc := 93) dX2_number_93 (by decide) ?_
        first | refine r_iaddN (pc := 94) dX2_number_94 ?_ | refine r_iaddJ (pc := 94) dX2_number_94 ?_ | refine r_iadd (pc := 94) dX2_number_94 ?_
        refine r_putI (pc := 95) (ty := .int) dX2_number_95 fl_X2_36 ⟨rfl, rfl⟩ rfl rfl r7 (by omega) ?_
        first | rw [sI_sI] | rw [atM, sI_sI]
        refine r_goto (pc := 98) (tgt := 34) dX2_number_98 (by decide) ?_
        have hd9 : 48 ≤ f b ∧ f b ≤ 57 := by unfold dgt at h45; simp at h45; omega
        rw [show numL f (k + 1) b v c = numL f k (b + 1) (10 * v + (f b - 48)) (c + 1) by conv => lhs; unfold numL; rw [if_pos h45, if_neg h58], show 10 * v + f b - 48 = 10 * v + (f b - 48) by omega]
        exact ih (b + 1) (10 * v + (f b - 48)) (c + 1) (by omega) (by omega) (by omega) (by rw [Nat.pow_succ]; omega)
      · skip
        refine r_ald0 (pc := 61) dX2_number_61 ?_
        refine r_iconst (v := nI 1) (pc := 62) dX2_number_62 (by decide) ?_
        refine r_ald0 (pc := 63) dX2_number_63 ?_
        refine r_getI' (pc := 64) dX2_number_64 fl_X2_36 r7 ea ?_
        refine r_cV (ci := 2) (pc := 67) dX2_number_67 cv_X2_47 r7 (ct_X2_wrong (k := 1) hR) rfl rfl (Nat.le_of_ble_eq_true rfl) (by decide) ?_
        rintro _ M7 ⟨rfl, e7⟩
        rw [e7]
        refine r_athrow (pc := 70) dX2_number_70 r11 ⟨1, b, by rw [show numL f (k + 1) b v c = .error (1, b) by unfold numL; rw [if_pos h45, if_pos h58]]; rfl, XE.fl krr⟩
end X54
