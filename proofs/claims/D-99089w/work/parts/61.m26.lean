set_option maxRecDepth 100000
/-! THE MODEL: an image comes on -/
section M26
variable {g : GC} {M : MM} {o : Nat} {s sB : MS} {M1 : MM} {q : Sg} {T : Te} {t : St} {K : List Ev}
theorem toldB {f : Nat → Nat} {n p : Nat} (hS : ShM g M o) (hn : n ≤ 8) (hp : p < n) (hf : ∀ j, j < 1600 → mA s 0 j = nI (f j)) (hb : ∀ j, f j < 256) :
    ∀ (k r : Nat), r + k = p → Bd g yX6_isPersonTold cX6_isPersonTold 5 (some Jvm.ClassFile.FieldType.boolean) [] 2 0 0 (putM M o s) 87 [some (.ref o), some (.int (nI p)), some (.int (nI (2 + n))), some (.int (nI (2 + (2 + n) * p))), some (.int (nI (2 + (2 + n) * r)))] [] (PQ (putM M o s) (.int (zI (allR (fun r => f (2 + (2 + n) * r) != f (2 + (2 + n) * p)) k r = true)))) noX := by
  have hmp : (2 + n) * p ≤ 10 * 7 := Nat.mul_le_mul (by omega) (by omega)
  have h1 := hb (2 + (2 + n) * p)
  intro k
  induction k with
  | zero =>
    intro r hr
    have hr : r = p := hr
    subst hr
    refine r_ild4 (pc := 87) dX6_isPersonTold_87 ?_
    refine r_ild3 (pc := 89) dX6_isPersonTold_89 ?_
    first | refine r_icmp_geN (pc := 90) (tgt := 120) dX6_isPersonTold_90 (by decide) (by omega) (by omega) (fun h90 => ?_) (fun h90 => ?_) | refine r_icmp_ge (pc := 90) (tgt := 120) dX6_isPersonTold_90 (by decide) (fun h90 => ?_) (fun h90 => ?_)
    · skip
      refine r_iconst (v := nI 1) (pc := 120) dX6_isPersonTold_120 (by decide) ?_
      refine r_zret (pc := 121) dX6_isPersonTold_121 (by first | rfl | exact zI_nar | assumption) ?_
      exact ⟨rfl, rfl⟩
    · skip
      exact absurd h90 (by omega)
  | succ k ih =>
    intro r hr
    have hm2 : (2 + n) * r + (2 + n) ≤ (2 + n) * p := by rw [← Nat.mul_succ]; exact Nat.mul_le_mul_left _ (by omega)
    have h2 := hb (2 + (2 + n) * r)
    have e : allR (fun r => f (2 + (2 + n) * r) != f (2 + (2 + n) * p)) (k + 1) r = ((f (2 + (2 + n) * r) != f (2 + (2 + n) * p)) && allR (fun r => f (2 + (2 + n) * r) != f (2 + (2 + n) * p)) k (r + 1)) := rfl
    rw [e]
    have hih := ih (r + 1) (by omega)
    rw [show 2 + (2 + n) * (r + 1) = 2 + (2 + n) * r + (2 + n) by rw [Nat.mul_succ]; omega] at hih
    refine r_ild4 (pc := 87) dX6_isPersonTold_87 ?_
    refine r_ild3 (pc := 89) dX6_isPersonTold_89 ?_
    first | refine r_icmp_geN (pc := 90) (tgt := 120) dX6_isPersonTold_90 (by decide) (by omega) (by omega) (fun h90 => ?_) (fun h90 => ?_) | refine r_icmp_ge (pc := 90) (tgt := 120) dX6_isPersonTold_90 (by decide) (fun h90 => ?_) (fun h90 => ?_)
    · skip
      exact absurd h90 (by omega)
    · skip
      refine r_ald0 (pc := 93) dX6_isPersonTold_93 ?_
      refine m_getR hS (pc := 94) dX6_isPersonTold_94 fl_X6_7 ar0 ?_
      refine r_ild4 (pc := 97) dX6_isPersonTold_97 ?_
      refine m_iald hS (pc := 99) dX6_isPersonTold_99 ar0 (by omega) (by omega) ?_
      refine Bd.eqI (hf _ (by omega)) ?_
      refine r_ald0 (pc := 100) dX6_isPersonTold_100 ?_
      refine m_getR hS (pc := 101) dX6_isPersonTold_101 fl_X6_7 ar0 ?_
      refine r_ild3 (pc := 104) dX6_isPersonTold_104 ?_
      refine m_iald hS (pc := 105) dX6_isPersonTold_105 ar0 (by omega) (by omega) ?_
      refine Bd.eqI (hf _ (by omega)) ?_
      first | refine r_icmp_neN (pc := 106) (tgt := 111) dX6_isPersonTold_106 (by decide) (by omega) (by omega) (fun h106 => ?_) (fun h106 => ?_) | refine r_icmp_ne (pc := 106) (tgt := 111) dX6_isPersonTold_106 (by decide) (fun h106 => ?_) (fun h106 => ?_)
      · skip
        rw [bne_iff_ne.mpr h106, Bool.true_and]
        refine r_ild4 (pc := 111) dX6_isPersonTold_111 ?_
        refine r_ild2 (pc := 113) dX6_isPersonTold_113 ?_
        first | refine r_iaddN (pc := 114) dX6_isPersonTold_114 ?_ | refine r_iaddJ (pc := 114) dX6_isPersonTold_114 ?_ | refine r_iadd (pc := 114) dX6_isPersonTold_114 ?_
        refine r_ist4 (pc := 115) dX6_isPersonTold_115 ?_
        refine r_goto (pc := 117) (tgt := 87) dX6_isPersonTold_117 (by decide) ?_
        exact hih
      · skip
        rw [h106, bne_self_eq_false, Bool.false_and]
        refine r_iconst (v := nI 0) (pc := 109) dX6_isPersonTold_109 (by decide) ?_
        refine r_zret (pc := 110) dX6_isPersonTold_110 (by first | rfl | exact zI_nar | assumption) ?_
        exact ⟨rfl, rfl⟩
theorem toldA {f : Nat → Nat} {n p : Nat} (hS : ShM g M o) (hn : n ≤ 8) (hp : p < n) (hf : ∀ j, j < 1600 → mA s 0 j = nI (f j)) (hb : ∀ j, f j < 256) :
    ∀ (k i : Nat), i + k = 2 + n → 3 ≤ i → Bd g yX6_isPersonTold cX6_isPersonTold 5 (some Jvm.ClassFile.FieldType.boolean) [] 2 0 0 (putM M o s) 56 [some (.ref o), some (.int (nI p)), some (.int (nI (2 + n))), some (.int (nI (2 + (2 + n) * p))), some (.int (nI i))] [] (PQ (putM M o s) (.int (zI ((allR (fun i => decide (f (2 + (2 + n) * p + i) ≤ 9)) k i && allR (fun r => f (2 + (2 + n) * r) != f (2 + (2 + n) * p)) p 0) = true)))) noX := by
  have hmp : (2 + n) * p ≤ 10 * 7 := Nat.mul_le_mul (by omega) (by omega)
  intro k
  induction k with
  | zero =>
    intro i hi hi3
    have hi : i = 2 + n := hi
    subst hi
    rw [show allR (fun i => decide (f (2 + (2 + n) * p + i) ≤ 9)) 0 (2 + n) = true from rfl, Bool.true_and]
    refine r_ild4 (pc := 56) dX6_isPersonTold_56 ?_
    refine r_ild2 (pc := 58) dX6_isPersonTold_58 ?_
    first | refine r_icmp_geN (pc := 59) (tgt := 84) dX6_isPersonTold_59 (by decide) (by omega) (by omega) (fun h59 => ?_) (fun h59 => ?_) | refine r_icmp_ge (pc := 59) (tgt := 84) dX6_isPersonTold_59 (by decide) (fun h59 => ?_) (fun h59 => ?_)
    · skip
      refine r_iconst (v := nI 2) (pc := 84) dX6_isPersonTold_84 (by decide) ?_
      refine r_ist4 (pc := 85) dX6_isPersonTold_85 ?_
      exact toldB hS hn hp hf hb p 0 (by omega)
    · skip
      exact absurd h59 (by omega)
  | succ k ih =>
    intro i hi hi3
    have h2 := hb (2 + (2 + n) * p + i)
    have e : allR (fun i => decide (f (2 + (2 + n) * p + i) ≤ 9)) (k + 1) i = (decide (f (2 + (2 + n) * p + i) ≤ 9) && allR (fun i => decide (f (2 + (2 + n) * p + i) ≤ 9)) k (i + 1)) := rfl
    rw [e]
    refine r_ild4 (pc := 56) dX6_isPersonTold_56 ?_
    refine r_ild2 (pc := 58) dX6_isPersonTold_58 ?_
    first | refine r_icmp_geN (pc := 59) (tgt := 84) dX6_isPersonTold_59 (by decide) (by omega) (by omega) (fun h59 => ?_) (fun h59 => ?_) | refine r_icmp_ge (pc := 59) (tgt := 84) dX6_isPersonTold_59 (by decide) (fun h59 => ?_) (fun h59 => ?_)
    · skip
      exact absurd h59 (by omega)
    · skip
      refine r_ald0 (pc := 62) dX6_isPersonTold_62 ?_
      refine m_getR hS (pc := 63) dX6_isPersonTold_63 fl_X6_7 ar0 ?_
      refine r_ild3 (pc := 66) dX6_isPersonTold_66 ?_
      refine r_ild4 (pc := 67) dX6_isPersonTold_67 ?_
      first | refine r_iaddN (pc := 69) dX6_isPersonTold_69 ?_ | refine r_iaddJ (pc := 69) dX6_isPersonTold_69 ?_ | refine r_iadd (pc := 69) dX6_isPersonTold_69 ?_
      refine m_iald hS (pc := 70) dX6_isPersonTold_70 ar0 (by omega) (by omega) ?_
      refine Bd.eqI (hf _ (by omega)) ?_
      refine r_bipush (v := nI 9) (pc := 71) dX6_isPersonTold_71 (by decide) ?_
      first | refine r_icmp_leN (pc := 73) (tgt := 78) dX6_isPersonTold_73 (by decide) (by omega) (by omega) (fun h73 => ?_) (fun h73 => ?_) | refine r_icmp_le (pc := 73) (tgt := 78) dX6_isPersonTold_73 (by decide) (fun h73 => ?_) (fun h73 => ?_)
      · skip
        rw [decide_eq_true (by omega : f (2 + (2 + n) * p + i) ≤ 9), Bool.true_and]
        first | refine r_iinc4N (j := 1) (pc := 78) dX6_isPersonTold_78 rfl ?_ | refine r_iinc4 (pc := 78) dX6_isPersonTold_78 ?_
        refine r_goto (pc := 81) (tgt := 56) dX6_isPersonTold_81 (by decide) ?_
        exact ih (i + 1) (by omega) (by omega)
      · skip
        rw [decide_eq_false (by omega : ¬ f (2 + (2 + n) * p + i) ≤ 9), Bool.false_and, Bool.false_and]
        refine r_iconst (v := nI 0) (pc := 76) dX6_isPersonTold_76 (by decide) ?_
        refine r_zret (pc := 77) dX6_isPersonTold_77 (by first | rfl | exact zI_nar | assumption) ?_
        exact ⟨rfl, rfl⟩
theorem ct_X6_isPersonTold {p : Nat} (hS : ShM g M o) (hI : IM s q) (hG : GI q) (hp : p < tn (gT q)) : Ct g yX6_isPersonTold cX6_isPersonTold 5 (some Jvm.ClassFile.FieldType.boolean) 2 0 0 [.ref o, .int (nI p)] (putM M o s) (PQ (putM M o s) (.int (zI (pTold (gTp q) (tn (gT q)) (tH (gT q)) p = true)))) noX := by
  have hT := hI.2.2.2.1.1
  have hf := hI.1.2
  have hb := hG.2.1
  have hn := hG.2.2.1.1
  have hmp : (2 + tn (gT q)) * p ≤ 10 * 7 := Nat.mul_le_mul (by omega) (by omega)
  have h1 := hb (2 + (2 + tn (gT q)) * p)
  have h2 := hb (2 + (2 + tn (gT q)) * p + 1)
  have h3 := hb (2 + (2 + tn (gT q)) * p + 2)
  refine Ct.of (by decide) (Nat.le_of_ble_eq_true rfl) rfl ?_
  unfold pTold
  refine r_iconst (v := nI 2) (pc := 0) dX6_isPersonTold_0 (by decide) ?_
  refine r_ald0 (pc := 1) dX6_isPersonTold_1 ?_
  refine m_getI hS (pc := 2) dX6_isPersonTold_2 fl_X6_382 ?_
  refine Bd.eqI hT.2.1 ?_
  first | refine r_iaddN (pc := 5) dX6_isPersonTold_5 ?_ | refine r_iaddJ (pc := 5) dX6_isPersonTold_5 ?_ | refine r_iadd (pc := 5) dX6_isPersonTold_5 ?_
  refine r_ist2 (pc := 6) dX6_isPersonTold_6 ?_
  refine r_iconst (v := nI 2) (pc := 7) dX6_isPersonTold_7 (by decide) ?_
  refine r_ild2 (pc := 8) dX6_isPersonTold_8 ?_
  refine r_ild1 (pc := 9) dX6_isPersonTold_9 ?_
  first | refine r_imulN (pc := 10) dX6_isPersonTold_10 ?_ | refine r_imulJ (pc := 10) dX6_isPersonTold_10 ?_ | refine r_imul (pc := 10) dX6_isPersonTold_10 ?_
  first | refine r_iaddN (pc := 11) dX6_isPersonTold_11 ?_ | refine r_iaddJ (pc := 11) dX6_isPersonTold_11 ?_ | refine r_iadd (pc := 11) dX6_isPersonTold_11 ?_
  refine r_ist3 (pc := 12) dX6_isPersonTold_12 ?_
  refine r_ald0 (pc := 13) dX6_isPersonTold_13 ?_
  refine r_ald0 (pc := 14) dX6_isPersonTold_14 ?_
  refine m_getR hS (pc := 15) dX6_isPersonTold_15 fl_X6_7 ar0 ?_
  refine r_ild3 (pc := 18) dX6_isPersonTold_18 ?_
  refine m_iald hS (pc := 19) dX6_isPersonTold_19 ar0 (by omega) (by omega) ?_
  refine Bd.eqI (hf _ (by omega)) ?_
  refine r_cV (pc := 20) dX6_isPersonTold_20 cv_X6_516 hS.k (ct_X6_isHouse hS hT.1 hG.2.2.1.2.1 hI.2.2.2.1.2.1 (fun h => (hG.2.2.2.1 h).1)) rfl rfl (Nat.le_of_ble_eq_true rfl) (by decide) ?_
  rintro _ _ ⟨rfl, rfl⟩
  first | refine r_if_eqZ (pc := 23) (tgt := 51) dX6_isPersonTold_23 (by decide) (fun h23 => ?_) (fun h23 => ?_) | refine r_if_eqN (pc := 23) (tgt := 51) dX6_isPersonTold_23 (by decide) (by omega) (fun h23 => ?_) (fun h23 => ?_) | refine r_if_eq (pc := 23) (tgt := 51) dX6_isPersonTold_23 (by decide) (fun h23 => ?_) (fun h23 => ?_)
  · skip
    rw [nI_toInt (by omega)] at h23
    rw [decide_eq_false (by omega : ¬ gTp q (2 + (2 + tn (gT q)) * p) < tH (gT q)), Bool.false_and, Bool.false_and, Bool.false_and, Bool.false_and]
    refine r_iconst (v := nI 0) (pc := 51) dX6_isPersonTold_51 (by decide) ?_
    refine r_zret (pc := 52) dX6_isPersonTold_52 (by first | rfl | exact zI_nar | assumption) ?_
    exact ⟨rfl, rfl⟩
  · skip
    rw [nI_toInt (by omega)] at h23
    rw [decide_eq_true (by omega : gTp q (2 + (2 + tn (gT q)) * p) < tH (gT q)), Bool.true_and]
    refine r_ald0 (pc := 26) dX6_isPersonTold_26 ?_
    refine m_getR hS (pc := 27) dX6_isPersonTold_27 fl_X6_7 ar0 ?_
    refine r_ild3 (pc := 30) dX6_isPersonTold_30 ?_
    refine r_iconst (v := nI 1) (pc := 31) dX6_isPersonTold_31 (by decide) ?_
    first | refine r_iaddN (pc := 32) dX6_isPersonTold_32 ?_ | refine r_iaddJ (pc := 32) dX6_isPersonTold_32 ?_ | refine r_iadd (pc := 32) dX6_isPersonTold_32 ?_
    refine m_iald hS (pc := 33) dX6_isPersonTold_33 ar0 (by omega) (by omega) ?_
    refine Bd.eqI (hf _ (by omega)) ?_
    refine r_bipush (v := nI 99) (pc := 34) dX6_isPersonTold_34 (by decide) ?_
    first | refine r_icmp_gtN (pc := 36) (tgt := 51) dX6_isPersonTold_36 (by decide) (by omega) (by omega) (fun h36 => ?_) (fun h36 => ?_) | refine r_icmp_gt (pc := 36) (tgt := 51) dX6_isPersonTold_36 (by decide) (fun h36 => ?_) (fun h36 => ?_)
    · skip
      rw [decide_eq_false (by omega : ¬ gTp q (2 + (2 + tn (gT q)) * p + 1) ≤ 99), Bool.false_and, Bool.false_and, Bool.false_and]
      refine r_iconst (v := nI 0) (pc := 51) dX6_isPersonTold_51 (by decide) ?_
      refine r_zret (pc := 52) dX6_isPersonTold_52 (by first | rfl | exact zI_nar | assumption) ?_
      exact ⟨rfl, rfl⟩
    · skip
      rw [decide_eq_true (by omega : gTp q (2 + (2 + tn (gT q)) * p + 1) ≤ 99), Bool.true_and]
      refine r_ald0 (pc := 39) dX6_isPersonTold_39 ?_
      refine m_getR hS (pc := 40) dX6_isPersonTold_40 fl_X6_7 ar0 ?_
      refine r_ild3 (pc := 43) dX6_isPersonTold_43 ?_
      refine r_iconst (v := nI 2) (pc := 44) dX6_isPersonTold_44 (by decide) ?_
      first | refine r_iaddN (pc := 45) dX6_isPersonTold_45 ?_ | refine r_iaddJ (pc := 45) dX6_isPersonTold_45 ?_ | refine r_iadd (pc := 45) dX6_isPersonTold_45 ?_
      refine m_iald hS (pc := 46) dX6_isPersonTold_46 ar0 (by omega) (by omega) ?_
      refine Bd.eqI (hf _ (by omega)) ?_
      refine r_iconst (v := nI 1) (pc := 47) dX6_isPersonTold_47 (by decide) ?_
      first | refine r_icmp_leN (pc := 48) (tgt := 53) dX6_isPersonTold_48 (by decide) (by omega) (by omega) (fun h48 => ?_) (fun h48 => ?_) | refine r_icmp_le (pc := 48) (tgt := 53) dX6_isPersonTold_48 (by decide) (fun h48 => ?_) (fun h48 => ?_)
      · skip
        rw [decide_eq_true (by omega : gTp q (2 + (2 + tn (gT q)) * p + 2) ≤ 1), Bool.true_and]
        refine r_iconst (v := nI 3) (pc := 53) dX6_isPersonTold_53 (by decide) ?_
        refine r_ist4 (pc := 54) dX6_isPersonTold_54 ?_
        exact toldA hS hn hp hf hb (tn (gT q) - 1) 3 (by omega) (by omega)
      · skip
        rw [decide_eq_false (by omega : ¬ gTp q (2 + (2 + tn (gT q)) * p + 2) ≤ 1), Bool.false_and, Bool.false_and]
        refine r_iconst (v := nI 0) (pc := 51) dX6_isPersonTold_51 (by decide) ?_
        refine r_zret (pc := 52) dX6_isPersonTold_52 (by first | rfl | exact zI_nar | assumption) ?_
        exact ⟨rfl, rfl⟩
def imgOkN (q : Sg) (N : Nat) : Bool := gIt q && N == 3 + tn (gT q) * (2 + tn (gT q)) && gTp q (N - 1) == chkF (gTp q) (N - 1) && decide (256 * gTp q 0 + gTp q 1 ≤ 999) && allR (pTold (gTp q) (tn (gT q)) (tH (gT q))) (tn (gT q)) 0
theorem imgPLoop {w1 : Int32} (hS : ShM g M o) (hI : IM s q) (hG : GI q) :
    ∀ (k p : Nat), p + k = tn (gT q) → Bd g yX6_isImage cX6_isImage 3 (some Jvm.ClassFile.FieldType.boolean) [] 3 0 0 (putM M o s) 72 [some (.ref o), some (.int w1), some (.int (nI p))] [] (PQ (putM M o s) (.int (zI (allR (pTold (gTp q) (tn (gT q)) (tH (gT q))) k p = true)))) noX := by
  have hT := hI.2.2.2.1.1
  have hn := hG.2.2.1.1
  intro k
  induction k with
  | zero =>
    intro p hp
    refine r_ild2 (pc := 72) dX6_isImage_72 ?_
    refine r_ald0 (pc := 73) dX6_isImage_73 ?_
    refine m_getI hS (pc := 74) dX6_isImage_74 fl_X6_382 ?_
    refine Bd.eqI hT.2.1 ?_
    first | refine r_icmp_geN (pc := 77) (tgt := 96) dX6_isImage_77 (by decide) (by omega) (by omega) (fun h77 => ?_) (fun h77 => ?_) | refine r_icmp_ge (pc := 77) (tgt := 96) dX6_isImage_77 (by decide) (fun h77 => ?_) (fun h77 => ?_)
    · skip
      refine r_iconst (v := nI 1) (pc := 96) dX6_isImage_96 (by decide) ?_
      refine r_zret (pc := 97) dX6_isImage_97 (by first | rfl | exact zI_nar | assumption) ?_
      exact ⟨rfl, rfl⟩
    · skip
      exact absurd h77 (by omega)
  | succ k ih =>
    intro p hp
    have e : allR (pTold (gTp q) (tn (gT q)) (tH (gT q))) (k + 1) p = (pTold (gTp q) (tn (gT q)) (tH (gT q)) p && allR (pTold (gTp q) (tn (gT q)) (tH (gT q))) k (p + 1)) := rfl
    rw [e]
    refine r_ild2 (pc := 72) dX6_isImage_72 ?_
    refine r_ald0 (pc := 73) dX6_isImage_73 ?_
    refine m_getI hS (pc := 74) dX6_isImage_74 fl_X6_382 ?_
    refine Bd.eqI hT.2.1 ?_
    first | refine r_icmp_geN (pc := 77) (tgt := 96) dX6_isImage_77 (by decide) (by omega) (by omega) (fun h77 => ?_) (fun h77 => ?_) | refine r_icmp_ge (pc := 77) (tgt := 96) dX6_isImage_77 (by decide) (fun h77 => ?_) (fun h77 => ?_)
    · skip
      exact absurd h77 (by omega)
    · skip
      refine r_ald0 (pc := 80) dX6_isImage_80 ?_
      refine r_ild2 (pc := 81) dX6_isImage_81 ?_
      refine r_cV (pc := 82) dX6_isImage_82 cv_X6_699 hS.k (ct_X6_isPersonTold hS hI hG (by omega)) rfl rfl (Nat.le_of_ble_eq_true rfl) (by decide) ?_
      rintro _ _ ⟨rfl, rfl⟩
      first | refine r_if_neZ (pc := 85) (tgt := 90) dX6_isImage_85 (by decide) (fun h85 => ?_) (fun h85 => ?_) | refine r_if_neN (pc := 85) (tgt := 90) dX6_isImage_85 (by decide) (by omega) (fun h85 => ?_) (fun h85 => ?_) | refine r_if_ne (pc := 85) (tgt := 90) dX6_isImage_85 (by decide) (fun h85 => ?_) (fun h85 => ?_)
      · skip
        rw [h85, Bool.true_and]
        first | refine r_iinc2N (j := 1) (pc := 90) dX6_isImage_90 rfl ?_ | refine r_iinc2 (pc := 90) dX6_isImage_90 ?_
        refine r_goto (pc := 93) (tgt := 72) dX6_isImage_93 (by decide) ?_
        exact ih (p + 1) (by omega)
      · skip
        rw [Bool.eq_false_iff.mpr h85, Bool.false_and]
        refine r_iconst (v := nI 0) (pc := 88) dX6_isImage_88 (by decide) ?_
        refine r_zret (pc := 89) dX6_isImage_89 (by first | rfl | exact zI_nar | assumption) ?_
        exact ⟨rfl, rfl⟩
theorem ct_X6_isImage {N : Nat} (hS : ShM g M o) (hI : IM s q) (hG : GI q) (hN : N ≤ 1600) : Ct g yX6_isImage cX6_isImage 3 (some Jvm.ClassFile.FieldType.boolean) 3 0 0 [.ref o, .int (nI N)] (putM M o s) (PQ (putM M o s) (.int (zI (imgOkN q N = true)))) noX := by
  have hT := hI.2.2.2.1.1
  have hi := hI.2.2.2.1.2.1
  have hf := hI.1.2
  have hb := hG.2.1
  have hn := hG.2.2.1.1
  have hmul : tn (gT q) * (2 + tn (gT q)) ≤ 8 * 10 := Nat.mul_le_mul (by omega) (by omega)
  have h0 := hb 0
  have h1 := hb 1
  have h2 := hb (N - 1)
  have h3 := chkF_lt (gTp q) (N - 1)
  refine Ct.of (by decide) (Nat.le_of_ble_eq_true rfl) rfl ?_
  unfold imgOkN
  cases hit : gIt q with
  | false =>
    rw [hit] at hi
    rw [Bool.false_and, Bool.false_and, Bool.false_and, Bool.false_and]
    refine r_ald0 (pc := 0) dX6_isImage_0 ?_
    refine m_getI hS (pc := 1) dX6_isImage_1 fl_X6_375 ?_
    refine Bd.eqI hi ?_
    first | refine r_if_eqZ (pc := 4) (tgt := 68) dX6_isImage_4 (by decide) (fun h4 => ?_) (fun h4 => ?_) | refine r_if_eqN (pc := 4) (tgt := 68) dX6_isImage_4 (by decide) (by omega) (fun h4 => ?_) (fun h4 => ?_) | refine r_if_eq (pc := 4) (tgt := 68) dX6_isImage_4 (by decide) (fun h4 => ?_) (fun h4 => ?_)
    · skip
      refine r_iconst (v := nI 0) (pc := 68) dX6_isImage_68 (by decide) ?_
      refine r_zret (pc := 69) dX6_isImage_69 (by first | rfl | exact zI_nar | assumption) ?_
      exact ⟨rfl, rfl⟩
    · skip
      exact absurd h4 (by decide)
  | true =>
    rw [hit] at hi
    rw [Bool.true_and]
    refine r_ald0 (pc := 0) dX6_isImage_0 ?_
    refine m_getI hS (pc := 1) dX6_isImage_1 fl_X6_375 ?_
    refine Bd.eqI hi ?_
    first | refine r_if_eqZ (pc := 4) (tgt := 68) dX6_isImage_4 (by decide) (fun h4 => ?_) (fun h4 => ?_) | refine r_if_eqN (pc := 4) (tgt := 68) dX6_isImage_4 (by decide) (by omega) (fun h4 => ?_) (fun h4 => ?_) | refine r_if_eq (pc := 4) (tgt := 68) dX6_isImage_4 (by decide) (fun h4 => ?_) (fun h4 => ?_)
    · skip
      exact absurd rfl h4
    · skip
      refine r_ild1 (pc := 7) dX6_isImage_7 ?_
      refine r_iconst (v := nI 3) (pc := 8) dX6_isImage_8 (by decide) ?_
      refine r_ald0 (pc := 9) dX6_isImage_9 ?_
      refine m_getI hS (pc := 10) dX6_isImage_10 fl_X6_382 ?_
      refine Bd.eqI hT.2.1 ?_
      refine r_iconst (v := nI 2) (pc := 13) dX6_isImage_13 (by decide) ?_
      refine r_ald0 (pc := 14) dX6_isImage_14 ?_
      refine m_getI hS (pc := 15) dX6_isImage_15 fl_X6_382 ?_
      refine Bd.eqI hT.2.1 ?_
      first | refine r_iaddN (pc := 18) dX6_isImage_18 ?_ | refine r_iaddJ (pc := 18) dX6_isImage_18 ?_ | refine r_iadd (pc := 18) dX6_isImage_18 ?_
      first | refine r_imulN (pc := 19) dX6_isImage_19 ?_ | refine r_imulJ (pc := 19) dX6_isImage_19 ?_ | refine r_imul (pc := 19) dX6_isImage_19 ?_
      first | refine r_iaddN (pc := 20) dX6_isImage_20 ?_ | refine r_iaddJ (pc := 20) dX6_isImage_20 ?_ | refine r_iadd (pc := 20) dX6_isImage_20 ?_
      first | refine r_icmp_neN (pc := 21) (tgt := 68) dX6_isImage_21 (by decide) (by omega) (by omega) (fun h21 => ?_) (fun h21 => ?_) | refine r_icmp_ne (pc := 21) (tgt := 68) dX6_isImage_21 (by decide) (fun h21 => ?_) (fun h21 => ?_)
      · skip
        rw [beq_eq_false_iff_ne.mpr h21, Bool.false_and, Bool.false_and, Bool.false_and]
        refine r_iconst (v := nI 0) (pc := 68) dX6_isImage_68 (by decide) ?_
        refine r_zret (pc := 69) dX6_isImage_69 (by first | rfl | exact zI_nar | assumption) ?_
        exact ⟨rfl, rfl⟩
      · skip
        rw [beq_iff_eq.mpr h21, Bool.true_and]
        refine r_ald0 (pc := 24) dX6_isImage_24 ?_
        refine m_getR hS (pc := 25) dX6_isImage_25 fl_X6_7 ar0 ?_
        refine r_ild1 (pc := 28) dX6_isImage_28 ?_
        refine r_iconst (v := nI 1) (pc := 29) dX6_isImage_29 (by decide) ?_
        first | refine r_isubN (pc := 30) dX6_isImage_30 (by omega) ?_ | refine r_isubM (pc := 30) dX6_isImage_30 ?_ | refine r_isubJ (pc := 30) dX6_isImage_30 ?_ | refine r_isub (pc := 30) dX6_isImage_30 ?_
        refine m_iald hS (pc := 31) dX6_isImage_31 ar0 (by omega) (by omega) ?_
        refine Bd.eqI (hf _ (by omega)) ?_
        refine r_ald0 (pc := 32) dX6_isImage_32 ?_
        refine m_getR hS (pc := 33) dX6_isImage_33 fl_X6_7 ar0 ?_
        refine r_ild1 (pc := 36) dX6_isImage_36 ?_
        refine r_iconst (v := nI 1) (pc := 37) dX6_isImage_37 (by decide) ?_
        first | refine r_isubN (pc := 38) dX6_isImage_38 (by omega) ?_ | refine r_isubM (pc := 38) dX6_isImage_38 ?_ | refine r_isubJ (pc := 38) dX6_isImage_38 ?_ | refine r_isub (pc := 38) dX6_isImage_38 ?_
        refine r_cS (pc := 39) dX6_isImage_39 cs_X6_695 (ct_X6_checked (f := gTp q) hS ar0 (by omega) (by omega) (fun j hj => ⟨hf j (by omega), by have := hb j; omega⟩)) rfl rfl (Nat.le_of_ble_eq_true rfl) (by decide) ?_
        rintro _ _ ⟨rfl, rfl⟩
        first | refine r_icmp_neN (pc := 42) (tgt := 68) dX6_isImage_42 (by decide) (by omega) (by omega) (fun h42 => ?_) (fun h42 => ?_) | refine r_icmp_ne (pc := 42) (tgt := 68) dX6_isImage_42 (by decide) (fun h42 => ?_) (fun h42 => ?_)
        · skip
          rw [beq_eq_false_iff_ne.mpr h42, Bool.false_and, Bool.false_and]
          refine r_iconst (v := nI 0) (pc := 68) dX6_isImage_68 (by decide) ?_
          refine r_zret (pc := 69) dX6_isImage_69 (by first | rfl | exact zI_nar | assumption) ?_
          exact ⟨rfl, rfl⟩
        · skip
          rw [beq_iff_eq.mpr h42, Bool.true_and]
          refine r_sipush (v := nI 256) (pc := 45) dX6_isImage_45 (by decide) ?_
          refine r_ald0 (pc := 48) dX6_isImage_48 ?_
          refine m_getR hS (pc := 49) dX6_isImage_49 fl_X6_7 ar0 ?_
          refine r_iconst (v := nI 0) (pc := 52) dX6_isImage_52 (by decide) ?_
          refine m_iald hS (pc := 53) dX6_isImage_53 ar0 (by omega) (by omega) ?_
          refine Bd.eqI (hf 0 (by omega)) ?_
          first | refine r_imulN (pc := 54) dX6_isImage_54 ?_ | refine r_imulJ (pc := 54) dX6_isImage_54 ?_ | refine r_imul (pc := 54) dX6_isImage_54 ?_
          refine r_ald0 (pc := 55) dX6_isImage_55 ?_
          refine m_getR hS (pc := 56) dX6_isImage_56 fl_X6_7 ar0 ?_
          refine r_iconst (v := nI 1) (pc := 59) dX6_isImage_59 (by decide) ?_
          refine m_iald hS (pc := 60) dX6_isImage_60 ar0 (by omega) (by omega) ?_
          refine Bd.eqI (hf 1 (by omega)) ?_
          first | refine r_iaddN (pc := 61) dX6_isImage_61 ?_ | refine r_iaddJ (pc := 61) dX6_isImage_61 ?_ | refine r_iadd (pc := 61) dX6_isImage_61 ?_
          refine r_sipush (v := nI 999) (pc := 62) dX6_isImage_62 (by decide) ?_
          first | refine r_icmp_leN (pc := 65) (tgt := 70) dX6_isImage_65 (by decide) (by omega) (by omega) (fun h65 => ?_) (fun h65 => ?_) | refine r_icmp_le (pc := 65) (tgt := 70) dX6_isImage_65 (by decide) (fun h65 => ?_) (fun h65 => ?_)
          · skip
            rw [decide_eq_true (by omega : 256 * gTp q 0 + gTp q 1 ≤ 999), Bool.true_and]
            refine r_iconst (v := nI 0) (pc := 70) dX6_isImage_70 (by decide) ?_
            refine r_ist2 (pc := 71) dX6_isImage_71 ?_
            exact imgPLoop hS hI hG _ 0 (Nat.zero_add _)
          · skip
            rw [decide_eq_false (by omega : ¬ 256 * gTp q 0 + gTp q 1 ≤ 999), Bool.false_and]
            refine r_iconst (v := nI 0) (pc := 68) dX6_isImage_68 (by decide) ?_
            refine r_zret (pc := 69) dX6_isImage_69 (by first | rfl | exact zI_nar | assumption) ?_
            exact ⟨rfl, rfl⟩
end M26
