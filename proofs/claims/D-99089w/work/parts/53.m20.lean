set_option maxRecDepth 100000
/-! THE MODEL: what is seen -/
section M20
variable {g : GC} {M : MM} {o : Nat} {s sB : MS} {M1 : MM} {q : Sg} {T : Te} {t : St} {K : List Ev}
theorem asSeenLoop {n y : Nat} {rw1 : List Ev} (hS : ShM g M o) (h67 : mF s 67 = nI rw1.length) (h68 : ∀ i a b c, rw1[i]? = some (a, b, c) → mA s 68 (3 * i) = nI a ∧ mA s 68 (3 * i + 1) = nI b ∧ mA s 68 (3 * i + 2) = nI c) (hl : rw1.length ≤ 16) (hn8 : n ≤ 8) (hb : ∀ e ∈ rw1, e.1 ≤ 30 ∧ e.2.1 < n ∧ e.2.2 ≤ 99) (hN : RN s n t) (hB : SB n t) (hy : y ≤ 100) :
    ∀ (k i : Nat), i + k = rw1.length → Bd g yX6_isAsSeen cX6_isAsSeen 3 (some Jvm.ClassFile.FieldType.boolean) [] 1 0 0 (putM M o s) 2 [some (.ref o), some (.int (nI y)), some (.int (nI i))] [] (PQ (putM M o s) (.int (zI (asSeen (rw1.drop i) t y = true)))) noX := by
  intro k
  induction k with
  | zero =>
    intro i hi
    rw [List.drop_of_length_le (by omega)]
    refine r_ild2 (pc := 2) dX6_isAsSeen_2 ?_
    refine r_ald0 (pc := 3) dX6_isAsSeen_3 ?_
    refine m_getI hS (pc := 4) dX6_isAsSeen_4 fl_X6_391 ?_
    refine Bd.eqI h67 ?_
    first | refine r_icmp_geN (pc := 7) (tgt := 69) dX6_isAsSeen_7 (by decide) (by omega) (by omega) (fun h7 => ?_) (fun h7 => ?_) | refine r_icmp_ge (pc := 7) (tgt := 69) dX6_isAsSeen_7 (by decide) (fun h7 => ?_) (fun h7 => ?_)
    · skip
      refine r_iconst (v := nI 1) (pc := 69) dX6_isAsSeen_69 (by decide) ?_
      refine r_zret (pc := 70) dX6_isAsSeen_70 (by first | rfl | exact zI_nar | assumption) ?_
      exact ⟨rfl, rfl⟩
    · skip
      exact absurd h7 (by omega)
  | succ k ih =>
    intro i hi
    have hlt : i < rw1.length := by omega
    have hg : rw1[i]? = some rw1[i] := List.getElem?_eq_getElem hlt
    obtain ⟨b1, b2, b3⟩ := hb rw1[i] (List.getElem_mem hlt)
    rw [List.drop_eq_getElem_cons hlt]
    generalize hee : rw1[i] = e at hg b1 b2 b3 ⊢
    obtain ⟨a, b, c⟩ := e
    obtain ⟨e1, e2, e3⟩ := h68 i a b c hg
    have b1 : a ≤ 30 := b1
    have b2 : b < n := b2
    have b3 : c ≤ 99 := b3
    have hlk := (hB.2 b b2).2.1
    have hyr := hB.1
    have has : asSeen ((a, b, c) :: rw1.drop (i + 1)) t y = (asE t y (a, b, c) && asSeen (rw1.drop (i + 1)) t y) := rfl
    rw [has]
    have hE : asE t y (a, b, c) = !(a == y && (decide (999 < yr t) || lk t b != c)) := rfl
    refine r_ild2 (pc := 2) dX6_isAsSeen_2 ?_
    refine r_ald0 (pc := 3) dX6_isAsSeen_3 ?_
    refine m_getI hS (pc := 4) dX6_isAsSeen_4 fl_X6_391 ?_
    refine Bd.eqI h67 ?_
    first | refine r_icmp_geN (pc := 7) (tgt := 69) dX6_isAsSeen_7 (by decide) (by omega) (by omega) (fun h7 => ?_) (fun h7 => ?_) | refine r_icmp_ge (pc := 7) (tgt := 69) dX6_isAsSeen_7 (by decide) (fun h7 => ?_) (fun h7 => ?_)
    · skip
      exact absurd h7 (by omega)
    · skip
      refine r_ald0 (pc := 10) dX6_isAsSeen_10 ?_
      refine m_getR hS (pc := 11) dX6_isAsSeen_11 fl_X6_130 ar68 ?_
      refine r_iconst (v := nI 3) (pc := 14) dX6_isAsSeen_14 (by decide) ?_
      refine r_ild2 (pc := 15) dX6_isAsSeen_15 ?_
      first | refine r_imulN (pc := 16) dX6_isAsSeen_16 ?_ | refine r_imulJ (pc := 16) dX6_isAsSeen_16 ?_ | refine r_imul (pc := 16) dX6_isAsSeen_16 ?_
      refine m_iald hS (pc := 17) dX6_isAsSeen_17 ar68 (by omega) (by omega) ?_
      refine Bd.eqI e1 ?_
      refine r_ild1 (pc := 18) dX6_isAsSeen_18 ?_
      first | refine r_icmp_neN (pc := 19) (tgt := 63) dX6_isAsSeen_19 (by decide) (by omega) (by omega) (fun h19 => ?_) (fun h19 => ?_) | refine r_icmp_ne (pc := 19) (tgt := 63) dX6_isAsSeen_19 (by decide) (fun h19 => ?_) (fun h19 => ?_)
      · skip
        rw [hE, beq_eq_false_iff_ne.mpr h19]
        first | refine r_iinc2N (j := 1) (pc := 63) dX6_isAsSeen_63 rfl ?_ | refine r_iinc2 (pc := 63) dX6_isAsSeen_63 ?_
        refine r_goto (pc := 66) (tgt := 2) dX6_isAsSeen_66 (by decide) ?_
        exact ih (i + 1) (by omega)
      · skip
        refine r_ald0 (pc := 22) dX6_isAsSeen_22 ?_
        refine m_getR hS (pc := 23) dX6_isAsSeen_23 fl_X6_121 ar55 ?_
        refine r_iconst (v := nI 0) (pc := 26) dX6_isAsSeen_26 (by decide) ?_
        refine m_iald hS (pc := 27) dX6_isAsSeen_27 ar55 (by omega) (by omega) ?_
        refine Bd.eqI hN.1 ?_
        refine r_sipush (v := nI 999) (pc := 28) dX6_isAsSeen_28 (by decide) ?_
        first | refine r_icmp_gtN (pc := 31) (tgt := 61) dX6_isAsSeen_31 (by decide) (by omega) (by omega) (fun h31 => ?_) (fun h31 => ?_) | refine r_icmp_gt (pc := 31) (tgt := 61) dX6_isAsSeen_31 (by decide) (fun h31 => ?_) (fun h31 => ?_)
        · skip
          rw [hE, h19, beq_self_eq_true, decide_eq_true (by omega : 999 < yr t)]
          refine r_iconst (v := nI 0) (pc := 61) dX6_isAsSeen_61 (by decide) ?_
          refine r_zret (pc := 62) dX6_isAsSeen_62 (by first | rfl | exact zI_nar | assumption) ?_
          exact ⟨rfl, rfl⟩
        · skip
          refine r_ald0 (pc := 34) dX6_isAsSeen_34 ?_
          refine r_ald0 (pc := 35) dX6_isAsSeen_35 ?_
          refine m_getR hS (pc := 36) dX6_isAsSeen_36 fl_X6_130 ar68 ?_
          refine r_iconst (v := nI 3) (pc := 39) dX6_isAsSeen_39 (by decide) ?_
          refine r_ild2 (pc := 40) dX6_isAsSeen_40 ?_
          first | refine r_imulN (pc := 41) dX6_isAsSeen_41 ?_ | refine r_imulJ (pc := 41) dX6_isAsSeen_41 ?_ | refine r_imul (pc := 41) dX6_isAsSeen_41 ?_
          refine r_iconst (v := nI 1) (pc := 42) dX6_isAsSeen_42 (by decide) ?_
          first | refine r_iaddN (pc := 43) dX6_isAsSeen_43 ?_ | refine r_iaddJ (pc := 43) dX6_isAsSeen_43 ?_ | refine r_iadd (pc := 43) dX6_isAsSeen_43 ?_
          refine m_iald hS (pc := 44) dX6_isAsSeen_44 ar68 (by omega) (by omega) ?_
          refine Bd.eqI e2 ?_
          refine r_cV (pc := 45) dX6_isAsSeen_45 cv_X6_423 hS.k (ct_X6_lookOf hS (by omega)) rfl rfl (Nat.le_of_ble_eq_true rfl) (by decide) ?_
          rintro _ _ ⟨rfl, rfl⟩
          refine Bd.eqI (hN.2.2.1 b b2) ?_
          refine r_ald0 (pc := 48) dX6_isAsSeen_48 ?_
          refine m_getR hS (pc := 49) dX6_isAsSeen_49 fl_X6_130 ar68 ?_
          refine r_iconst (v := nI 3) (pc := 52) dX6_isAsSeen_52 (by decide) ?_
          refine r_ild2 (pc := 53) dX6_isAsSeen_53 ?_
          first | refine r_imulN (pc := 54) dX6_isAsSeen_54 ?_ | refine r_imulJ (pc := 54) dX6_isAsSeen_54 ?_ | refine r_imul (pc := 54) dX6_isAsSeen_54 ?_
          refine r_iconst (v := nI 2) (pc := 55) dX6_isAsSeen_55 (by decide) ?_
          first | refine r_iaddN (pc := 56) dX6_isAsSeen_56 ?_ | refine r_iaddJ (pc := 56) dX6_isAsSeen_56 ?_ | refine r_iadd (pc := 56) dX6_isAsSeen_56 ?_
          refine m_iald hS (pc := 57) dX6_isAsSeen_57 ar68 (by omega) (by omega) ?_
          refine Bd.eqI e3 ?_
          first | refine r_icmp_eqN (pc := 58) (tgt := 63) dX6_isAsSeen_58 (by decide) (by omega) (by omega) (fun h58 => ?_) (fun h58 => ?_) | refine r_icmp_eq (pc := 58) (tgt := 63) dX6_isAsSeen_58 (by decide) (fun h58 => ?_) (fun h58 => ?_)
          · skip
            rw [hE, h58, bne_self_eq_false, decide_eq_false (by omega : ¬ 999 < yr t), Bool.or_false, Bool.and_false]
            first | refine r_iinc2N (j := 1) (pc := 63) dX6_isAsSeen_63 rfl ?_ | refine r_iinc2 (pc := 63) dX6_isAsSeen_63 ?_
            refine r_goto (pc := 66) (tgt := 2) dX6_isAsSeen_66 (by decide) ?_
            exact ih (i + 1) (by omega)
          · skip
            rw [hE, h19, beq_self_eq_true, bne_iff_ne.mpr h58, Bool.or_true]
            refine r_iconst (v := nI 0) (pc := 61) dX6_isAsSeen_61 (by decide) ?_
            refine r_zret (pc := 62) dX6_isAsSeen_62 (by first | rfl | exact zI_nar | assumption) ?_
            exact ⟨rfl, rfl⟩
theorem ct_X6_isAsSeen {n y : Nat} {rw1 : List Ev} (hS : ShM g M o) (h67 : mF s 67 = nI rw1.length) (h68 : ∀ i a b c, rw1[i]? = some (a, b, c) → mA s 68 (3 * i) = nI a ∧ mA s 68 (3 * i + 1) = nI b ∧ mA s 68 (3 * i + 2) = nI c) (hl : rw1.length ≤ 16) (hn8 : n ≤ 8) (hb : ∀ e ∈ rw1, e.1 ≤ 30 ∧ e.2.1 < n ∧ e.2.2 ≤ 99) (hN : RN s n t) (hB : SB n t) (hy : y ≤ 100) :
    Ct g yX6_isAsSeen cX6_isAsSeen 3 (some Jvm.ClassFile.FieldType.boolean) 1 0 0 [.ref o, .int (nI y)] (putM M o s) (PQ (putM M o s) (.int (zI (asSeen rw1 t y = true)))) noX := by
  refine Ct.of (by decide) (Nat.le_of_ble_eq_true rfl) rfl ?_
  refine r_iconst (v := nI 0) (pc := 0) dX6_isAsSeen_0 (by decide) ?_
  refine r_ist2 (pc := 1) dX6_isAsSeen_1 ?_
  exact asSeenLoop hS h67 h68 hl hn8 hb hN hB hy rw1.length 0 (by omega)
theorem asSeen0 {y : Nat} (hS : ShM g M o) (hW : IRw s q) (hG : GI q) (hn : tn T = tn (gT q)) (hN : RN s (tn T) t) (hB : SB (tn T) t) (hy : y ≤ 100) :
    Ct g yX6_isAsSeen cX6_isAsSeen 3 (some Jvm.ClassFile.FieldType.boolean) 1 0 0 [.ref o, .int (nI y)] (putM M o s) (PQ (putM M o s) (.int (zI (asSeen (gRw q) t y = true)))) noX :=
  ct_X6_isAsSeen hS hW.1 hW.2 hG.2.2.2.2.2.2.2.2.1 (n := tn T) (by rw [hn]; exact hG.2.2.1.1) (by rw [hn]; exact hG.2.2.2.2.2.2.2.2.2.1) hN hB hy
def WQ (sB : MS) (q : Sg) (T : Te) (t : St) (v r c : Nat) (s1 s' : MS) : Prop := TR sB q s' ∧ (∀ j, j < 89 → mA s' 55 j = mA sB 55 j) ∧ (∀ y, y < 31 → mA s' 69 (31 * v + y) = nI (lk (yearsS T y t).1 r)) ∧ (∀ j, j < 31 * v → mA s' 69 j = mA s1 69 j) ∧ mA s' 70 v = zI (seenN (gRw q) T t 31 = true) ∧ (∀ j, j < v → mA s' 70 j = mA s1 70 j) ∧ mF s' 71 = nI (c + if seenN (gRw q) T t 31 then 1 else 0) ∧ Fr (71 :: yF) [] [55, 69, 70] [107] s1 s'
theorem WQ.mk {v r c : Nat} {s2 s3 s' : MS} (hR3 : TR sB q s3) (hj4 : ∀ j, j < 89 → mA s3 55 j = mA sB 55 j)
    (h1 : ∀ y, y < 31 → mA s2 69 (31 * v + y) = nI (lk (yearsS T y t).1 r)) (h2 : ∀ j, j < 31 * v → mA s2 69 j = mA s 69 j) (hf : Fr yF [] [55, 69] [107] s s2) (hf3 : Fr [] [] [55] [] s2 s3) (hf' : Fr [71] [] [70] [] s3 s')
    (h70 : mA s' 70 v = zI (seenN (gRw q) T t 31 = true)) (h70' : ∀ j, j ≠ v → mA s' 70 j = mA s3 70 j) (h71 : mF s' 71 = nI (c + if seenN (gRw q) T t 31 then 1 else 0)) : WQ sB q T t v r c s s' := by
  refine ⟨hR3.fr hf' (by decide), fun j hj => ?_, fun y hy => ?_, fun j hj => ?_, h70, fun j hj => ?_, h71, (hf.mono (by decide) (by decide) (by decide) (by decide)).trans ((hf3.mono (by decide) (by decide) (by decide) (by decide)).trans (hf'.mono (by decide) (by decide) (by decide) (by decide)))⟩
  · rw [hf'.2.2.1 55 (by decide)]; exact hj4 j hj
  · rw [hf'.2.2.1 69 (by decide), hf3.2.2.1 69 (by decide)]; exact h1 y hy
  · rw [hf'.2.2.1 69 (by decide), hf3.2.2.1 69 (by decide)]; exact h2 j hj
  · rw [h70' j (by omega), hf3.2.2.1 70 (by decide), hf.2.2.1 70 (by decide)]
theorem wayEnd {v r c : Nat} {s2 : MS} {w4 : Option Value} (hS : ShM g M o) (hR : TR sB q s2) (hv : v < 10) (h71 : mF s2 71 = nI c) (hc : c ≤ 100)
    (h1 : ∀ y, y < 31 → mA s2 69 (31 * v + y) = nI (lk (yearsS T y t).1 r)) (h2 : ∀ j, j < 31 * v → mA s2 69 j = mA s 69 j) (hf : Fr yF [] [55, 69] [107] s s2) :
    Bd g yX6_laysWay cX6_laysWay 5 none [] 6 0 0 (putM M o s2) 58 [some (.ref o), some (.int (nI v)), some (.int (nI r)), some (.int (zI (seenN (gRw q) T t 31 = true))), w4] [] (QM M o (fun x s' => x = none ∧ WQ sB q T t v r c s s')) noX := by
  cases hb : seenN (gRw q) T t 31 with
  | false =>
    refine r_ald0 (pc := 58) dX6_laysWay_58 ?_
    refine r_cV (pc := 59) dX6_laysWay_59 cv_X6_492 hS.k (ct_X6_triesAnew hS) rfl rfl (Nat.le_of_ble_eq_true rfl) (by decide) ?_
    rintro _ _ ⟨s3, rfl, rfl, hj3, hf3⟩
    obtain ⟨hR3, hj4⟩ := hR.anew hj3 hf3
    refine r_ald0 (pc := 62) dX6_laysWay_62 ?_
    refine m_getR hS (pc := 63) dX6_laysWay_63 fl_X6_136 ar70 ?_
    refine r_ild1 (pc := 66) dX6_laysWay_66 ?_
    refine r_ild3 (pc := 67) dX6_laysWay_67 ?_
    refine m_zast hS (pc := 68) dX6_laysWay_68 ar70 (by omega) (by omega) ?_
    refine r_ild3 (pc := 69) dX6_laysWay_69 ?_
    first | refine r_if_eqZ (pc := 70) (tgt := 83) dX6_laysWay_70 (by decide) (fun h70 => ?_) (fun h70 => ?_) | refine r_if_eqN (pc := 70) (tgt := 83) dX6_laysWay_70 (by decide) (by omega) (fun h70 => ?_) (fun h70 => ?_) | refine r_if_eq (pc := 70) (tgt := 83) dX6_laysWay_70 (by decide) (fun h70 => ?_) (fun h70 => ?_)
    · skip
      refine r_vret (pc := 83) dX6_laysWay_83 ?_
      exact ⟨_, rfl, rfl, WQ.mk hR3 hj4 h1 h2 hf hf3 (Fr.tA Fr.rf (by decide)) (by rw [hb, tA_eq]; decide) (fun j hj => tA_ne hj) (by rw [hb]; exact (hf3.1 71 (by decide)).trans h71)⟩
    · skip
      exact absurd h70 (by decide)
  | true =>
    refine r_ald0 (pc := 58) dX6_laysWay_58 ?_
    refine r_cV (pc := 59) dX6_laysWay_59 cv_X6_492 hS.k (ct_X6_triesAnew hS) rfl rfl (Nat.le_of_ble_eq_true rfl) (by decide) ?_
    rintro _ _ ⟨s3, rfl, rfl, hj3, hf3⟩
    obtain ⟨hR3, hj4⟩ := hR.anew hj3 hf3
    refine r_ald0 (pc := 62) dX6_laysWay_62 ?_
    refine m_getR hS (pc := 63) dX6_laysWay_63 fl_X6_136 ar70 ?_
    refine r_ild1 (pc := 66) dX6_laysWay_66 ?_
    refine r_ild3 (pc := 67) dX6_laysWay_67 ?_
    refine m_zast hS (pc := 68) dX6_laysWay_68 ar70 (by omega) (by omega) ?_
    refine r_ild3 (pc := 69) dX6_laysWay_69 ?_
    first | refine r_if_eqZ (pc := 70) (tgt := 83) dX6_laysWay_70 (by decide) (fun h70 => ?_) (fun h70 => ?_) | refine r_if_eqN (pc := 70) (tgt := 83) dX6_laysWay_70 (by decide) (by omega) (fun h70 => ?_) (fun h70 => ?_) | refine r_if_eq (pc := 70) (tgt := 83) dX6_laysWay_70 (by decide) (fun h70 => ?_) (fun h70 => ?_)
    · skip
      exact absurd rfl h70
    · skip
      refine r_ald0 (pc := 73) dX6_laysWay_73 ?_
      refine r_dup (pc := 74) dX6_laysWay_74 rfl ?_
      refine m_getI hS (pc := 75) dX6_laysWay_75 fl_X6_564 ?_
      refine Bd.eqI (x' := nI c) ((hf3.1 71 (by decide)).trans h71) ?_
      refine r_iconst (v := nI 1) (pc := 78) dX6_laysWay_78 (by decide) ?_
      first | refine r_iaddN (pc := 79) dX6_laysWay_79 ?_ | refine r_iaddJ (pc := 79) dX6_laysWay_79 ?_ | refine r_iadd (pc := 79) dX6_laysWay_79 ?_
      refine m_putI hS (pc := 80) dX6_laysWay_80 fl_X6_564 fw_X6_71 rfl rfl ?_
      refine r_vret (pc := 83) dX6_laysWay_83 ?_
      exact ⟨_, rfl, rfl, WQ.mk hR3 hj4 h1 h2 hf hf3 (Fr.tF (Fr.tA Fr.rf (by decide)) (by decide)) (by rw [hb]; exact tA_eq.trans (by decide)) (fun j hj => tA_ne hj) (by rw [hb]; rfl)⟩
theorem wayLoop {v r c : Nat} (hS : ShM g M o) (hR : TR sB q s) (hG : GI q) (hW : IRw s q) (hT : RT s T) (hTB : TB T) (hn : tn T = tn (gT q)) (hB : SB (tn T) t) (hy : yr t ≤ 999) (hr : r < tn T) (hv : v < 10) (h71 : mF s 71 = nI c) (hc : c ≤ 100) :
    ∀ (k y : Nat) (s2 : MS), y + k = 31 → RN s2 (tn T) (yearsS T y t).1 → TR sB q s2 → (∀ i, i < y → mA s2 69 (31 * v + i) = nI (lk (yearsS T i t).1 r)) → (∀ j, j < 31 * v → mA s2 69 j = mA s 69 j) → Fr yF [] [55, 69] [107] s s2 →
    Bd g yX6_laysWay cX6_laysWay 5 none [] 6 0 0 (putM M o s2) 5 [some (.ref o), some (.int (nI v)), some (.int (nI r)), some (.int (zI (seenN (gRw q) T t y = true))), some (.int (nI y))] [] (QM M o (fun x s' => x = none ∧ WQ sB q T t v r c s s')) noX := by
  have hn8 := hTB.1
  intro k
  induction k with
  | zero =>
    intro y s2 hk hN2 hR2 h1 h2 hf
    obtain rfl : y = 31 := by omega
    refine r_ild4 (pc := 5) dX6_laysWay_5 ?_
    refine r_bipush (v := nI 30) (pc := 7) dX6_laysWay_7 (by decide) ?_
    first | refine r_icmp_gtN (pc := 9) (tgt := 58) dX6_laysWay_9 (by decide) (by omega) (by omega) (fun h9 => ?_) (fun h9 => ?_) | refine r_icmp_gt (pc := 9) (tgt := 58) dX6_laysWay_9 (by decide) (fun h9 => ?_) (fun h9 => ?_)
    · skip
      exact wayEnd hS hR2 hv ((hf.1 71 (by decide)).trans h71) hc h1 h2 hf
    · skip
      exact absurd h9 (by omega)
  | succ k ih =>
    intro y s2 hk hN2 hR2 h1 h2 hf
    have hBy := yearsS_SB y T t hB (by omega)
    have hyy := yearsS_yr y T t
    have hT2 : RT s2 T := hT.fr hf (by decide) (by decide)
    have hW2 : IRw s2 q := hW.fr hf (by decide)
    have hsn : seenN (gRw q) T t (y + 1) = (seenN (gRw q) T t y && asSeen (gRw q) (yearsS T y t).1 y) := rfl
    have hc2 : ∀ w3, w3 = zI (seenN (gRw q) T t (y + 1) = true) → Bd g yX6_laysWay cX6_laysWay 5 none [] 6 0 0 (putM M o s2) 31 [some (.ref o), some (.int (nI v)), some (.int (nI r)), some (.int w3), some (.int (nI y))] [] (QM M o (fun x s' => x = none ∧ WQ sB q T t v r c s s')) noX := by
      intro w3 e3
      have hN3 : RN (tA s2 69 (31 * v + y) (nI (lk (yearsS T y t).1 r))) (tn T) (yearsS T y t).1 := hN2.fr (Fr.tA (fs := []) (gs := []) (as := [69]) (bs := []) Fr.rf (by decide)) (by decide)
      have hR3 : TR sB q (tA s2 69 (31 * v + y) (nI (lk (yearsS T y t).1 r))) := hR2.fr (Fr.tA (fs := []) (gs := []) (as := [69]) (bs := []) Fr.rf (by decide)) (by decide)
      have hf3 : Fr yF [] [55, 69] [107] s (tA s2 69 (31 * v + y) (nI (lk (yearsS T y t).1 r))) := Fr.tA hf (by decide)
      refine r_ald0 (pc := 31) dX6_laysWay_31 ?_
      refine m_getR hS (pc := 32) dX6_laysWay_32 fl_X6_133 ar69 ?_
      refine r_bipush (v := nI 31) (pc := 35) dX6_laysWay_35 (by decide) ?_
      refine r_ild1 (pc := 37) dX6_laysWay_37 ?_
      first | refine r_imulN (pc := 38) dX6_laysWay_38 ?_ | refine r_imulJ (pc := 38) dX6_laysWay_38 ?_ | refine r_imul (pc := 38) dX6_laysWay_38 ?_
      refine r_ild4 (pc := 39) dX6_laysWay_39 ?_
      first | refine r_iaddN (pc := 41) dX6_laysWay_41 ?_ | refine r_iaddJ (pc := 41) dX6_laysWay_41 ?_ | refine r_iadd (pc := 41) dX6_laysWay_41 ?_
      refine r_ald0 (pc := 42) dX6_laysWay_42 ?_
      refine r_ild2 (pc := 43) dX6_laysWay_43 ?_
      refine r_cV (pc := 44) dX6_laysWay_44 cv_X6_423 hS.k (ct_X6_lookOf hS (by omega)) rfl rfl (Nat.le_of_ble_eq_true rfl) (by decide) ?_
      rintro _ _ ⟨rfl, rfl⟩
      refine Bd.eqI (hN2.2.2.1 r hr) ?_
      refine m_iast hS (pc := 47) dX6_laysWay_47 ar69 (by omega) (by omega) ?_
      refine r_ald0 (pc := 48) dX6_laysWay_48 ?_
      refine r_cV (pc := 49) dX6_laysWay_49 cv_X6_489 hS.k (ct_X6_yearGoes (T := T) (t := (yearsS T y t).1) (K := gK q) (tb := true) hS (hT.fr hf3 (by decide) (by decide)) hTB hN3 hBy hR3.2.2.1 hR3.2.1) rfl rfl (Nat.le_of_ble_eq_true rfl) (by decide) ?_
      rintro _ _ ⟨s4, rfl, rfl, hY⟩
      rw [e3]
      first | refine r_iinc4N (j := 1) (pc := 52) dX6_laysWay_52 rfl ?_ | refine r_iinc4 (pc := 52) dX6_laysWay_52 ?_
      refine r_goto (pc := 55) (tgt := 5) dX6_laysWay_55 (by decide) ?_
      refine ih (y + 1) s4 (by omega) (by rw [yearsS_succ]; exact hY.1) (hR3.years hY) (fun i hi => ?_) (fun j hj => ?_) (hf3.trans (hY.2.2.2.mono (by decide) (by decide) (by decide) (by decide)))
      · rw [hY.2.2.2.2.2.1 69 (by decide)]
        by_cases e : i = y
        · subst e; exact tA_eq
        · rw [tA_ne (by omega)]; exact h1 i (by omega)
      · rw [hY.2.2.2.2.2.1 69 (by decide), tA_ne (by omega)]; exact h2 j hj
    cases hb : seenN (gRw q) T t y with
    | false =>
      rw [hb] at hsn
      refine r_ild4 (pc := 5) dX6_laysWay_5 ?_
      refine r_bipush (v := nI 30) (pc := 7) dX6_laysWay_7 (by decide) ?_
      first | refine r_icmp_gtN (pc := 9) (tgt := 58) dX6_laysWay_9 (by decide) (by omega) (by omega) (fun h9 => ?_) (fun h9 => ?_) | refine r_icmp_gt (pc := 9) (tgt := 58) dX6_laysWay_9 (by decide) (fun h9 => ?_) (fun h9 => ?_)
      · skip
        exact absurd h9 (by omega)
      · skip
        refine r_ild3 (pc := 12) dX6_laysWay_12 ?_
        first | refine r_if_eqZ (pc := 13) (tgt := 29) dX6_laysWay_13 (by decide) (fun h13 => ?_) (fun h13 => ?_) | refine r_if_eqN (pc := 13) (tgt := 29) dX6_laysWay_13 (by decide) (by omega) (fun h13 => ?_) (fun h13 => ?_) | refine r_if_eq (pc := 13) (tgt := 29) dX6_laysWay_13 (by decide) (fun h13 => ?_) (fun h13 => ?_)
        · skip
          refine r_iconst (v := nI 0) (pc := 29) dX6_laysWay_29 (by decide) ?_
          refine r_ist3 (pc := 30) dX6_laysWay_30 ?_
          exact hc2 _ (by rw [hsn]; rfl)
        · skip
          exact absurd h13 (by decide)
    | true =>
      rw [hb, Bool.true_and] at hsn
      refine r_ild4 (pc := 5) dX6_laysWay_5 ?_
      refine r_bipush (v := nI 30) (pc := 7) dX6_laysWay_7 (by decide) ?_
      first | refine r_icmp_gtN (pc := 9) (tgt := 58) dX6_laysWay_9 (by decide) (by omega) (by omega) (fun h9 => ?_) (fun h9 => ?_) | refine r_icmp_gt (pc := 9) (tgt := 58) dX6_laysWay_9 (by decide) (fun h9 => ?_) (fun h9 => ?_)
      · skip
        exact absurd h9 (by omega)
      · skip
        refine r_ild3 (pc := 12) dX6_laysWay_12 ?_
        first | refine r_if_eqZ (pc := 13) (tgt := 29) dX6_laysWay_13 (by decide) (fun h13 => ?_) (fun h13 => ?_) | refine r_if_eqN (pc := 13) (tgt := 29) dX6_laysWay_13 (by decide) (by omega) (fun h13 => ?_) (fun h13 => ?_) | refine r_if_eq (pc := 13) (tgt := 29) dX6_laysWay_13 (by decide) (fun h13 => ?_) (fun h13 => ?_)
        · skip
          exact absurd rfl h13
        · skip
          refine r_ald0 (pc := 16) dX6_laysWay_16 ?_
          refine r_ild4 (pc := 17) dX6_laysWay_17 ?_
          refine r_cV (pc := 19) dX6_laysWay_19 cv_X6_561 hS.k (asSeen0 hS hW2 hG hn hN2 hBy (by omega)) rfl rfl (Nat.le_of_ble_eq_true rfl) (by decide) ?_
          rintro _ _ ⟨rfl, rfl⟩
          first | refine r_if_eqZ (pc := 22) (tgt := 29) dX6_laysWay_22 (by decide) (fun h22 => ?_) (fun h22 => ?_) | refine r_if_eqN (pc := 22) (tgt := 29) dX6_laysWay_22 (by decide) (by omega) (fun h22 => ?_) (fun h22 => ?_) | refine r_if_eq (pc := 22) (tgt := 29) dX6_laysWay_22 (by decide) (fun h22 => ?_) (fun h22 => ?_)
          · skip
            refine r_iconst (v := nI 0) (pc := 29) dX6_laysWay_29 (by decide) ?_
            refine r_ist3 (pc := 30) dX6_laysWay_30 ?_
            first | exact hc2 _ (by rw [hsn, zI_t h22]; rfl) | exact hc2 _ (by rw [hsn, zI_f h22]; rfl)
          · skip
            refine r_iconst (v := nI 1) (pc := 25) dX6_laysWay_25 (by decide) ?_
            refine r_goto (pc := 26) (tgt := 30) dX6_laysWay_26 (by decide) ?_
            refine r_ist3 (pc := 30) dX6_laysWay_30 ?_
            first | exact hc2 _ (by rw [hsn, zI_t h22]; rfl) | exact hc2 _ (by rw [hsn, zI_f h22]; rfl)
theorem ct_X6_laysWay {v r c : Nat} (hS : ShM g M o) (hR : TR sB q s) (hG : GI q) (hW : IRw s q) (hT : RT s T) (hTB : TB T) (hn : tn T = tn (gT q)) (hN : RN s (tn T) t) (hB : SB (tn T) t) (hy : yr t ≤ 999) (hr : r < tn T) (hv : v < 10) (h71 : mF s 71 = nI c) (hc : c ≤ 100) :
    Ct g yX6_laysWay cX6_laysWay 5 none 6 0 0 [.ref o, .int (nI v), .int (nI r)] (putM M o s) (QM M o (fun x s' => x = none ∧ WQ sB q T t v r c s s')) noX := by
  have hn8 := hTB.1
  refine Ct.of (by decide) (Nat.le_of_ble_eq_true rfl) rfl ?_
  refine r_iconst (v := nI 1) (pc := 0) dX6_laysWay_0 (by decide) ?_
  refine r_ist3 (pc := 1) dX6_laysWay_1 ?_
  refine r_iconst (v := nI 0) (pc := 2) dX6_laysWay_2 (by decide) ?_
  refine r_ist4 (pc := 3) dX6_laysWay_3 ?_
  exact wayLoop hS hR hG hW hT hTB hn hB hy hr hv h71 hc 31 0 s (by omega) hN hR (fun i hi => absurd hi (by omega)) (fun _ _ => rfl) Fr.rf
end M20
