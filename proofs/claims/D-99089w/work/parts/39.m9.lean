set_option maxRecDepth 100000
/-! THE MODEL: the calls that only look -/
def PM (M : MM) (o : Nat) (q : Sg) (v : Value) : Option Value → MM → Prop := QM M o (fun r s' => r = some v ∧ IM s' q)
section M9
variable {g : GC} {M : MM} {o : Nat} {s : MS} {M1 : MM} {q : Sg}
theorem pm_status {x : Int32} (hS : ShM g M o) (hI : IM s q) : Ct g yX6_status cX6_status 2 (some Jvm.ClassFile.FieldType.int) 1 0 0 [.ref o, .int x] (putM M o s) (PM M o q (.int (statusS q x))) noX := by
  refine Ct.of (by decide) (Nat.le_of_ble_eq_true rfl) rfl ?_
  unfold statusS
  cases hp : pidx x 6 with
  | none =>
    have hp := pidx_none hp
    obtain ⟨hx1, hx2⟩ := b31_of x
    refine r_ild1 (pc := 0) dX6_status_0 ?_
    refine r_i2lT (pc := 1) dX6_status_1 ?_
    refine r_lconst (v := lI 0) (pc := 2) dX6_status_2 rfl ?_
    refine r_ldc2 (v := lI (5)) (pc := 3) dX6_status_3 q2214 ?_
    refine r_cS (pc := 6) dX6_status_6 cs_X6_280 (ct_X6_isInI (by constructor <;> omega) (by constructor <;> omega) (by constructor <;> omega)) rfl rfl (Nat.le_of_ble_eq_true rfl) (by decide) ?_
    rintro _ _ ⟨rfl, rfl⟩
    first | refine r_if_eqZ (pc := 9) (tgt := 21) dX6_status_9 (by decide) (fun h9 => ?_) (fun h9 => ?_) | refine r_if_eqN (pc := 9) (tgt := 21) dX6_status_9 (by decide) (by omega) (fun h9 => ?_) (fun h9 => ?_) | refine r_if_eq (pc := 9) (tgt := 21) dX6_status_9 (by decide) (fun h9 => ?_) (fun h9 => ?_)
    · skip
      refine r_iconst (v := -1) (pc := 21) dX6_status_21 (by decide) ?_
      refine r_iret (pc := 22) dX6_status_22 ?_
      exact ⟨s, rfl, rfl, hI⟩
    · skip
      exact absurd h9 (by omega)
  | some i =>
    obtain ⟨hi, rfl⟩ := pidx_some hp
    refine r_ild1 (pc := 0) dX6_status_0 ?_
    first | refine r_i2lM (pc := 1) dX6_status_1 (by omega) ?_ | refine r_i2lI (pc := 1) dX6_status_1 (by constructor <;> omega) ?_ | refine r_i2lT (pc := 1) dX6_status_1 ?_
    refine r_lconst (v := lI 0) (pc := 2) dX6_status_2 rfl ?_
    refine r_ldc2 (v := lI (5)) (pc := 3) dX6_status_3 q2214 ?_
    refine r_cS (pc := 6) dX6_status_6 cs_X6_280 (ct_X6_isInI (by constructor <;> omega) (by constructor <;> omega) (by constructor <;> omega)) rfl rfl (Nat.le_of_ble_eq_true rfl) (by decide) ?_
    rintro _ _ ⟨rfl, rfl⟩
    first | refine r_if_eqZ (pc := 9) (tgt := 21) dX6_status_9 (by decide) (fun h9 => ?_) (fun h9 => ?_) | refine r_if_eqN (pc := 9) (tgt := 21) dX6_status_9 (by decide) (by omega) (fun h9 => ?_) (fun h9 => ?_) | refine r_if_eq (pc := 9) (tgt := 21) dX6_status_9 (by decide) (fun h9 => ?_) (fun h9 => ?_)
    · skip
      exact absurd h9 (by omega)
    · skip
      refine r_ald0 (pc := 12) dX6_status_12 ?_
      refine m_getR hS (pc := 13) dX6_status_13 fl_X6_17 ar9 ?_
      refine r_ild1 (pc := 16) dX6_status_16 ?_
      refine m_iald hS (pc := 17) dX6_status_17 ar9 (by omega) (by omega) ?_
      refine Bd.eqI (hI.2.2.1 i hi) ?_
      refine r_goto (pc := 18) (tgt := 22) dX6_status_18 (by decide) ?_
      refine r_iret (pc := 22) dX6_status_22 ?_
      exact ⟨s, rfl, rfl, hI⟩
theorem pm_octet {x : Int32} (hS : ShM g M o) (hI : IM s q) (hG : GI q) : Ct g yX6_octet cX6_octet 2 (some Jvm.ClassFile.FieldType.int) 0 0 0 [.ref o, .int x] (putM M o s) (PM M o q (.int (octetS q x))) noX := by
  have hI9 := hI.2.2.2.2.2.2.2.2.1
  have hL : (gOu q).length ≤ 83 := hG.2.2.2.2.2.2.2.2.2.2.2.1
  refine Ct.of (by decide) (Nat.le_of_ble_eq_true rfl) rfl ?_
  unfold octetS
  cases hp : pidx x (gOu q).length with
  | none =>
    have hp := pidx_none hp
    obtain ⟨hx1, hx2⟩ := b31_of x
    refine r_ild1 (pc := 0) dX6_octet_0 ?_
    refine r_if_lt (pc := 1) (tgt := 21) dX6_octet_1 (by decide) (fun h1 => ?_) (fun h1 => ?_)
    · skip
      refine r_iconst (v := -1) (pc := 21) dX6_octet_21 (by decide) ?_
      refine r_iret (pc := 22) dX6_octet_22 ?_
      exact ⟨s, rfl, rfl, hI⟩
    · skip
      refine r_ild1 (pc := 4) dX6_octet_4 ?_
      refine r_ald0 (pc := 5) dX6_octet_5 ?_
      refine m_getI hS (pc := 6) dX6_octet_6 fl_X6_689 ?_
      refine Bd.eqI hI9.1 ?_
      refine r_icmp_ge (pc := 9) (tgt := 21) dX6_octet_9 (by decide) (fun h9 => ?_) (fun h9 => ?_)
      · skip
        refine r_iconst (v := -1) (pc := 21) dX6_octet_21 (by decide) ?_
        refine r_iret (pc := 22) dX6_octet_22 ?_
        exact ⟨s, rfl, rfl, hI⟩
      · skip
        exfalso
        rw [Int32.le_iff_toInt_le, nI_toInt (by omega)] at h9
        rw [Int32.lt_iff_toInt_lt, Int32.toInt_zero] at h1
        omega
  | some i =>
    obtain ⟨hi, rfl⟩ := pidx_some hp
    refine r_ild1 (pc := 0) dX6_octet_0 ?_
    refine r_if_lt (pc := 1) (tgt := 21) dX6_octet_1 (by decide) (fun h1 => ?_) (fun h1 => ?_)
    · skip
      exact absurd h1 (nI_pos (by omega))
    · skip
      refine r_ild1 (pc := 4) dX6_octet_4 ?_
      refine r_ald0 (pc := 5) dX6_octet_5 ?_
      refine m_getI hS (pc := 6) dX6_octet_6 fl_X6_689 ?_
      refine Bd.eqI hI9.1 ?_
      first | refine r_icmp_geN (pc := 9) (tgt := 21) dX6_octet_9 (by decide) (by omega) (by omega) (fun h9 => ?_) (fun h9 => ?_) | refine r_icmp_ge (pc := 9) (tgt := 21) dX6_octet_9 (by decide) (fun h9 => ?_) (fun h9 => ?_)
      · skip
        exact absurd h9 (by omega)
      · skip
        refine r_ald0 (pc := 12) dX6_octet_12 ?_
        refine m_getR hS (pc := 13) dX6_octet_13 fl_X6_231 ar111 ?_
        refine r_ild1 (pc := 16) dX6_octet_16 ?_
        refine m_iald hS (pc := 17) dX6_octet_17 ar111 (by omega) (by omega) ?_
        refine Bd.eqI (hI9.2 i hi) ?_
        refine r_goto (pc := 18) (tgt := 22) dX6_octet_18 (by decide) ?_
        refine r_iret (pc := 22) dX6_octet_22 ?_
        exact ⟨s, rfl, rfl, hI⟩
theorem pm_fault {x : Int32} (hS : ShM g M o) (hI : IM s q) : Ct g yX6_fault cX6_fault 2 (some Jvm.ClassFile.FieldType.int) 0 0 0 [.ref o, .int x] (putM M o s) (PM M o q (.int (faultS q x))) noX := by
  refine Ct.of (by decide) (Nat.le_of_ble_eq_true rfl) rfl ?_
  unfold faultS
  refine r_ild1 (pc := 0) dX6_fault_0 ?_
  refine r_if_ne (pc := 1) (tgt := 11) dX6_fault_1 (by decide) (fun h1 => ?_) (fun h1 => ?_)
  · skip
    rw [if_neg h1]
    refine r_ild1 (pc := 11) dX6_fault_11 ?_
    refine r_iconst (v := nI 1) (pc := 12) dX6_fault_12 (by decide) ?_
    refine r_icmp_ne (pc := 13) (tgt := 23) dX6_fault_13 (by decide) (fun h13 => ?_) (fun h13 => ?_)
    · skip
      rw [if_neg (show ¬ x = 1 from h13)]
      refine r_iconst (v := -1) (pc := 23) dX6_fault_23 (by decide) ?_
      refine r_iret (pc := 24) dX6_fault_24 ?_
      exact ⟨s, rfl, rfl, hI⟩
    · skip
      rw [if_pos (show x = 1 from h13)]
      refine r_ald0 (pc := 16) dX6_fault_16 ?_
      refine m_getI hS (pc := 17) dX6_fault_17 fl_X6_13 ?_
      refine Bd.eqI hI.2.1.2 ?_
      refine r_goto (pc := 20) (tgt := 24) dX6_fault_20 (by decide) ?_
      refine r_iret (pc := 24) dX6_fault_24 ?_
      exact ⟨s, rfl, rfl, hI⟩
  · skip
    rw [if_pos h1]
    refine r_ald0 (pc := 4) dX6_fault_4 ?_
    refine m_getI hS (pc := 5) dX6_fault_5 fl_X6_369 ?_
    refine Bd.eqI hI.2.1.1 ?_
    refine r_goto (pc := 8) (tgt := 24) dX6_fault_8 (by decide) ?_
    refine r_iret (pc := 24) dX6_fault_24 ?_
    exact ⟨s, rfl, rfl, hI⟩
theorem pm_house {x : Int32} (hS : ShM g M o) (hI : IM s q) (hG : GI q) : Ct g yX6_house cX6_house 2 (some Jvm.ClassFile.FieldType.int) 2 0 0 [.ref o, .int x] (putM M o s) (PM M o q (.int (houseQ q x))) noX := by
  have hT := hI.2.2.2.1.1
  have hTB := hG.2.2.1
  have hN := hI.2.2.2.2.1.1
  have hB : SB (tn (gT q)) (gS q) := hG.2.2.2.2.2.1.1
  have hn8 := hTB.1
  have hH9 := hTB.2.1
  refine Ct.of (by decide) (Nat.le_of_ble_eq_true rfl) rfl ?_
  unfold houseQ
  cases hp : pidx x (tH (gT q)) with
  | none =>
    have hp := pidx_none hp
    refine r_ald0 (pc := 0) dX6_house_0 ?_
    refine r_ild1 (pc := 1) dX6_house_1 ?_
    refine r_cV (pc := 2) dX6_house_2 cv_X6_516 hS.k (ct_X6_isHouse hS hT.1 hH9 hI.2.2.2.1.2.1 (fun e => (hG.2.2.2.1 e).1)) rfl rfl (Nat.le_of_ble_eq_true rfl) (by decide) ?_
    rintro _ _ ⟨rfl, rfl⟩
    first | refine r_if_eqZ (pc := 5) (tgt := 16) dX6_house_5 (by decide) (fun h5 => ?_) (fun h5 => ?_) | refine r_if_eqN (pc := 5) (tgt := 16) dX6_house_5 (by decide) (by omega) (fun h5 => ?_) (fun h5 => ?_) | refine r_if_eq (pc := 5) (tgt := 16) dX6_house_5 (by decide) (fun h5 => ?_) (fun h5 => ?_)
    · skip
      refine r_iconst (v := -1) (pc := 16) dX6_house_16 (by decide) ?_
      refine r_iret (pc := 17) dX6_house_17 ?_
      exact ⟨s, rfl, rfl, hI⟩
    · skip
      exact absurd h5 hp
  | some i =>
    obtain ⟨hi, rfl⟩ := pidx_some hp
    refine r_ald0 (pc := 0) dX6_house_0 ?_
    refine r_ild1 (pc := 1) dX6_house_1 ?_
    refine r_cV (pc := 2) dX6_house_2 cv_X6_516 hS.k (ct_X6_isHouse hS hT.1 hH9 hI.2.2.2.1.2.1 (fun e => (hG.2.2.2.1 e).1)) rfl rfl (Nat.le_of_ble_eq_true rfl) (by decide) ?_
    rintro _ _ ⟨rfl, rfl⟩
    first | refine r_if_eqZ (pc := 5) (tgt := 16) dX6_house_5 (by decide) (fun h5 => ?_) (fun h5 => ?_) | refine r_if_eqN (pc := 5) (tgt := 16) dX6_house_5 (by decide) (by omega) (fun h5 => ?_) (fun h5 => ?_) | refine r_if_eq (pc := 5) (tgt := 16) dX6_house_5 (by decide) (fun h5 => ?_) (fun h5 => ?_)
    · skip
      exact absurd h5 (by rw [nI_toInt (by omega)]; omega)
    · skip
      refine r_ald0 (pc := 8) dX6_house_8 ?_
      refine r_ild1 (pc := 9) dX6_house_9 ?_
      refine r_cV (pc := 10) dX6_house_10 cv_X6_406 hS.k (ct_X6_whoIn hS hT.2.1 hn8 hN hB (by omega)) rfl rfl (Nat.le_of_ble_eq_true rfl) (by decide) ?_
      rintro _ _ ⟨rfl, rfl⟩
      refine r_goto (pc := 13) (tgt := 17) dX6_house_13 (by decide) ?_
      refine r_iret (pc := 17) dX6_house_17 ?_
      exact ⟨s, rfl, rfl, hI⟩
theorem pm_thinks {a b : Int32} (hS : ShM g M o) (hI : IM s q) (hG : GI q) : Ct g yX6_thinks cX6_thinks 3 (some Jvm.ClassFile.FieldType.int) 4 0 0 [.ref o, .int a, .int b] (putM M o s) (PM M o q (.int (thinksS q a b))) noX := by
  have hT := hI.2.2.2.1.1
  have hTB := hG.2.2.1
  have hN := hI.2.2.2.2.1.1
  have hn8 := hTB.1
  refine Ct.of (by decide) (Nat.le_of_ble_eq_true rfl) rfl ?_
  unfold thinksS
  cases hp : twoS (tn (gT q)) a b with
  | none =>
    have hp : ¬ ∃ x, twoS (tn (gT q)) a b = some x := by rw [hp]; rintro ⟨x, h⟩; cases h
    rw [twoS_iff (by omega)] at hp
    refine r_ald0 (pc := 0) dX6_thinks_0 ?_
    refine r_ild1 (pc := 1) dX6_thinks_1 ?_
    refine r_ild2 (pc := 2) dX6_thinks_2 ?_
    refine r_cV (pc := 3) dX6_thinks_3 cv_X6_519 hS.k (ct_X6_areTwo hS hT.2.1 hn8) rfl rfl (Nat.le_of_ble_eq_true rfl) (by decide) ?_
    rintro _ _ ⟨rfl, rfl⟩
    first | refine r_if_eqZ (pc := 6) (tgt := 18) dX6_thinks_6 (by decide) (fun h6 => ?_) (fun h6 => ?_) | refine r_if_eqN (pc := 6) (tgt := 18) dX6_thinks_6 (by decide) (by omega) (fun h6 => ?_) (fun h6 => ?_) | refine r_if_eq (pc := 6) (tgt := 18) dX6_thinks_6 (by decide) (fun h6 => ?_) (fun h6 => ?_)
    · skip
      refine r_iconst (v := -1) (pc := 18) dX6_thinks_18 (by decide) ?_
      refine r_iret (pc := 19) dX6_thinks_19 ?_
      exact ⟨s, rfl, rfl, hI⟩
    · skip
      exact absurd h6 hp
  | some x =>
    obtain ⟨h1, h2, h3, h4, h5⟩ := twoS_some hp
    have hp : ∃ x, twoS (tn (gT q)) a b = some x := ⟨x, hp⟩
    rw [twoS_iff (by omega)] at hp
    refine r_ald0 (pc := 0) dX6_thinks_0 ?_
    refine r_ild1 (pc := 1) dX6_thinks_1 ?_
    refine r_ild2 (pc := 2) dX6_thinks_2 ?_
    refine r_cV (pc := 3) dX6_thinks_3 cv_X6_519 hS.k (ct_X6_areTwo hS hT.2.1 hn8) rfl rfl (Nat.le_of_ble_eq_true rfl) (by decide) ?_
    rintro _ _ ⟨rfl, rfl⟩
    first | refine r_if_eqZ (pc := 6) (tgt := 18) dX6_thinks_6 (by decide) (fun h6 => ?_) (fun h6 => ?_) | refine r_if_eqN (pc := 6) (tgt := 18) dX6_thinks_6 (by decide) (by omega) (fun h6 => ?_) (fun h6 => ?_) | refine r_if_eq (pc := 6) (tgt := 18) dX6_thinks_6 (by decide) (fun h6 => ?_) (fun h6 => ?_)
    · skip
      exact absurd hp h6
    · skip
      refine r_ald0 (pc := 9) dX6_thinks_9 ?_
      refine r_ild1 (pc := 10) dX6_thinks_10 ?_
      refine Bd.eqI h4 ?_
      refine r_ild2 (pc := 11) dX6_thinks_11 ?_
      refine Bd.eqI h5 ?_
      refine r_cV (pc := 12) dX6_thinks_12 cv_X6_438 hS.k (ct_X6_thoughtOf hS (by omega) (by omega)) rfl rfl (Nat.le_of_ble_eq_true rfl) (by decide) ?_
      rintro _ _ ⟨rfl, rfl⟩
      refine Bd.eqI (hN.2.2.2.2 x.1 h1 x.2 h2) ?_
      refine r_goto (pc := 15) (tgt := 19) dX6_thinks_15 (by decide) ?_
      refine r_iret (pc := 19) dX6_thinks_19 ?_
      exact ⟨s, rfl, rfl, hI⟩
theorem pm_paints {a b : Int32} (hS : ShM g M o) (hI : IM s q) (hG : GI q) : Ct g yX6_paints cX6_paints 4 (some Jvm.ClassFile.FieldType.int) 4 0 0 [.ref o, .int a, .int b] (putM M o s) (PM M o q (.int (paintsS q a b))) noX := by
  have hT := hI.2.2.2.1.1
  have hTB := hG.2.2.1
  have hN := hI.2.2.2.2.1.1
  have hB : SB (tn (gT q)) (gS q) := hG.2.2.2.2.2.1.1
  have hn8 := hTB.1
  obtain ⟨ha1, ha2⟩ := b31_of a
  obtain ⟨hb1, hb2⟩ := b31_of b
  refine Ct.of (by decide) (Nat.le_of_ble_eq_true rfl) rfl ?_
  unfold paintsS
  cases hp : pidx a (tn (gT q)) with
  | none =>
    have hp := pidx_none hp
    refine r_ald0 (pc := 0) dX6_paints_0 ?_
    refine r_ild1 (pc := 1) dX6_paints_1 ?_
    refine r_i2lT (pc := 2) dX6_paints_2 ?_
    refine r_cV (pc := 3) dX6_paints_3 cv_X6_394 hS.k (ct_X6_isPerson hS hT.2.1 hn8 (by constructor <;> omega)) rfl rfl (Nat.le_of_ble_eq_true rfl) (by decide) ?_
    rintro _ _ ⟨rfl, rfl⟩
    first | refine r_if_eqZ (pc := 6) (tgt := 19) dX6_paints_6 (by decide) (fun h6 => ?_) (fun h6 => ?_) | refine r_if_eqN (pc := 6) (tgt := 19) dX6_paints_6 (by decide) (by omega) (fun h6 => ?_) (fun h6 => ?_) | refine r_if_eq (pc := 6) (tgt := 19) dX6_paints_6 (by decide) (fun h6 => ?_) (fun h6 => ?_)
    · skip
      refine r_iconst (v := -1) (pc := 19) dX6_paints_19 (by decide) ?_
      refine r_iret (pc := 20) dX6_paints_20 ?_
      exact ⟨s, rfl, rfl, hI⟩
    · skip
      exact absurd h6 hp
  | some p =>
    cases hr : pidx b 2 with
    | none =>
      have hr := pidx_none hr
      have hp' := pidx_some hp
      refine r_ald0 (pc := 0) dX6_paints_0 ?_
      refine r_ild1 (pc := 1) dX6_paints_1 ?_
      refine r_i2lT (pc := 2) dX6_paints_2 ?_
      refine r_cV (pc := 3) dX6_paints_3 cv_X6_394 hS.k (ct_X6_isPerson hS hT.2.1 hn8 (by constructor <;> omega)) rfl rfl (Nat.le_of_ble_eq_true rfl) (by decide) ?_
      rintro _ _ ⟨rfl, rfl⟩
      first | refine r_if_eqZ (pc := 6) (tgt := 19) dX6_paints_6 (by decide) (fun h6 => ?_) (fun h6 => ?_) | refine r_if_eqN (pc := 6) (tgt := 19) dX6_paints_6 (by decide) (by omega) (fun h6 => ?_) (fun h6 => ?_) | refine r_if_eq (pc := 6) (tgt := 19) dX6_paints_6 (by decide) (fun h6 => ?_) (fun h6 => ?_)
      · skip
        refine r_iconst (v := -1) (pc := 19) dX6_paints_19 (by decide) ?_
        refine r_iret (pc := 20) dX6_paints_20 ?_
        exact ⟨s, rfl, rfl, hI⟩
      · skip
        refine r_ild2 (pc := 9) dX6_paints_9 ?_
        refine r_i2lT (pc := 10) dX6_paints_10 ?_
        refine r_lconst (v := lI 0) (pc := 11) dX6_paints_11 rfl ?_
        refine r_lconst (v := lI 1) (pc := 12) dX6_paints_12 rfl ?_
        refine r_cS (pc := 13) dX6_paints_13 cs_X6_280 (ct_X6_isInI (by constructor <;> omega) (by constructor <;> omega) (by constructor <;> omega)) rfl rfl (Nat.le_of_ble_eq_true rfl) (by decide) ?_
        rintro _ _ ⟨rfl, rfl⟩
        first | refine r_if_neZ (pc := 16) (tgt := 21) dX6_paints_16 (by decide) (fun h16 => ?_) (fun h16 => ?_) | refine r_if_neN (pc := 16) (tgt := 21) dX6_paints_16 (by decide) (by omega) (fun h16 => ?_) (fun h16 => ?_) | refine r_if_ne (pc := 16) (tgt := 21) dX6_paints_16 (by decide) (fun h16 => ?_) (fun h16 => ?_)
        · skip
          exact absurd h16 (by omega)
        · skip
          refine r_iconst (v := -1) (pc := 19) dX6_paints_19 (by decide) ?_
          refine r_iret (pc := 20) dX6_paints_20 ?_
          exact ⟨s, rfl, rfl, hI⟩
    | some side =>
      obtain ⟨h1, rfl⟩ := pidx_some hp
      obtain ⟨h2, rfl⟩ := pidx_some hr
      show Bd g yX6_paints cX6_paints 4 (some Jvm.ClassFile.FieldType.int) [] 4 0 0 _ _ _ _ (PM M o q (.int (match nb (gS q) (tn (gT q)) p side with | none => -1 | some w => nI (paintS (gT q) (gS q) p w side)))) noX
      cases hnb : nb (gS q) (tn (gT q)) p side with
      | none =>
        refine r_ald0 (pc := 0) dX6_paints_0 ?_
        refine r_ild1 (pc := 1) dX6_paints_1 ?_
        first | refine r_i2lM (pc := 2) dX6_paints_2 (by omega) ?_ | refine r_i2lI (pc := 2) dX6_paints_2 (by constructor <;> omega) ?_ | refine r_i2lT (pc := 2) dX6_paints_2 ?_
        refine r_cV (pc := 3) dX6_paints_3 cv_X6_394 hS.k (ct_X6_isPerson hS hT.2.1 hn8 (by constructor <;> omega)) rfl rfl (Nat.le_of_ble_eq_true rfl) (by decide) ?_
        rintro _ _ ⟨rfl, rfl⟩
        first | refine r_if_eqZ (pc := 6) (tgt := 19) dX6_paints_6 (by decide) (fun h6 => ?_) (fun h6 => ?_) | refine r_if_eqN (pc := 6) (tgt := 19) dX6_paints_6 (by decide) (by omega) (fun h6 => ?_) (fun h6 => ?_) | refine r_if_eq (pc := 6) (tgt := 19) dX6_paints_6 (by decide) (fun h6 => ?_) (fun h6 => ?_)
        · skip
          exact absurd h6 (by omega)
        · skip
          refine r_ild2 (pc := 9) dX6_paints_9 ?_
          first | refine r_i2lM (pc := 10) dX6_paints_10 (by omega) ?_ | refine r_i2lI (pc := 10) dX6_paints_10 (by constructor <;> omega) ?_ | refine r_i2lT (pc := 10) dX6_paints_10 ?_
          refine r_lconst (v := lI 0) (pc := 11) dX6_paints_11 rfl ?_
          refine r_lconst (v := lI 1) (pc := 12) dX6_paints_12 rfl ?_
          refine r_cS (pc := 13) dX6_paints_13 cs_X6_280 (ct_X6_isInI (by constructor <;> omega) (by constructor <;> omega) (by constructor <;> omega)) rfl rfl (Nat.le_of_ble_eq_true rfl) (by decide) ?_
          rintro _ _ ⟨rfl, rfl⟩
          first | refine r_if_neZ (pc := 16) (tgt := 21) dX6_paints_16 (by decide) (fun h16 => ?_) (fun h16 => ?_) | refine r_if_neN (pc := 16) (tgt := 21) dX6_paints_16 (by decide) (by omega) (fun h16 => ?_) (fun h16 => ?_) | refine r_if_ne (pc := 16) (tgt := 21) dX6_paints_16 (by decide) (fun h16 => ?_) (fun h16 => ?_)
          · skip
            refine r_ald0 (pc := 21) dX6_paints_21 ?_
            refine r_ild1 (pc := 22) dX6_paints_22 ?_
            refine r_ild2 (pc := 23) dX6_paints_23 ?_
            refine r_cV (pc := 24) dX6_paints_24 cv_X6_467 hS.k (ct_X6_neighbour hS hT.2.1 hn8 hN hB h1 h2) rfl rfl (Nat.le_of_ble_eq_true rfl) (by decide) ?_
            rintro _ _ ⟨rfl, rfl⟩
            refine Bd.eqI (x' := -1) (by rw [hnb]; rfl) ?_
            refine r_ist3 (pc := 27) dX6_paints_27 ?_
            refine r_ild3 (pc := 28) dX6_paints_28 ?_
            refine r_iconst (v := -1) (pc := 29) dX6_paints_29 (by decide) ?_
            first | refine r_icmp_neN (pc := 30) (tgt := 37) dX6_paints_30 (by decide) (by omega) (by omega) (fun h30 => ?_) (fun h30 => ?_) | refine r_icmp_ne (pc := 30) (tgt := 37) dX6_paints_30 (by decide) (fun h30 => ?_) (fun h30 => ?_)
            · skip
              exact absurd rfl h30
            · skip
              refine r_iconst (v := -1) (pc := 33) dX6_paints_33 (by decide) ?_
              refine r_goto (pc := 34) (tgt := 44) dX6_paints_34 (by decide) ?_
              refine r_iret (pc := 44) dX6_paints_44 ?_
              exact ⟨s, rfl, rfl, hI⟩
          · skip
            exact absurd h16 (by omega)
      | some w =>
        have hwn := nb_lt hnb
        refine r_ald0 (pc := 0) dX6_paints_0 ?_
        refine r_ild1 (pc := 1) dX6_paints_1 ?_
        first | refine r_i2lM (pc := 2) dX6_paints_2 (by omega) ?_ | refine r_i2lI (pc := 2) dX6_paints_2 (by constructor <;> omega) ?_ | refine r_i2lT (pc := 2) dX6_paints_2 ?_
        refine r_cV (pc := 3) dX6_paints_3 cv_X6_394 hS.k (ct_X6_isPerson hS hT.2.1 hn8 (by constructor <;> omega)) rfl rfl (Nat.le_of_ble_eq_true rfl) (by decide) ?_
        rintro _ _ ⟨rfl, rfl⟩
        first | refine r_if_eqZ (pc := 6) (tgt := 19) dX6_paints_6 (by decide) (fun h6 => ?_) (fun h6 => ?_) | refine r_if_eqN (pc := 6) (tgt := 19) dX6_paints_6 (by decide) (by omega) (fun h6 => ?_) (fun h6 => ?_) | refine r_if_eq (pc := 6) (tgt := 19) dX6_paints_6 (by decide) (fun h6 => ?_) (fun h6 => ?_)
        · skip
          exact absurd h6 (by omega)
        · skip
          refine r_ild2 (pc := 9) dX6_paints_9 ?_
          first | refine r_i2lM (pc := 10) dX6_paints_10 (by omega) ?_ | refine r_i2lI (pc := 10) dX6_paints_10 (by constructor <;> omega) ?_ | refine r_i2lT (pc := 10) dX6_paints_10 ?_
          refine r_lconst (v := lI 0) (pc := 11) dX6_paints_11 rfl ?_
          refine r_lconst (v := lI 1) (pc := 12) dX6_paints_12 rfl ?_
          refine r_cS (pc := 13) dX6_paints_13 cs_X6_280 (ct_X6_isInI (by constructor <;> omega) (by constructor <;> omega) (by constructor <;> omega)) rfl rfl (Nat.le_of_ble_eq_true rfl) (by decide) ?_
          rintro _ _ ⟨rfl, rfl⟩
          first | refine r_if_neZ (pc := 16) (tgt := 21) dX6_paints_16 (by decide) (fun h16 => ?_) (fun h16 => ?_) | refine r_if_neN (pc := 16) (tgt := 21) dX6_paints_16 (by decide) (by omega) (fun h16 => ?_) (fun h16 => ?_) | refine r_if_ne (pc := 16) (tgt := 21) dX6_paints_16 (by decide) (fun h16 => ?_) (fun h16 => ?_)
          · skip
            refine r_ald0 (pc := 21) dX6_paints_21 ?_
            refine r_ild1 (pc := 22) dX6_paints_22 ?_
            refine r_ild2 (pc := 23) dX6_paints_23 ?_
            refine r_cV (pc := 24) dX6_paints_24 cv_X6_467 hS.k (ct_X6_neighbour hS hT.2.1 hn8 hN hB h1 h2) rfl rfl (Nat.le_of_ble_eq_true rfl) (by decide) ?_
            rintro _ _ ⟨rfl, rfl⟩
            refine Bd.eqI (x' := nI w) (by rw [hnb]; rfl) ?_
            refine r_ist3 (pc := 27) dX6_paints_27 ?_
            refine r_ild3 (pc := 28) dX6_paints_28 ?_
            refine r_iconst (v := -1) (pc := 29) dX6_paints_29 (by decide) ?_
            first | refine r_icmp_neN (pc := 30) (tgt := 37) dX6_paints_30 (by decide) (by omega) (by omega) (fun h30 => ?_) (fun h30 => ?_) | refine r_icmp_ne (pc := 30) (tgt := 37) dX6_paints_30 (by decide) (fun h30 => ?_) (fun h30 => ?_)
            · skip
              refine r_ald0 (pc := 37) dX6_paints_37 ?_
              refine r_ild1 (pc := 38) dX6_paints_38 ?_
              refine r_ild3 (pc := 39) dX6_paints_39 ?_
              refine r_ild2 (pc := 40) dX6_paints_40 ?_
              refine r_cV (pc := 41) dX6_paints_41 cv_X6_473 hS.k (ct_X6_painted hS hT hTB hN hB h1 hwn h2) rfl rfl (Nat.le_of_ble_eq_true rfl) (by decide) ?_
              rintro _ _ ⟨s1, rfl, rfl, hf1⟩
              refine r_iret (pc := 44) dX6_paints_44 ?_
              exact ⟨s1, rfl, rfl, hI.fr hf1 (by decide) (by decide) (by decide) (by decide)⟩
            · skip
              exact absurd h30 (nI_m1 (by omega))
          · skip
            exact absurd h16 (by omega)
theorem pm_kept {a b : Int32} (hS : ShM g M o) (hI : IM s q) (hG : GI q) : Ct g yX6_kept cX6_kept 3 (some Jvm.ClassFile.FieldType.int) 1 0 0 [.ref o, .int a, .int b] (putM M o s) (PM M o q (.int (keptS q a b))) noX := by
  have hK := hI.2.2.2.2.1.2.1
  have hK40 : (gK q).length ≤ 40 := hK.2.1
  obtain ⟨ha1, ha2⟩ := b31_of a
  obtain ⟨hb1, hb2⟩ := b31_of b
  refine Ct.of (by decide) (Nat.le_of_ble_eq_true rfl) rfl ?_
  unfold keptS
  cases hp : pidx a (gK q).length with
  | none =>
    have hp := pidx_none hp
    refine r_ild1 (pc := 0) dX6_kept_0 ?_
    refine r_i2lT (pc := 1) dX6_kept_1 ?_
    refine r_lconst (v := lI 0) (pc := 2) dX6_kept_2 rfl ?_
    refine r_ald0 (pc := 3) dX6_kept_3 ?_
    refine m_getR hS (pc := 4) dX6_kept_4 fl_X6_121 ar55 ?_
    refine r_bipush (v := nI 89) (pc := 7) dX6_kept_7 (by decide) ?_
    refine m_iald hS (pc := 9) dX6_kept_9 ar55 (by omega) (by omega) ?_
    refine Bd.eqI hK.1 ?_
    refine r_iconst (v := nI 1) (pc := 10) dX6_kept_10 (by decide) ?_
    refine r_isubM (pc := 11) dX6_kept_11 ?_
    refine r_i2lI (pc := 12) dX6_kept_12 (by constructor <;> omega) ?_
    refine r_cS (pc := 13) dX6_kept_13 cs_X6_280 (ct_X6_isInI (by constructor <;> omega) (by constructor <;> omega) (by constructor <;> omega)) rfl rfl (Nat.le_of_ble_eq_true rfl) (by decide) ?_
    rintro _ _ ⟨rfl, rfl⟩
    first | refine r_if_eqZ (pc := 16) (tgt := 47) dX6_kept_16 (by decide) (fun h16 => ?_) (fun h16 => ?_) | refine r_if_eqN (pc := 16) (tgt := 47) dX6_kept_16 (by decide) (by omega) (fun h16 => ?_) (fun h16 => ?_) | refine r_if_eq (pc := 16) (tgt := 47) dX6_kept_16 (by decide) (fun h16 => ?_) (fun h16 => ?_)
    · skip
      refine r_iconst (v := -1) (pc := 47) dX6_kept_47 (by decide) ?_
      refine r_iret (pc := 48) dX6_kept_48 ?_
      exact ⟨s, rfl, rfl, hI⟩
    · skip
      exact absurd h16 (by omega)
  | some i =>
    cases hr : pidx b 3 with
    | none =>
      have hr := pidx_none hr
      obtain ⟨h1, rfl⟩ := pidx_some hp
      refine r_ild1 (pc := 0) dX6_kept_0 ?_
      first | refine r_i2lM (pc := 1) dX6_kept_1 (by omega) ?_ | refine r_i2lI (pc := 1) dX6_kept_1 (by constructor <;> omega) ?_ | refine r_i2lT (pc := 1) dX6_kept_1 ?_
      refine r_lconst (v := lI 0) (pc := 2) dX6_kept_2 rfl ?_
      refine r_ald0 (pc := 3) dX6_kept_3 ?_
      refine m_getR hS (pc := 4) dX6_kept_4 fl_X6_121 ar55 ?_
      refine r_bipush (v := nI 89) (pc := 7) dX6_kept_7 (by decide) ?_
      refine m_iald hS (pc := 9) dX6_kept_9 ar55 (by omega) (by omega) ?_
      refine Bd.eqI hK.1 ?_
      refine r_iconst (v := nI 1) (pc := 10) dX6_kept_10 (by decide) ?_
      first | refine r_isubN (pc := 11) dX6_kept_11 (by omega) ?_ | refine r_isubM (pc := 11) dX6_kept_11 ?_ | refine r_isubJ (pc := 11) dX6_kept_11 ?_ | refine r_isub (pc := 11) dX6_kept_11 ?_
      first | refine r_i2lM (pc := 12) dX6_kept_12 (by omega) ?_ | refine r_i2lI (pc := 12) dX6_kept_12 (by constructor <;> omega) ?_ | refine r_i2lT (pc := 12) dX6_kept_12 ?_
      refine r_cS (pc := 13) dX6_kept_13 cs_X6_280 (ct_X6_isInI (by constructor <;> omega) (by constructor <;> omega) (by constructor <;> omega)) rfl rfl (Nat.le_of_ble_eq_true rfl) (by decide) ?_
      rintro _ _ ⟨rfl, rfl⟩
      first | refine r_if_eqZ (pc := 16) (tgt := 47) dX6_kept_16 (by decide) (fun h16 => ?_) (fun h16 => ?_) | refine r_if_eqN (pc := 16) (tgt := 47) dX6_kept_16 (by decide) (by omega) (fun h16 => ?_) (fun h16 => ?_) | refine r_if_eq (pc := 16) (tgt := 47) dX6_kept_16 (by decide) (fun h16 => ?_) (fun h16 => ?_)
      · skip
        exact absurd h16 (by omega)
      · skip
        refine r_ild2 (pc := 19) dX6_kept_19 ?_
        refine r_i2lT (pc := 20) dX6_kept_20 ?_
        refine r_lconst (v := lI 0) (pc := 21) dX6_kept_21 rfl ?_
        refine r_ldc2 (v := lI (2)) (pc := 22) dX6_kept_22 q2262 ?_
        refine r_cS (pc := 25) dX6_kept_25 cs_X6_280 (ct_X6_isInI (by constructor <;> omega) (by constructor <;> omega) (by constructor <;> omega)) rfl rfl (Nat.le_of_ble_eq_true rfl) (by decide) ?_
        rintro _ _ ⟨rfl, rfl⟩
        first | refine r_if_eqZ (pc := 28) (tgt := 47) dX6_kept_28 (by decide) (fun h28 => ?_) (fun h28 => ?_) | refine r_if_eqN (pc := 28) (tgt := 47) dX6_kept_28 (by decide) (by omega) (fun h28 => ?_) (fun h28 => ?_) | refine r_if_eq (pc := 28) (tgt := 47) dX6_kept_28 (by decide) (fun h28 => ?_) (fun h28 => ?_)
        · skip
          refine r_iconst (v := -1) (pc := 47) dX6_kept_47 (by decide) ?_
          refine r_iret (pc := 48) dX6_kept_48 ?_
          exact ⟨s, rfl, rfl, hI⟩
        · skip
          exact absurd h28 (by omega)
    | some k =>
      obtain ⟨h1, rfl⟩ := pidx_some hp
      obtain ⟨h2, rfl⟩ := pidx_some hr
      show Bd g yX6_kept cX6_kept 3 (some Jvm.ClassFile.FieldType.int) [] 1 0 0 _ _ _ _ (PM M o q (.int (match (gK q)[i]? with | none => -1 | some e => if k = 0 then nI e.1 else if k = 1 then nI e.2.1 else nI e.2.2))) noX
      rw [List.getElem?_eq_getElem h1]
      obtain ⟨x, y, z, he⟩ : ∃ x y z, (gK q)[i] = (x, y, z) := ⟨_, _, _, rfl⟩
      have h3 := hK.2.2 i x y z (by rw [List.getElem?_eq_getElem h1, he])
      rw [he]
      have hv : mA s 55 (90 + 3 * i + k) = if k = 0 then nI x else if k = 1 then nI y else nI z := by
        have hk : k = 0 ∨ k = 1 ∨ k = 2 := by omega
        rcases hk with e | e | e <;> subst e
        · exact h3.1
        · rw [show 90 + 3 * i + 1 = 91 + 3 * i by omega]; exact h3.2.1
        · rw [show 90 + 3 * i + 2 = 92 + 3 * i by omega]; exact h3.2.2
      refine r_ild1 (pc := 0) dX6_kept_0 ?_
      first | refine r_i2lM (pc := 1) dX6_kept_1 (by omega) ?_ | refine r_i2lI (pc := 1) dX6_kept_1 (by constructor <;> omega) ?_ | refine r_i2lT (pc := 1) dX6_kept_1 ?_
      refine r_lconst (v := lI 0) (pc := 2) dX6_kept_2 rfl ?_
      refine r_ald0 (pc := 3) dX6_kept_3 ?_
      refine m_getR hS (pc := 4) dX6_kept_4 fl_X6_121 ar55 ?_
      refine r_bipush (v := nI 89) (pc := 7) dX6_kept_7 (by decide) ?_
      refine m_iald hS (pc := 9) dX6_kept_9 ar55 (by omega) (by omega) ?_
      refine Bd.eqI hK.1 ?_
      refine r_iconst (v := nI 1) (pc := 10) dX6_kept_10 (by decide) ?_
      first | refine r_isubN (pc := 11) dX6_kept_11 (by omega) ?_ | refine r_isubM (pc := 11) dX6_kept_11 ?_ | refine r_isubJ (pc := 11) dX6_kept_11 ?_ | refine r_isub (pc := 11) dX6_kept_11 ?_
      first | refine r_i2lM (pc := 12) dX6_kept_12 (by omega) ?_ | refine r_i2lI (pc := 12) dX6_kept_12 (by constructor <;> omega) ?_ | refine r_i2lT (pc := 12) dX6_kept_12 ?_
      refine r_cS (pc := 13) dX6_kept_13 cs_X6_280 (ct_X6_isInI (by constructor <;> omega) (by constructor <;> omega) (by constructor <;> omega)) rfl rfl (Nat.le_of_ble_eq_true rfl) (by decide) ?_
      rintro _ _ ⟨rfl, rfl⟩
      first | refine r_if_eqZ (pc := 16) (tgt := 47) dX6_kept_16 (by decide) (fun h16 => ?_) (fun h16 => ?_) | refine r_if_eqN (pc := 16) (tgt := 47) dX6_kept_16 (by decide) (by omega) (fun h16 => ?_) (fun h16 => ?_) | refine r_if_eq (pc := 16) (tgt := 47) dX6_kept_16 (by decide) (fun h16 => ?_) (fun h16 => ?_)
      · skip
        exact absurd h16 (by omega)
      · skip
        refine r_ild2 (pc := 19) dX6_kept_19 ?_
        first | refine r_i2lM (pc := 20) dX6_kept_20 (by omega) ?_ | refine r_i2lI (pc := 20) dX6_kept_20 (by constructor <;> omega) ?_ | refine r_i2lT (pc := 20) dX6_kept_20 ?_
        refine r_lconst (v := lI 0) (pc := 21) dX6_kept_21 rfl ?_
        refine r_ldc2 (v := lI (2)) (pc := 22) dX6_kept_22 q2262 ?_
        refine r_cS (pc := 25) dX6_kept_25 cs_X6_280 (ct_X6_isInI (by constructor <;> omega) (by constructor <;> omega) (by constructor <;> omega)) rfl rfl (Nat.le_of_ble_eq_true rfl) (by decide) ?_
        rintro _ _ ⟨rfl, rfl⟩
        first | refine r_if_eqZ (pc := 28) (tgt := 47) dX6_kept_28 (by decide) (fun h28 => ?_) (fun h28 => ?_) | refine r_if_eqN (pc := 28) (tgt := 47) dX6_kept_28 (by decide) (by omega) (fun h28 => ?_) (fun h28 => ?_) | refine r_if_eq (pc := 28) (tgt := 47) dX6_kept_28 (by decide) (fun h28 => ?_) (fun h28 => ?_)
        · skip
          exact absurd h28 (by omega)
        · skip
          refine r_ald0 (pc := 31) dX6_kept_31 ?_
          refine m_getR hS (pc := 32) dX6_kept_32 fl_X6_121 ar55 ?_
          refine r_bipush (v := nI 90) (pc := 35) dX6_kept_35 (by decide) ?_
          refine r_iconst (v := nI 3) (pc := 37) dX6_kept_37 (by decide) ?_
          refine r_ild1 (pc := 38) dX6_kept_38 ?_
          first | refine r_imulN (pc := 39) dX6_kept_39 ?_ | refine r_imulJ (pc := 39) dX6_kept_39 ?_ | refine r_imul (pc := 39) dX6_kept_39 ?_
          first | refine r_iaddN (pc := 40) dX6_kept_40 ?_ | refine r_iaddJ (pc := 40) dX6_kept_40 ?_ | refine r_iadd (pc := 40) dX6_kept_40 ?_
          refine r_ild2 (pc := 41) dX6_kept_41 ?_
          first | refine r_iaddN (pc := 42) dX6_kept_42 ?_ | refine r_iaddJ (pc := 42) dX6_kept_42 ?_ | refine r_iadd (pc := 42) dX6_kept_42 ?_
          refine m_iald hS (pc := 43) dX6_kept_43 ar55 (by omega) (by omega) ?_
          refine Bd.eqI hv ?_
          refine r_goto (pc := 44) (tgt := 48) dX6_kept_44 (by decide) ?_
          refine r_iret (pc := 48) dX6_kept_48 ?_
          exact ⟨s, rfl, rfl, hI⟩
theorem pm_person {a b : Int32} (hS : ShM g M o) (hI : IM s q) (hG : GI q) : Ct g yX6_person cX6_person 3 (some Jvm.ClassFile.FieldType.int) 3 0 0 [.ref o, .int a, .int b] (putM M o s) (PM M o q (.int (personS q a b))) noX := by
  have hT := hI.2.2.2.1.1
  have hTB := hG.2.2.1
  have hN := hI.2.2.2.2.1.1
  have hB : SB (tn (gT q)) (gS q) := hG.2.2.2.2.2.1.1
  have hn8 := hTB.1
  obtain ⟨ha1, ha2⟩ := b31_of a
  obtain ⟨hb1, hb2⟩ := b31_of b
  refine Ct.of (by decide) (Nat.le_of_ble_eq_true rfl) rfl ?_
  unfold personS
  cases hp : pidx a (tn (gT q)) with
  | none =>
    have hp := pidx_none hp
    refine r_ald0 (pc := 0) dX6_person_0 ?_
    refine r_ild1 (pc := 1) dX6_person_1 ?_
    refine r_i2lT (pc := 2) dX6_person_2 ?_
    refine r_cV (pc := 3) dX6_person_3 cv_X6_394 hS.k (ct_X6_isPerson hS hT.2.1 hn8 (by constructor <;> omega)) rfl rfl (Nat.le_of_ble_eq_true rfl) (by decide) ?_
    rintro _ _ ⟨rfl, rfl⟩
    first | refine r_if_neZ (pc := 6) (tgt := 11) dX6_person_6 (by decide) (fun h6 => ?_) (fun h6 => ?_) | refine r_if_neN (pc := 6) (tgt := 11) dX6_person_6 (by decide) (by omega) (fun h6 => ?_) (fun h6 => ?_) | refine r_if_ne (pc := 6) (tgt := 11) dX6_person_6 (by decide) (fun h6 => ?_) (fun h6 => ?_)
    · skip
      exact absurd h6 hp
    · skip
      refine r_iconst (v := -1) (pc := 9) dX6_person_9 (by decide) ?_
      refine r_iret (pc := 10) dX6_person_10 ?_
      exact ⟨s, rfl, rfl, hI⟩
  | some p =>
    obtain ⟨h1, rfl⟩ := pidx_some hp
    cases hr : pidx b 7 with
    | none =>
      have hr := pidx_none hr
      have ho : b.toInt < 0 ∨ (6 : Int) < b.toInt := by omega
      refine r_ald0 (pc := 0) dX6_person_0 ?_
      refine r_ild1 (pc := 1) dX6_person_1 ?_
      first | refine r_i2lM (pc := 2) dX6_person_2 (by omega) ?_ | refine r_i2lI (pc := 2) dX6_person_2 (by constructor <;> omega) ?_ | refine r_i2lT (pc := 2) dX6_person_2 ?_
      refine r_cV (pc := 3) dX6_person_3 cv_X6_394 hS.k (ct_X6_isPerson hS hT.2.1 hn8 (by constructor <;> omega)) rfl rfl (Nat.le_of_ble_eq_true rfl) (by decide) ?_
      rintro _ _ ⟨rfl, rfl⟩
      first | refine r_if_neZ (pc := 6) (tgt := 11) dX6_person_6 (by decide) (fun h6 => ?_) (fun h6 => ?_) | refine r_if_neN (pc := 6) (tgt := 11) dX6_person_6 (by decide) (by omega) (fun h6 => ?_) (fun h6 => ?_) | refine r_if_ne (pc := 6) (tgt := 11) dX6_person_6 (by decide) (fun h6 => ?_) (fun h6 => ?_)
      · skip
        refine r_ild2 (pc := 11) dX6_person_11 ?_
        refine r_tableOut (pc := 12) (tgt := 108) dX6_person_12 (by first | decide | assumption) (by decide) ?_
        refine r_iconst (v := -1) (pc := 108) dX6_person_108 (by decide) ?_
        refine r_iret (pc := 109) dX6_person_109 ?_
        exact ⟨s, rfl, rfl, hI⟩
      · skip
        exact absurd h6 (by omega)
    | some k =>
      obtain ⟨h2, rfl⟩ := pidx_some hr
      have hc : k = 0 ∨ k = 1 ∨ k = 2 ∨ k = 3 ∨ k = 4 ∨ k = 5 ∨ k = 6 := by omega
      have hsp1 := (hB.2 p h1).2.2.1
      rcases hc with h | h | h | h | h | h | h <;> subst h
      · skip
        refine r_ald0 (pc := 0) dX6_person_0 ?_
        refine r_ild1 (pc := 1) dX6_person_1 ?_
        first | refine r_i2lM (pc := 2) dX6_person_2 (by omega) ?_ | refine r_i2lI (pc := 2) dX6_person_2 (by constructor <;> omega) ?_ | refine r_i2lT (pc := 2) dX6_person_2 ?_
        refine r_cV (pc := 3) dX6_person_3 cv_X6_394 hS.k (ct_X6_isPerson hS hT.2.1 hn8 (by constructor <;> omega)) rfl rfl (Nat.le_of_ble_eq_true rfl) (by decide) ?_
        rintro _ _ ⟨rfl, rfl⟩
        first | refine r_if_neZ (pc := 6) (tgt := 11) dX6_person_6 (by decide) (fun h6 => ?_) (fun h6 => ?_) | refine r_if_neN (pc := 6) (tgt := 11) dX6_person_6 (by decide) (by omega) (fun h6 => ?_) (fun h6 => ?_) | refine r_if_ne (pc := 6) (tgt := 11) dX6_person_6 (by decide) (fun h6 => ?_) (fun h6 => ?_)
        · skip
          refine r_ild2 (pc := 11) dX6_person_11 ?_
          refine r_tableIn (pc := 12) (tgt := 56) (off := 44) dX6_person_12 (by decide) (by decide) rfl (by decide) ?_
          refine r_ald0 (pc := 56) dX6_person_56 ?_
          refine r_ild1 (pc := 57) dX6_person_57 ?_
          refine r_cV (pc := 58) dX6_person_58 cv_X6_402 hS.k (ct_X6_houseOf hS (by omega)) rfl rfl (Nat.le_of_ble_eq_true rfl) (by decide) ?_
          rintro _ _ ⟨rfl, rfl⟩
          refine Bd.eqI (hN.2.1 p h1) ?_
          refine r_iret (pc := 61) dX6_person_61 ?_
          exact ⟨s, rfl, rfl, hI⟩
        · skip
          exact absurd h6 (by omega)
      · skip
        refine r_ald0 (pc := 0) dX6_person_0 ?_
        refine r_ild1 (pc := 1) dX6_person_1 ?_
        first | refine r_i2lM (pc := 2) dX6_person_2 (by omega) ?_ | refine r_i2lI (pc := 2) dX6_person_2 (by constructor <;> omega) ?_ | refine r_i2lT (pc := 2) dX6_person_2 ?_
        refine r_cV (pc := 3) dX6_person_3 cv_X6_394 hS.k (ct_X6_isPerson hS hT.2.1 hn8 (by constructor <;> omega)) rfl rfl (Nat.le_of_ble_eq_true rfl) (by decide) ?_
        rintro _ _ ⟨rfl, rfl⟩
        first | refine r_if_neZ (pc := 6) (tgt := 11) dX6_person_6 (by decide) (fun h6 => ?_) (fun h6 => ?_) | refine r_if_neN (pc := 6) (tgt := 11) dX6_person_6 (by decide) (by omega) (fun h6 => ?_) (fun h6 => ?_) | refine r_if_ne (pc := 6) (tgt := 11) dX6_person_6 (by decide) (fun h6 => ?_) (fun h6 => ?_)
        · skip
          refine r_ild2 (pc := 11) dX6_person_11 ?_
          refine r_tableIn (pc := 12) (tgt := 62) (off := 50) dX6_person_12 (by decide) (by decide) rfl (by decide) ?_
          refine r_ald0 (pc := 62) dX6_person_62 ?_
          refine r_ild1 (pc := 63) dX6_person_63 ?_
          refine r_cV (pc := 64) dX6_person_64 cv_X6_423 hS.k (ct_X6_lookOf hS (by omega)) rfl rfl (Nat.le_of_ble_eq_true rfl) (by decide) ?_
          rintro _ _ ⟨rfl, rfl⟩
          refine Bd.eqI (hN.2.2.1 p h1) ?_
          refine r_iret (pc := 67) dX6_person_67 ?_
          exact ⟨s, rfl, rfl, hI⟩
        · skip
          exact absurd h6 (by omega)
      · skip
        refine r_ald0 (pc := 0) dX6_person_0 ?_
        refine r_ild1 (pc := 1) dX6_person_1 ?_
        first | refine r_i2lM (pc := 2) dX6_person_2 (by omega) ?_ | refine r_i2lI (pc := 2) dX6_person_2 (by constructor <;> omega) ?_ | refine r_i2lT (pc := 2) dX6_person_2 ?_
        refine r_cV (pc := 3) dX6_person_3 cv_X6_394 hS.k (ct_X6_isPerson hS hT.2.1 hn8 (by constructor <;> omega)) rfl rfl (Nat.le_of_ble_eq_true rfl) (by decide) ?_
        rintro _ _ ⟨rfl, rfl⟩
        first | refine r_if_neZ (pc := 6) (tgt := 11) dX6_person_6 (by decide) (fun h6 => ?_) (fun h6 => ?_) | refine r_if_neN (pc := 6) (tgt := 11) dX6_person_6 (by decide) (by omega) (fun h6 => ?_) (fun h6 => ?_) | refine r_if_ne (pc := 6) (tgt := 11) dX6_person_6 (by decide) (fun h6 => ?_) (fun h6 => ?_)
        · skip
          refine r_ild2 (pc := 11) dX6_person_11 ?_
          refine r_tableIn (pc := 12) (tgt := 68) (off := 56) dX6_person_12 (by decide) (by decide) rfl (by decide) ?_
          refine r_ald0 (pc := 68) dX6_person_68 ?_
          refine r_ild1 (pc := 69) dX6_person_69 ?_
          refine r_cV (pc := 70) dX6_person_70 cv_X6_426 hS.k (ct_X6_faceOf hS (by omega)) rfl rfl (Nat.le_of_ble_eq_true rfl) (by decide) ?_
          rintro _ _ ⟨rfl, rfl⟩
          refine Bd.eqI (hT.2.2.1 p h1) ?_
          refine r_iret (pc := 73) dX6_person_73 ?_
          exact ⟨s, rfl, rfl, hI⟩
        · skip
          exact absurd h6 (by omega)
      · skip
        refine r_ald0 (pc := 0) dX6_person_0 ?_
        refine r_ild1 (pc := 1) dX6_person_1 ?_
        first | refine r_i2lM (pc := 2) dX6_person_2 (by omega) ?_ | refine r_i2lI (pc := 2) dX6_person_2 (by constructor <;> omega) ?_ | refine r_i2lT (pc := 2) dX6_person_2 ?_
        refine r_cV (pc := 3) dX6_person_3 cv_X6_394 hS.k (ct_X6_isPerson hS hT.2.1 hn8 (by constructor <;> omega)) rfl rfl (Nat.le_of_ble_eq_true rfl) (by decide) ?_
        rintro _ _ ⟨rfl, rfl⟩
        first | refine r_if_neZ (pc := 6) (tgt := 11) dX6_person_6 (by decide) (fun h6 => ?_) (fun h6 => ?_) | refine r_if_neN (pc := 6) (tgt := 11) dX6_person_6 (by decide) (by omega) (fun h6 => ?_) (fun h6 => ?_) | refine r_if_ne (pc := 6) (tgt := 11) dX6_person_6 (by decide) (fun h6 => ?_) (fun h6 => ?_)
        · skip
          refine r_ild2 (pc := 11) dX6_person_11 ?_
          refine r_tableIn (pc := 12) (tgt := 74) (off := 62) dX6_person_12 (by decide) (by decide) rfl (by decide) ?_
          refine r_ald0 (pc := 74) dX6_person_74 ?_
          refine r_ild1 (pc := 75) dX6_person_75 ?_
          refine r_cV (pc := 76) dX6_person_76 cv_X6_432 hS.k (ct_X6_kindOf hS (by omega)) rfl rfl (Nat.le_of_ble_eq_true rfl) (by decide) ?_
          rintro _ _ ⟨rfl, rfl⟩
          refine Bd.eqI (hT.2.2.2.1 p h1) ?_
          refine r_iret (pc := 79) dX6_person_79 ?_
          exact ⟨s, rfl, rfl, hI⟩
        · skip
          exact absurd h6 (by omega)
      · skip
        refine r_ald0 (pc := 0) dX6_person_0 ?_
        refine r_ild1 (pc := 1) dX6_person_1 ?_
        first | refine r_i2lM (pc := 2) dX6_person_2 (by omega) ?_ | refine r_i2lI (pc := 2) dX6_person_2 (by constructor <;> omega) ?_ | refine r_i2lT (pc := 2) dX6_person_2 ?_
        refine r_cV (pc := 3) dX6_person_3 cv_X6_394 hS.k (ct_X6_isPerson hS hT.2.1 hn8 (by constructor <;> omega)) rfl rfl (Nat.le_of_ble_eq_true rfl) (by decide) ?_
        rintro _ _ ⟨rfl, rfl⟩
        first | refine r_if_neZ (pc := 6) (tgt := 11) dX6_person_6 (by decide) (fun h6 => ?_) (fun h6 => ?_) | refine r_if_neN (pc := 6) (tgt := 11) dX6_person_6 (by decide) (by omega) (fun h6 => ?_) (fun h6 => ?_) | refine r_if_ne (pc := 6) (tgt := 11) dX6_person_6 (by decide) (fun h6 => ?_) (fun h6 => ?_)
        · skip
          refine r_ild2 (pc := 11) dX6_person_11 ?_
          refine r_tableIn (pc := 12) (tgt := 80) (off := 68) dX6_person_12 (by decide) (by decide) rfl (by decide) ?_
          refine r_ald0 (pc := 80) dX6_person_80 ?_
          refine r_ild1 (pc := 81) dX6_person_81 ?_
          refine r_cV (pc := 82) dX6_person_82 cv_X6_470 hS.k (ct_X6_doesSpare hS (by omega)) rfl rfl (Nat.le_of_ble_eq_true rfl) (by decide) ?_
          rintro _ _ ⟨rfl, rfl⟩
          refine Bd.eqI (x' := zI (sp (gS q) p = 1)) (zI_congr (by rw [hN.2.2.2.1 p h1]; exact nI_eq (a := sp (gS q) p) (b := 1) (by omega) (by decide))) ?_
          first | refine r_if_eqZ (pc := 85) (tgt := 92) dX6_person_85 (by decide) (fun h85 => ?_) (fun h85 => ?_) | refine r_if_eqN (pc := 85) (tgt := 92) dX6_person_85 (by decide) (by omega) (fun h85 => ?_) (fun h85 => ?_) | refine r_if_eq (pc := 85) (tgt := 92) dX6_person_85 (by decide) (fun h85 => ?_) (fun h85 => ?_)
          · skip
            refine r_iconst (v := nI 0) (pc := 92) dX6_person_92 (by decide) ?_
            refine r_iret (pc := 93) dX6_person_93 ?_
            exact ⟨s, rfl, by first | (show some (Value.int (nI 1)) = some (.int (nI (sp (gS q) p))); rw [h85]) | (show some (Value.int (nI 0)) = some (.int (nI (sp (gS q) p))); rw [show sp (gS q) p = 0 by omega]), hI⟩
          · skip
            refine r_iconst (v := nI 1) (pc := 88) dX6_person_88 (by decide) ?_
            refine r_goto (pc := 89) (tgt := 93) dX6_person_89 (by decide) ?_
            refine r_iret (pc := 93) dX6_person_93 ?_
            exact ⟨s, rfl, by first | (show some (Value.int (nI 1)) = some (.int (nI (sp (gS q) p))); rw [h85]) | (show some (Value.int (nI 0)) = some (.int (nI (sp (gS q) p))); rw [show sp (gS q) p = 0 by omega]), hI⟩
        · skip
          exact absurd h6 (by omega)
      · skip
        refine r_ald0 (pc := 0) dX6_person_0 ?_
        refine r_ild1 (pc := 1) dX6_person_1 ?_
        first | refine r_i2lM (pc := 2) dX6_person_2 (by omega) ?_ | refine r_i2lI (pc := 2) dX6_person_2 (by constructor <;> omega) ?_ | refine r_i2lT (pc := 2) dX6_person_2 ?_
        refine r_cV (pc := 3) dX6_person_3 cv_X6_394 hS.k (ct_X6_isPerson hS hT.2.1 hn8 (by constructor <;> omega)) rfl rfl (Nat.le_of_ble_eq_true rfl) (by decide) ?_
        rintro _ _ ⟨rfl, rfl⟩
        first | refine r_if_neZ (pc := 6) (tgt := 11) dX6_person_6 (by decide) (fun h6 => ?_) (fun h6 => ?_) | refine r_if_neN (pc := 6) (tgt := 11) dX6_person_6 (by decide) (by omega) (fun h6 => ?_) (fun h6 => ?_) | refine r_if_ne (pc := 6) (tgt := 11) dX6_person_6 (by decide) (fun h6 => ?_) (fun h6 => ?_)
        · skip
          refine r_ild2 (pc := 11) dX6_person_11 ?_
          refine r_tableIn (pc := 12) (tgt := 94) (off := 82) dX6_person_12 (by decide) (by decide) rfl (by decide) ?_
          refine r_ald0 (pc := 94) dX6_person_94 ?_
          refine r_ild1 (pc := 95) dX6_person_95 ?_
          refine r_iconst (v := nI 0) (pc := 96) dX6_person_96 (by decide) ?_
          refine r_cV (pc := 97) dX6_person_97 cv_X6_467 hS.k (ct_X6_neighbour hS hT.2.1 hn8 hN hB h1 (by decide)) rfl rfl (Nat.le_of_ble_eq_true rfl) (by decide) ?_
          rintro _ _ ⟨rfl, rfl⟩
          refine r_iret (pc := 100) dX6_person_100 ?_
          exact ⟨s, rfl, rfl, hI⟩
        · skip
          exact absurd h6 (by omega)
      · skip
        refine r_ald0 (pc := 0) dX6_person_0 ?_
        refine r_ild1 (pc := 1) dX6_person_1 ?_
        first | refine r_i2lM (pc := 2) dX6_person_2 (by omega) ?_ | refine r_i2lI (pc := 2) dX6_person_2 (by constructor <;> omega) ?_ | refine r_i2lT (pc := 2) dX6_person_2 ?_
        refine r_cV (pc := 3) dX6_person_3 cv_X6_394 hS.k (ct_X6_isPerson hS hT.2.1 hn8 (by constructor <;> omega)) rfl rfl (Nat.le_of_ble_eq_true rfl) (by decide) ?_
        rintro _ _ ⟨rfl, rfl⟩
        first | refine r_if_neZ (pc := 6) (tgt := 11) dX6_person_6 (by decide) (fun h6 => ?_) (fun h6 => ?_) | refine r_if_neN (pc := 6) (tgt := 11) dX6_person_6 (by decide) (by omega) (fun h6 => ?_) (fun h6 => ?_) | refine r_if_ne (pc := 6) (tgt := 11) dX6_person_6 (by decide) (fun h6 => ?_) (fun h6 => ?_)
        · skip
          refine r_ild2 (pc := 11) dX6_person_11 ?_
          refine r_tableIn (pc := 12) (tgt := 101) (off := 89) dX6_person_12 (by decide) (by decide) rfl (by decide) ?_
          refine r_ald0 (pc := 101) dX6_person_101 ?_
          refine r_ild1 (pc := 102) dX6_person_102 ?_
          refine r_iconst (v := nI 1) (pc := 103) dX6_person_103 (by decide) ?_
          refine r_cV (pc := 104) dX6_person_104 cv_X6_467 hS.k (ct_X6_neighbour hS hT.2.1 hn8 hN hB h1 (by decide)) rfl rfl (Nat.le_of_ble_eq_true rfl) (by decide) ?_
          rintro _ _ ⟨rfl, rfl⟩
          refine r_iret (pc := 107) dX6_person_107 ?_
          exact ⟨s, rfl, rfl, hI⟩
        · skip
          exact absurd h6 (by omega)
end M9
