set_option maxRecDepth 100000
/-! RETOUCHED: its small public methods -/
section X21
variable {g : GC} {M : MM} {o ta : Nat} {P : Nat → Prop} {s : XS} {q : Sg}
theorem IX.tp (h : IX g M o P ta s q) : cTp s q := h.2.2.1
theorem IX.ft (h : IX g M o P ta s q) : cFt s q := h.2.2.2.1
theorem IX.rf (h : IX g M o P ta s q) : cRf s q := h.2.2.2.2.1
theorem IX.nw (h : IX g M o P ta s q) : cNw s o q := h.2.2.2.2.2.1
theorem IX.un (h : IX g M o P ta s q) : cUn s o q := h.2.2.2.2.2.2.1
theorem IX.pm (h : IX g M o P ta s q) : cPm s o := h.2.2.2.2.2.2.2.1
theorem IX.rw (h : IX g M o P ta s q) : cRw s q := h.2.2.2.2.2.2.2.2.1
theorem IX.sd (h : IX g M o P ta s q) : cSd s q := h.2.2.2.2.2.2.2.2.2.1
theorem IX.ou (h : IX g M o P ta s q) : cOu s q := h.2.2.2.2.2.2.2.2.2.2.1
theorem IX.mm (h : IX g M o P ta s q) : MmX s 10 := h.2.2.2.2.2.2.2.2.2.2.2
theorem MoC.I {s' : XS} (h : MoC s s') (hI : IX g M o P ta s q) (hG : GI q) : IX g M o P ta s' q :=
  hI.scr hG (h.fr.mono (fun c hc => Or.inl hc)) (by rw [h.2.1]; exact hI.W.X) (by rw [h.2.1]; exact hI.pm 68 isS_68) h.2.2.2
theorem px_status {x : Int32} (hI : IX g M o P ta s q) (hG : GI q) : Ct g yX0_status cX0_status 2 (some Jvm.ClassFile.FieldType.int) 1 0 0 [.ref o, .int x] (putX M o s) (QI g M o P ta q (.int (statusS q x))) noX := by
  have W := hI.W
  have S := hI.So
  have hg := W.gx
  have hS := W.S
  have hX := W.X
  have hTB := W.B
  have hn8 := hTB.1
  have hH9 := hTB.2.1
  have hN := hI.nw.1
  have hR := hI.nw.2
  have hB : SB (tn (gT q)) (gS q) := hG.2.2.2.2.2.1.1
  refine Ct.of (by decide) (Nat.le_of_ble_eq_true rfl) rfl ?_
  unfold statusS
  cases hp : pidx x 6 with
  | none =>
    have hp := pidx_none hp
    refine r_ild1 (pc := 0) dX0_status_0 ?_
    refine r_iconst (v := nI 0) (pc := 1) dX0_status_1 (by decide) ?_
    refine r_iconst (v := nI 5) (pc := 2) dX0_status_2 (by decide) ?_
    refine r_cS (pc := 3) dX0_status_3 cs_X0_190 (ct_X0_is (v := x) (a := nI 0) (b := nI 5)) rfl rfl (Nat.le_of_ble_eq_true rfl) (by first | decide | omega) ?_
    rintro _ _ ⟨rfl, rfl⟩
    rw [nI_toInt (n := 0) (by decide), nI_toInt (n := 5) (by decide)]
    first | refine r_if_eqZ (pc := 6) (tgt := 18) dX0_status_6 (by decide) (fun h6 => ?_) (fun h6 => ?_) | refine r_if_eqN (pc := 6) (tgt := 18) dX0_status_6 (by decide) (by omega) (fun h6 => ?_) (fun h6 => ?_) | refine r_if_eq (pc := 6) (tgt := 18) dX0_status_6 (by decide) (fun h6 => ?_) (fun h6 => ?_)
    · skip
      refine r_iconst (v := -1) (pc := 18) dX0_status_18 (by decide) ?_
      refine r_iret (pc := 19) dX0_status_19 ?_
      exact ⟨s, rfl, rfl, hI⟩
    · skip
      exact absurd h6 (by omega)
  | some i =>
    obtain ⟨hi, rfl⟩ := pidx_some hp
    refine r_ild1 (pc := 0) dX0_status_0 ?_
    refine r_iconst (v := nI 0) (pc := 1) dX0_status_1 (by decide) ?_
    refine r_iconst (v := nI 5) (pc := 2) dX0_status_2 (by decide) ?_
    refine r_cS (pc := 3) dX0_status_3 cs_X0_190 (ct_X0_is (v := nI i) (a := nI 0) (b := nI 5)) rfl rfl (Nat.le_of_ble_eq_true rfl) (by first | decide | omega) ?_
    rintro _ _ ⟨rfl, rfl⟩
    rw [nI_toInt (n := 0) (by decide), nI_toInt (n := 5) (by decide), nI_toInt (n := i) (by omega)]
    first | refine r_if_eqZ (pc := 6) (tgt := 18) dX0_status_6 (by decide) (fun h6 => ?_) (fun h6 => ?_) | refine r_if_eqN (pc := 6) (tgt := 18) dX0_status_6 (by decide) (by omega) (fun h6 => ?_) (fun h6 => ?_) | refine r_if_eq (pc := 6) (tgt := 18) dX0_status_6 (by decide) (fun h6 => ?_) (fun h6 => ?_)
    · skip
      exact absurd (by omega) h6
    · skip
      refine r_ald0 (pc := 9) dX0_status_9 ?_
      refine x_getR (c := 0) hS ow_0 kd_0 (pc := 10) dX0_status_10 fl_X0_62 (fx_0_8 hX) ?_
      refine r_ild1 (pc := 13) dX0_status_13 ?_
      refine x_iald (c := 11) hS ow_11 kd_11 ln_11 (pc := 14) dX0_status_14 (by omega) (by omega) ?_
      refine Bd.eqI (hI.rf i hi) ?_
      refine r_goto (pc := 15) (tgt := 19) dX0_status_15 (by decide) ?_
      refine r_iret (pc := 19) dX0_status_19 ?_
      exact ⟨s, rfl, rfl, hI⟩
theorem px_octet {x : Int32} (hI : IX g M o P ta s q) (hG : GI q) : Ct g yX0_octet cX0_octet 2 (some Jvm.ClassFile.FieldType.int) 0 0 0 [.ref o, .int x] (putX M o s) (QI g M o P ta q (.int (octetS q x))) noX := by
  have W := hI.W
  have S := hI.So
  have hg := W.gx
  have hS := W.S
  have hX := W.X
  have hTB := W.B
  have hn8 := hTB.1
  have hH9 := hTB.2.1
  have hN := hI.nw.1
  have hR := hI.nw.2
  have hB : SB (tn (gT q)) (gS q) := hG.2.2.2.2.2.1.1
  have hL : (gOu q).length ≤ 83 := hG.2.2.2.2.2.2.2.2.2.2.2.1
  refine Ct.of (by decide) (Nat.le_of_ble_eq_true rfl) rfl ?_
  unfold octetS
  cases hp : pidx x (gOu q).length with
  | none =>
    have hp := pidx_none hp
    refine r_ild1 (pc := 0) dX0_octet_0 ?_
    refine r_if_lt (pc := 1) (tgt := 12) dX0_octet_1 (by decide) (fun h1 => ?_) (fun h1 => ?_)
    · skip
      refine r_iconst (v := -1) (pc := 12) dX0_octet_12 (by decide) ?_
      refine r_goto (pc := 13) (tgt := 26) dX0_octet_13 (by decide) ?_
      refine r_iret (pc := 26) dX0_octet_26 ?_
      exact ⟨s, rfl, rfl, hI⟩
    · skip
      rw [Int32.lt_iff_toInt_lt, Int32.toInt_zero] at h1
      refine r_ild1 (pc := 4) dX0_octet_4 ?_
      refine r_ald0 (pc := 5) dX0_octet_5 ?_
      refine x_getI (c := 0) hS ow_0 kd_0 (pc := 6) dX0_octet_6 fl_X0_326 ?_
      rw [hI.ou.1]
      refine r_icmp_lt (pc := 9) (tgt := 16) dX0_octet_9 (by decide) (fun h9 => ?_) (fun h9 => ?_)
      · skip
        exfalso
        rw [Int32.lt_iff_toInt_lt, nI_toInt (by omega)] at h9
        omega
      · skip
        refine r_iconst (v := -1) (pc := 12) dX0_octet_12 (by decide) ?_
        refine r_goto (pc := 13) (tgt := 26) dX0_octet_13 (by decide) ?_
        refine r_iret (pc := 26) dX0_octet_26 ?_
        exact ⟨s, rfl, rfl, hI⟩
  | some i =>
    obtain ⟨hi, rfl⟩ := pidx_some hp
    refine r_ild1 (pc := 0) dX0_octet_0 ?_
    refine r_if_lt (pc := 1) (tgt := 12) dX0_octet_1 (by decide) (fun h1 => ?_) (fun h1 => ?_)
    · skip
      exact absurd h1 (fun z => nI_in' (n := i + 1) (j := i) (by omega) (by omega) (Or.inl z))
    · skip
      refine r_ild1 (pc := 4) dX0_octet_4 ?_
      refine r_ald0 (pc := 5) dX0_octet_5 ?_
      refine x_getI (c := 0) hS ow_0 kd_0 (pc := 6) dX0_octet_6 fl_X0_326 ?_
      rw [hI.ou.1]
      first | refine r_icmp_ltN (pc := 9) (tgt := 16) dX0_octet_9 (by decide) (by omega) (by omega) (fun h9 => ?_) (fun h9 => ?_) | refine r_icmp_lt (pc := 9) (tgt := 16) dX0_octet_9 (by decide) (fun h9 => ?_) (fun h9 => ?_)
      · skip
        refine r_ald0 (pc := 16) dX0_octet_16 ?_
        refine x_getR (c := 0) hS ow_0 kd_0 (pc := 17) dX0_octet_17 fl_X0_101 (fx_0_21 hX) ?_
        refine r_ild1 (pc := 20) dX0_octet_20 ?_
        refine x_bald (c := 1516) hS ow_1516 kd_1516 ln_1516 (pc := 21) dX0_octet_21 (by omega) (by omega) ?_
        refine r_sipush (v := nI 255) (pc := 22) dX0_octet_22 (by decide) ?_
        refine r_iand (pc := 25) dX0_octet_25 ?_
        refine Bd.eqI (hI.ou.2 i hi) ?_
        refine r_iret (pc := 26) dX0_octet_26 ?_
        exact ⟨s, rfl, rfl, hI⟩
      · skip
        exact absurd hi h9
theorem px_fault {x : Int32} (hI : IX g M o P ta s q) (hG : GI q) : Ct g yX0_fault cX0_fault 2 (some Jvm.ClassFile.FieldType.int) 0 0 0 [.ref o, .int x] (putX M o s) (QI g M o P ta q (.int (faultS q x))) noX := by
  have W := hI.W
  have S := hI.So
  have hg := W.gx
  have hS := W.S
  have hX := W.X
  have hTB := W.B
  have hn8 := hTB.1
  have hH9 := hTB.2.1
  have hN := hI.nw.1
  have hR := hI.nw.2
  have hB : SB (tn (gT q)) (gS q) := hG.2.2.2.2.2.1.1
  refine Ct.of (by decide) (Nat.le_of_ble_eq_true rfl) rfl ?_
  unfold faultS
  refine r_ild1 (pc := 0) dX0_fault_0 ?_
  refine r_if_ne (pc := 1) (tgt := 11) dX0_fault_1 (by decide) (fun h1 => ?_) (fun h1 => ?_)
  · skip
    rw [if_neg h1]
    refine r_ild1 (pc := 11) dX0_fault_11 ?_
    refine r_iconst (v := nI 1) (pc := 12) dX0_fault_12 (by decide) ?_
    refine r_icmp_ne (pc := 13) (tgt := 23) dX0_fault_13 (by decide) (fun h13 => ?_) (fun h13 => ?_)
    · skip
      rw [if_neg (fun z => h13 (by rw [z]; rfl))]
      refine r_iconst (v := -1) (pc := 23) dX0_fault_23 (by decide) ?_
      refine r_iret (pc := 24) dX0_fault_24 ?_
      exact ⟨s, rfl, rfl, hI⟩
    · skip
      rw [if_pos (by rw [h13]; rfl)]
      refine r_ald0 (pc := 16) dX0_fault_16 ?_
      refine x_getI (c := 0) hS ow_0 kd_0 (pc := 17) dX0_fault_17 fl_X0_39 ?_
      rw [hI.ft.2]
      refine r_goto (pc := 20) (tgt := 24) dX0_fault_20 (by decide) ?_
      refine r_iret (pc := 24) dX0_fault_24 ?_
      exact ⟨s, rfl, rfl, hI⟩
  · skip
    rw [if_pos h1]
    refine r_ald0 (pc := 4) dX0_fault_4 ?_
    refine x_getI (c := 0) hS ow_0 kd_0 (pc := 5) dX0_fault_5 fl_X0_115 ?_
    rw [hI.ft.1]
    refine r_goto (pc := 8) (tgt := 24) dX0_fault_8 (by decide) ?_
    refine r_iret (pc := 24) dX0_fault_24 ?_
    exact ⟨s, rfl, rfl, hI⟩
theorem px_house {x : Int32} (hI : IX g M o P ta s q) (hG : GI q) : Ct g yX0_house cX0_house 2 (some Jvm.ClassFile.FieldType.int) 1 0 0 [.ref o, .int x] (putX M o s) (QI g M o P ta q (.int (houseQ q x))) noX := by
  have W := hI.W
  have S := hI.So
  have hg := W.gx
  have hS := W.S
  have hX := W.X
  have hTB := W.B
  have hn8 := hTB.1
  have hH9 := hTB.2.1
  have hN := hI.nw.1
  have hR := hI.nw.2
  have hB : SB (tn (gT q)) (gS q) := hG.2.2.2.2.2.1.1
  refine Ct.of (by decide) (Nat.le_of_ble_eq_true rfl) rfl ?_
  unfold houseQ
  cases hp : pidx x (tH (gT q)) with
  | none =>
    have hp := pidx_none hp
    refine r_ald0 (pc := 0) dX0_house_0 ?_
    refine r_ild1 (pc := 1) dX0_house_1 ?_
    refine r_cV (pc := 2) dX0_house_2 cv_X0_201 (hS.k (c := 0) ow_0 kd_0) (ct_X0_isHouse W) rfl rfl (Nat.le_of_ble_eq_true rfl) (by first | decide | omega) ?_
    rintro _ _ ⟨rfl, rfl⟩
    first | refine r_if_eqZ (pc := 5) (tgt := 19) dX0_house_5 (by decide) (fun h5 => ?_) (fun h5 => ?_) | refine r_if_eqN (pc := 5) (tgt := 19) dX0_house_5 (by decide) (by omega) (fun h5 => ?_) (fun h5 => ?_) | refine r_if_eq (pc := 5) (tgt := 19) dX0_house_5 (by decide) (fun h5 => ?_) (fun h5 => ?_)
    · skip
      refine r_iconst (v := -1) (pc := 19) dX0_house_19 (by decide) ?_
      refine r_iret (pc := 20) dX0_house_20 ?_
      exact ⟨s, rfl, rfl, hI⟩
    · skip
      exact absurd h5 hp
  | some h =>
    obtain ⟨hh, rfl⟩ := pidx_some hp
    refine r_ald0 (pc := 0) dX0_house_0 ?_
    refine r_ild1 (pc := 1) dX0_house_1 ?_
    refine r_cV (pc := 2) dX0_house_2 cv_X0_201 (hS.k (c := 0) ow_0 kd_0) (ct_X0_isHouse W) rfl rfl (Nat.le_of_ble_eq_true rfl) (by first | decide | omega) ?_
    rintro _ _ ⟨rfl, rfl⟩
    first | refine r_if_eqZ (pc := 5) (tgt := 19) dX0_house_5 (by decide) (fun h5 => ?_) (fun h5 => ?_) | refine r_if_eqN (pc := 5) (tgt := 19) dX0_house_5 (by decide) (by omega) (fun h5 => ?_) (fun h5 => ?_) | refine r_if_eq (pc := 5) (tgt := 19) dX0_house_5 (by decide) (fun h5 => ?_) (fun h5 => ?_)
    · skip
      exact absurd (by rw [nI_toInt (by omega)]; omega) h5
    · skip
      refine r_ald0 (pc := 8) dX0_house_8 ?_
      refine x_getR (c := 0) hS ow_0 kd_0 (pc := 9) dX0_house_9 fl_X0_69 (fx_0_9 hX) ?_
      refine r_ild1 (pc := 12) dX0_house_12 ?_
      refine r_cV (pc := 13) dX0_house_13 cv_X0_204 (hS.k (c := 12) (st_ow isS_12) (st_kd isS_12)) (ct_X5_who hS hX isS_12 hN hB hn8 (by omega)) rfl rfl (Nat.le_of_ble_eq_true rfl) (by first | decide | omega) ?_
      rintro _ _ ⟨rfl, rfl⟩
      refine r_goto (pc := 16) (tgt := 20) dX0_house_16 (by decide) ?_
      refine r_iret (pc := 20) dX0_house_20 ?_
      exact ⟨s, rfl, rfl, hI⟩
theorem px_person {x y : Int32} (hI : IX g M o P ta s q) (hG : GI q) : Ct g yX0_person cX0_person 3 (some Jvm.ClassFile.FieldType.int) 5 0 0 [.ref o, .int x, .int y] (putX M o s) (QI g M o P ta q (.int (personS q x y))) noX := by
  have W := hI.W
  have S := hI.So
  have hg := W.gx
  have hS := W.S
  have hX := W.X
  have hTB := W.B
  have hn8 := hTB.1
  have hH9 := hTB.2.1
  have hN := hI.nw.1
  have hR := hI.nw.2
  have hB : SB (tn (gT q)) (gS q) := hG.2.2.2.2.2.1.1
  refine Ct.of (by decide) (Nat.le_of_ble_eq_true rfl) rfl ?_
  unfold personS
  cases hp : pidx x (tn (gT q)) with
  | none =>
    have hp := pidx_none hp
    refine r_ald0 (pc := 0) dX0_person_0 ?_
    refine r_ild1 (pc := 1) dX0_person_1 ?_
    refine r_cV (pc := 2) dX0_person_2 cv_X0_161 (hS.k (c := 0) ow_0 kd_0) (ct_X0_isPerson W S) rfl rfl (Nat.le_of_ble_eq_true rfl) (by first | decide | omega) ?_
    rintro _ _ ⟨rfl, rfl⟩
    first | refine r_if_neZ (pc := 5) (tgt := 10) dX0_person_5 (by decide) (fun h5 => ?_) (fun h5 => ?_) | refine r_if_neN (pc := 5) (tgt := 10) dX0_person_5 (by decide) (by omega) (fun h5 => ?_) (fun h5 => ?_) | refine r_if_ne (pc := 5) (tgt := 10) dX0_person_5 (by decide) (fun h5 => ?_) (fun h5 => ?_)
    · skip
      exact absurd h5 hp
    · skip
      refine r_iconst (v := -1) (pc := 8) dX0_person_8 (by decide) ?_
      refine r_iret (pc := 9) dX0_person_9 ?_
      exact ⟨s, rfl, rfl, hI⟩
  | some p =>
    obtain ⟨hp1, rfl⟩ := pidx_some hp
    cases hk : pidx y 7 with
    | none =>
      have hk := pidx_none hk
      have ho : y.toInt < 0 ∨ (6 : Int) < y.toInt := by omega
      refine r_ald0 (pc := 0) dX0_person_0 ?_
      refine r_ild1 (pc := 1) dX0_person_1 ?_
      refine r_cV (pc := 2) dX0_person_2 cv_X0_161 (hS.k (c := 0) ow_0 kd_0) (ct_X0_isPerson W S) rfl rfl (Nat.le_of_ble_eq_true rfl) (by first | decide | omega) ?_
      rintro _ _ ⟨rfl, rfl⟩
      first | refine r_if_neZ (pc := 5) (tgt := 10) dX0_person_5 (by decide) (fun h5 => ?_) (fun h5 => ?_) | refine r_if_neN (pc := 5) (tgt := 10) dX0_person_5 (by decide) (by omega) (fun h5 => ?_) (fun h5 => ?_) | refine r_if_ne (pc := 5) (tgt := 10) dX0_person_5 (by decide) (fun h5 => ?_) (fun h5 => ?_)
      · skip
        refine r_ild2 (pc := 10) dX0_person_10 ?_
        refine r_tableOut (pc := 11) (tgt := 130) dX0_person_11 (by first | decide | assumption) (by decide) ?_
        refine r_iconst (v := -1) (pc := 130) dX0_person_130 (by decide) ?_
        refine r_iret (pc := 131) dX0_person_131 ?_
        exact ⟨s, rfl, rfl, hI⟩
      · skip
        exact absurd (by rw [nI_toInt (by omega)]; omega) h5
    | some k =>
    obtain ⟨hk1, rfl⟩ := pidx_some hk
    have hc : k = 0 ∨ k = 1 ∨ k = 2 ∨ k = 3 ∨ k = 4 ∨ k = 5 ∨ k = 6 := by omega
    rcases hc with h | h | h | h | h | h | h <;> subst h
    · skip
      refine r_ald0 (pc := 0) dX0_person_0 ?_
      refine r_ild1 (pc := 1) dX0_person_1 ?_
      refine r_cV (pc := 2) dX0_person_2 cv_X0_161 (hS.k (c := 0) ow_0 kd_0) (ct_X0_isPerson W S) rfl rfl (Nat.le_of_ble_eq_true rfl) (by first | decide | omega) ?_
      rintro _ _ ⟨rfl, rfl⟩
      first | refine r_if_neZ (pc := 5) (tgt := 10) dX0_person_5 (by decide) (fun h5 => ?_) (fun h5 => ?_) | refine r_if_neN (pc := 5) (tgt := 10) dX0_person_5 (by decide) (by omega) (fun h5 => ?_) (fun h5 => ?_) | refine r_if_ne (pc := 5) (tgt := 10) dX0_person_5 (by decide) (fun h5 => ?_) (fun h5 => ?_)
      · skip
        refine r_ild2 (pc := 10) dX0_person_10 ?_
        refine r_tableIn (pc := 11) (tgt := 52) (off := 41) dX0_person_11 (by decide) (by decide) rfl (by decide) ?_
        refine r_ald0 (pc := 52) dX0_person_52 ?_
        refine x_getR (c := 0) hS ow_0 kd_0 (pc := 53) dX0_person_53 fl_X0_69 (fx_0_9 hX) ?_
        refine x_getRN (c := 12) hS (st_ow isS_12) (st_kd isS_12) (pc := 56) dX0_person_56 (fn_X0_207 hg) (fs_3 hX isS_12) ?_
        refine r_ild1 (pc := 59) dX0_person_59 ?_
        refine x_iald (c := (12 + 1)) hS (st_ow1 isS_12) (st_kd1 isS_12) (st_ln1 isS_12) (pc := 60) dX0_person_60 (by omega) (by omega) ?_
        refine Bd.eqI (hN.2.2.1 p hp1) ?_
        refine r_iret (pc := 61) dX0_person_61 ?_
        exact ⟨s, rfl, rfl, hI⟩
      · skip
        exact absurd (by rw [nI_toInt (by omega)]; omega) h5
    · skip
      refine r_ald0 (pc := 0) dX0_person_0 ?_
      refine r_ild1 (pc := 1) dX0_person_1 ?_
      refine r_cV (pc := 2) dX0_person_2 cv_X0_161 (hS.k (c := 0) ow_0 kd_0) (ct_X0_isPerson W S) rfl rfl (Nat.le_of_ble_eq_true rfl) (by first | decide | omega) ?_
      rintro _ _ ⟨rfl, rfl⟩
      first | refine r_if_neZ (pc := 5) (tgt := 10) dX0_person_5 (by decide) (fun h5 => ?_) (fun h5 => ?_) | refine r_if_neN (pc := 5) (tgt := 10) dX0_person_5 (by decide) (by omega) (fun h5 => ?_) (fun h5 => ?_) | refine r_if_ne (pc := 5) (tgt := 10) dX0_person_5 (by decide) (fun h5 => ?_) (fun h5 => ?_)
      · skip
        refine r_ild2 (pc := 10) dX0_person_10 ?_
        refine r_tableIn (pc := 11) (tgt := 62) (off := 51) dX0_person_11 (by decide) (by decide) rfl (by decide) ?_
        refine r_ald0 (pc := 62) dX0_person_62 ?_
        refine x_getR (c := 0) hS ow_0 kd_0 (pc := 63) dX0_person_63 fl_X0_69 (fx_0_9 hX) ?_
        refine x_getRN (c := 12) hS (st_ow isS_12) (st_kd isS_12) (pc := 66) dX0_person_66 (fn_X0_174 hg) (fs_4 hX isS_12) ?_
        refine r_ild1 (pc := 69) dX0_person_69 ?_
        refine x_iald (c := (12 + 2)) hS (st_ow2 isS_12) (st_kd2 isS_12) (st_ln2 isS_12) (pc := 70) dX0_person_70 (by omega) (by omega) ?_
        refine Bd.eqI (hN.2.2.2.1 p hp1) ?_
        refine r_iret (pc := 71) dX0_person_71 ?_
        exact ⟨s, rfl, rfl, hI⟩
      · skip
        exact absurd (by rw [nI_toInt (by omega)]; omega) h5
    · skip
      refine r_ald0 (pc := 0) dX0_person_0 ?_
      refine r_ild1 (pc := 1) dX0_person_1 ?_
      refine r_cV (pc := 2) dX0_person_2 cv_X0_161 (hS.k (c := 0) ow_0 kd_0) (ct_X0_isPerson W S) rfl rfl (Nat.le_of_ble_eq_true rfl) (by first | decide | omega) ?_
      rintro _ _ ⟨rfl, rfl⟩
      first | refine r_if_neZ (pc := 5) (tgt := 10) dX0_person_5 (by decide) (fun h5 => ?_) (fun h5 => ?_) | refine r_if_neN (pc := 5) (tgt := 10) dX0_person_5 (by decide) (by omega) (fun h5 => ?_) (fun h5 => ?_) | refine r_if_ne (pc := 5) (tgt := 10) dX0_person_5 (by decide) (fun h5 => ?_) (fun h5 => ?_)
      · skip
        refine r_ild2 (pc := 10) dX0_person_10 ?_
        refine r_tableIn (pc := 11) (tgt := 72) (off := 61) dX0_person_11 (by decide) (by decide) rfl (by decide) ?_
        refine r_ald0 (pc := 72) dX0_person_72 ?_
        refine x_getR (c := 0) hS ow_0 kd_0 (pc := 73) dX0_person_73 fl_X0_69 (fx_0_9 hX) ?_
        refine x_getRN (c := 12) hS (st_ow isS_12) (st_kd isS_12) (pc := 76) dX0_person_76 (fn_X0_210 hg) (fs_5 hX isS_12) ?_
        refine r_ild1 (pc := 79) dX0_person_79 ?_
        refine x_iald (c := (12 + 3)) hS (st_ow3 isS_12) (st_kd3 isS_12) (st_ln3 isS_12) (pc := 80) dX0_person_80 (by omega) (by omega) ?_
        refine Bd.eqI (hN.2.2.2.2.1 p hp1) ?_
        refine r_iret (pc := 81) dX0_person_81 ?_
        exact ⟨s, rfl, rfl, hI⟩
      · skip
        exact absurd (by rw [nI_toInt (by omega)]; omega) h5
    · skip
      refine r_ald0 (pc := 0) dX0_person_0 ?_
      refine r_ild1 (pc := 1) dX0_person_1 ?_
      refine r_cV (pc := 2) dX0_person_2 cv_X0_161 (hS.k (c := 0) ow_0 kd_0) (ct_X0_isPerson W S) rfl rfl (Nat.le_of_ble_eq_true rfl) (by first | decide | omega) ?_
      rintro _ _ ⟨rfl, rfl⟩
      first | refine r_if_neZ (pc := 5) (tgt := 10) dX0_person_5 (by decide) (fun h5 => ?_) (fun h5 => ?_) | refine r_if_neN (pc := 5) (tgt := 10) dX0_person_5 (by decide) (by omega) (fun h5 => ?_) (fun h5 => ?_) | refine r_if_ne (pc := 5) (tgt := 10) dX0_person_5 (by decide) (fun h5 => ?_) (fun h5 => ?_)
      · skip
        refine r_ild2 (pc := 10) dX0_person_10 ?_
        refine r_tableIn (pc := 11) (tgt := 82) (off := 71) dX0_person_11 (by decide) (by decide) rfl (by decide) ?_
        refine r_ald0 (pc := 82) dX0_person_82 ?_
        refine x_getR (c := 0) hS ow_0 kd_0 (pc := 83) dX0_person_83 fl_X0_69 (fx_0_9 hX) ?_
        refine x_getRN (c := 12) hS (st_ow isS_12) (st_kd isS_12) (pc := 86) dX0_person_86 (fn_X0_213 hg) (fs_6 hX isS_12) ?_
        refine r_ild1 (pc := 89) dX0_person_89 ?_
        refine x_iald (c := (12 + 4)) hS (st_ow4 isS_12) (st_kd4 isS_12) (st_ln4 isS_12) (pc := 90) dX0_person_90 (by omega) (by omega) ?_
        refine Bd.eqI (hN.2.2.2.2.2.1 p hp1) ?_
        refine r_iret (pc := 91) dX0_person_91 ?_
        exact ⟨s, rfl, rfl, hI⟩
      · skip
        exact absurd (by rw [nI_toInt (by omega)]; omega) h5
    · skip
      refine r_ald0 (pc := 0) dX0_person_0 ?_
      refine r_ild1 (pc := 1) dX0_person_1 ?_
      refine r_cV (pc := 2) dX0_person_2 cv_X0_161 (hS.k (c := 0) ow_0 kd_0) (ct_X0_isPerson W S) rfl rfl (Nat.le_of_ble_eq_true rfl) (by first | decide | omega) ?_
      rintro _ _ ⟨rfl, rfl⟩
      first | refine r_if_neZ (pc := 5) (tgt := 10) dX0_person_5 (by decide) (fun h5 => ?_) (fun h5 => ?_) | refine r_if_neN (pc := 5) (tgt := 10) dX0_person_5 (by decide) (by omega) (fun h5 => ?_) (fun h5 => ?_) | refine r_if_ne (pc := 5) (tgt := 10) dX0_person_5 (by decide) (fun h5 => ?_) (fun h5 => ?_)
      · skip
        refine r_ild2 (pc := 10) dX0_person_10 ?_
        refine r_tableIn (pc := 11) (tgt := 92) (off := 81) dX0_person_11 (by decide) (by decide) rfl (by decide) ?_
        refine r_ald0 (pc := 92) dX0_person_92 ?_
        refine x_getR (c := 0) hS ow_0 kd_0 (pc := 93) dX0_person_93 fl_X0_69 (fx_0_9 hX) ?_
        refine x_getRN (c := 12) hS (st_ow isS_12) (st_kd isS_12) (pc := 96) dX0_person_96 (fn_X0_177 hg) (fs_7 hX isS_12) ?_
        refine r_ild1 (pc := 99) dX0_person_99 ?_
        refine x_zald (c := (12 + 5)) hS (st_ow5 isS_12) (st_kd5 isS_12) (st_ln5 isS_12) (pc := 100) dX0_person_100 (by omega) (by omega) ?_
        refine Bd.eqI (hN.2.2.2.2.2.2.1 p hp1) ?_
        first | refine r_if_eqZ (pc := 101) (tgt := 108) dX0_person_101 (by decide) (fun h101 => ?_) (fun h101 => ?_) | refine r_if_eqN (pc := 101) (tgt := 108) dX0_person_101 (by decide) (by omega) (fun h101 => ?_) (fun h101 => ?_) | refine r_if_eq (pc := 101) (tgt := 108) dX0_person_101 (by decide) (fun h101 => ?_) (fun h101 => ?_)
        · skip
          have hq : sp (gS q) p = 0 := by have := (hB.2 p hp1).2.2.1; omega
          refine r_iconst (v := nI 0) (pc := 108) dX0_person_108 (by decide) ?_
          refine r_iret (pc := 109) dX0_person_109 ?_
          exact ⟨s, rfl, by first | (show _ = some (Value.int (nI (sp (gS q) p))); rw [hq]) | (show _ = some (Value.int (nI (sp (gS q) p))); rw [h101]), hI⟩
        · skip
          refine r_iconst (v := nI 1) (pc := 104) dX0_person_104 (by decide) ?_
          refine r_goto (pc := 105) (tgt := 109) dX0_person_105 (by decide) ?_
          refine r_iret (pc := 109) dX0_person_109 ?_
          exact ⟨s, rfl, by first | (show _ = some (Value.int (nI (sp (gS q) p))); rw [hq]) | (show _ = some (Value.int (nI (sp (gS q) p))); rw [h101]), hI⟩
      · skip
        exact absurd (by rw [nI_toInt (by omega)]; omega) h5
    · skip
      refine r_ald0 (pc := 0) dX0_person_0 ?_
      refine r_ild1 (pc := 1) dX0_person_1 ?_
      refine r_cV (pc := 2) dX0_person_2 cv_X0_161 (hS.k (c := 0) ow_0 kd_0) (ct_X0_isPerson W S) rfl rfl (Nat.le_of_ble_eq_true rfl) (by first | decide | omega) ?_
      rintro _ _ ⟨rfl, rfl⟩
      first | refine r_if_neZ (pc := 5) (tgt := 10) dX0_person_5 (by decide) (fun h5 => ?_) (fun h5 => ?_) | refine r_if_neN (pc := 5) (tgt := 10) dX0_person_5 (by decide) (by omega) (fun h5 => ?_) (fun h5 => ?_) | refine r_if_ne (pc := 5) (tgt := 10) dX0_person_5 (by decide) (fun h5 => ?_) (fun h5 => ?_)
      · skip
        refine r_ild2 (pc := 10) dX0_person_10 ?_
        refine r_tableIn (pc := 11) (tgt := 110) (off := 99) dX0_person_11 (by decide) (by decide) rfl (by decide) ?_
        refine r_ald0 (pc := 110) dX0_person_110 ?_
        refine x_getR (c := 0) hS ow_0 kd_0 (pc := 111) dX0_person_111 fl_X0_69 (fx_0_9 hX) ?_
        refine r_ild1 (pc := 114) dX0_person_114 ?_
        refine r_iconst (v := nI 0) (pc := 115) dX0_person_115 (by decide) ?_
        refine r_cV (pc := 116) dX0_person_116 cv_X0_215 (hS.k (c := 12) (st_ow isS_12) (st_kd isS_12)) (ct_X5_beside hS hX isS_12 hN hB hn8 hp1 (by decide)) rfl rfl (Nat.le_of_ble_eq_true rfl) (by first | decide | omega) ?_
        rintro _ _ ⟨rfl, rfl⟩
        refine r_iret (pc := 119) dX0_person_119 ?_
        exact ⟨s, rfl, rfl, hI⟩
      · skip
        exact absurd (by rw [nI_toInt (by omega)]; omega) h5
    · skip
      refine r_ald0 (pc := 0) dX0_person_0 ?_
      refine r_ild1 (pc := 1) dX0_person_1 ?_
      refine r_cV (pc := 2) dX0_person_2 cv_X0_161 (hS.k (c := 0) ow_0 kd_0) (ct_X0_isPerson W S) rfl rfl (Nat.le_of_ble_eq_true rfl) (by first | decide | omega) ?_
      rintro _ _ ⟨rfl, rfl⟩
      first | refine r_if_neZ (pc := 5) (tgt := 10) dX0_person_5 (by decide) (fun h5 => ?_) (fun h5 => ?_) | refine r_if_neN (pc := 5) (tgt := 10) dX0_person_5 (by decide) (by omega) (fun h5 => ?_) (fun h5 => ?_) | refine r_if_ne (pc := 5) (tgt := 10) dX0_person_5 (by decide) (fun h5 => ?_) (fun h5 => ?_)
      · skip
        refine r_ild2 (pc := 10) dX0_person_10 ?_
        refine r_tableIn (pc := 11) (tgt := 120) (off := 109) dX0_person_11 (by decide) (by decide) rfl (by decide) ?_
        refine r_ald0 (pc := 120) dX0_person_120 ?_
        refine x_getR (c := 0) hS ow_0 kd_0 (pc := 121) dX0_person_121 fl_X0_69 (fx_0_9 hX) ?_
        refine r_ild1 (pc := 124) dX0_person_124 ?_
        refine r_iconst (v := nI 1) (pc := 125) dX0_person_125 (by decide) ?_
        refine r_cV (pc := 126) dX0_person_126 cv_X0_215 (hS.k (c := 12) (st_ow isS_12) (st_kd isS_12)) (ct_X5_beside hS hX isS_12 hN hB hn8 hp1 (by decide)) rfl rfl (Nat.le_of_ble_eq_true rfl) (by first | decide | omega) ?_
        rintro _ _ ⟨rfl, rfl⟩
        refine r_iret (pc := 129) dX0_person_129 ?_
        exact ⟨s, rfl, rfl, hI⟩
      · skip
        exact absurd (by rw [nI_toInt (by omega)]; omega) h5
theorem px_thinks {x y : Int32} (hI : IX g M o P ta s q) (hG : GI q) : Ct g yX0_thinks cX0_thinks 3 (some Jvm.ClassFile.FieldType.int) 6 0 0 [.ref o, .int x, .int y] (putX M o s) (QI g M o P ta q (.int (thinksS q x y))) noX := by
  have W := hI.W
  have S := hI.So
  have hg := W.gx
  have hS := W.S
  have hX := W.X
  have hTB := W.B
  have hn8 := hTB.1
  have hH9 := hTB.2.1
  have hN := hI.nw.1
  have hR := hI.nw.2
  have hB : SB (tn (gT q)) (gS q) := hG.2.2.2.2.2.1.1
  refine Ct.of (by decide) (Nat.le_of_ble_eq_true rfl) rfl ?_
  unfold thinksS
  cases hp : twoS (tn (gT q)) x y with
  | none =>
    have hp : ¬ ∃ z, twoS (tn (gT q)) x y = some z := by rw [hp]; rintro ⟨z, h⟩; cases h
    rw [twoS_iff (by omega)] at hp
    refine r_ald0 (pc := 0) dX0_thinks_0 ?_
    refine r_ild1 (pc := 1) dX0_thinks_1 ?_
    refine r_ild2 (pc := 2) dX0_thinks_2 ?_
    refine r_cV (pc := 3) dX0_thinks_3 cv_X0_219 (hS.k (c := 0) ow_0 kd_0) (ct_X0_areTwo W S) rfl rfl (Nat.le_of_ble_eq_true rfl) (by first | decide | omega) ?_
    rintro _ _ ⟨rfl, rfl⟩
    first | refine r_if_eqZ (pc := 6) (tgt := 23) dX0_thinks_6 (by decide) (fun h6 => ?_) (fun h6 => ?_) | refine r_if_eqN (pc := 6) (tgt := 23) dX0_thinks_6 (by decide) (by omega) (fun h6 => ?_) (fun h6 => ?_) | refine r_if_eq (pc := 6) (tgt := 23) dX0_thinks_6 (by decide) (fun h6 => ?_) (fun h6 => ?_)
    · skip
      refine r_iconst (v := -1) (pc := 23) dX0_thinks_23 (by decide) ?_
      refine r_iret (pc := 24) dX0_thinks_24 ?_
      exact ⟨s, rfl, rfl, hI⟩
    · skip
      exact absurd h6 hp
  | some z =>
    obtain ⟨h1, h2, h3, h4, h5⟩ := twoS_some hp
    have hp : ∃ z, twoS (tn (gT q)) x y = some z := ⟨z, hp⟩
    rw [twoS_iff (by omega)] at hp
    subst h4
    subst h5
    refine r_ald0 (pc := 0) dX0_thinks_0 ?_
    refine r_ild1 (pc := 1) dX0_thinks_1 ?_
    refine r_ild2 (pc := 2) dX0_thinks_2 ?_
    refine r_cV (pc := 3) dX0_thinks_3 cv_X0_219 (hS.k (c := 0) ow_0 kd_0) (ct_X0_areTwo W S) rfl rfl (Nat.le_of_ble_eq_true rfl) (by first | decide | omega) ?_
    rintro _ _ ⟨rfl, rfl⟩
    first | refine r_if_eqZ (pc := 6) (tgt := 23) dX0_thinks_6 (by decide) (fun h6 => ?_) (fun h6 => ?_) | refine r_if_eqN (pc := 6) (tgt := 23) dX0_thinks_6 (by decide) (by omega) (fun h6 => ?_) (fun h6 => ?_) | refine r_if_eq (pc := 6) (tgt := 23) dX0_thinks_6 (by decide) (fun h6 => ?_) (fun h6 => ?_)
    · skip
      exact absurd hp h6
    · skip
      refine r_ald0 (pc := 9) dX0_thinks_9 ?_
      refine x_getR (c := 0) hS ow_0 kd_0 (pc := 10) dX0_thinks_10 fl_X0_69 (fx_0_9 hX) ?_
      refine x_getRN (c := 12) hS (st_ow isS_12) (st_kd isS_12) (pc := 13) dX0_thinks_13 (fn_X0_223 hg) (fs_8 hX isS_12) ?_
      refine r_ild1 (pc := 16) dX0_thinks_16 ?_
      refine x_aald (c := (12 + 6)) (j := z.1) hS (st_ow6 isS_12) (st_kd6 isS_12) (by decide) (st_ln6 isS_12) (pc := 17) dX0_thinks_17 (by omega) (by omega) (fs_th hX isS_12 (by omega)) ?_
      refine r_ild2 (pc := 18) dX0_thinks_18 ?_
      refine x_iald (c := (12 + (7 + z.1))) hS (th_ow isS_12 (by omega)) (th_kd isS_12 (by omega)) (th_ln isS_12 (by omega)) (pc := 19) dX0_thinks_19 (by omega) (by omega) ?_
      refine Bd.eqI (hN.2.2.2.2.2.2.2 z.1 h1 z.2 h2) ?_
      refine r_goto (pc := 20) (tgt := 24) dX0_thinks_20 (by decide) ?_
      refine r_iret (pc := 24) dX0_thinks_24 ?_
      exact ⟨s, rfl, rfl, hI⟩
theorem px_paints {x y : Int32} (hI : IX g M o P ta s q) (hG : GI q) : Ct g yX0_paints cX0_paints 3 (some Jvm.ClassFile.FieldType.int) 431 0 0 [.ref o, .int x, .int y] (putX M o s) (QI g M o P ta q (.int (paintsS q x y))) noX := by
  have W := hI.W
  have S := hI.So
  have hg := W.gx
  have hS := W.S
  have hX := W.X
  have hTB := W.B
  have hn8 := hTB.1
  have hH9 := hTB.2.1
  have hN := hI.nw.1
  have hR := hI.nw.2
  have hB : SB (tn (gT q)) (gS q) := hG.2.2.2.2.2.1.1
  refine Ct.of (by decide) (Nat.le_of_ble_eq_true rfl) rfl ?_
  unfold paintsS
  cases hp : pidx x (tn (gT q)) with
  | none =>
    have hp := pidx_none hp
    refine r_ald0 (pc := 0) dX0_paints_0 ?_
    refine r_ild1 (pc := 1) dX0_paints_1 ?_
    refine r_cV (pc := 2) dX0_paints_2 cv_X0_161 (hS.k (c := 0) ow_0 kd_0) (ct_X0_isPerson W S) rfl rfl (Nat.le_of_ble_eq_true rfl) (by first | decide | omega) ?_
    rintro _ _ ⟨rfl, rfl⟩
    first | refine r_if_eqZ (pc := 5) (tgt := 30) dX0_paints_5 (by decide) (fun h5 => ?_) (fun h5 => ?_) | refine r_if_eqN (pc := 5) (tgt := 30) dX0_paints_5 (by decide) (by omega) (fun h5 => ?_) (fun h5 => ?_) | refine r_if_eq (pc := 5) (tgt := 30) dX0_paints_5 (by decide) (fun h5 => ?_) (fun h5 => ?_)
    · skip
      refine r_iconst (v := -1) (pc := 30) dX0_paints_30 (by decide) ?_
      refine r_iret (pc := 31) dX0_paints_31 ?_
      exact ⟨s, rfl, rfl, hI⟩
    · skip
      exact absurd h5 hp
  | some p =>
    obtain ⟨hp1, rfl⟩ := pidx_some hp
    cases hk : pidx y 2 with
    | none =>
      have hk := pidx_none hk
      refine r_ald0 (pc := 0) dX0_paints_0 ?_
      refine r_ild1 (pc := 1) dX0_paints_1 ?_
      refine r_cV (pc := 2) dX0_paints_2 cv_X0_161 (hS.k (c := 0) ow_0 kd_0) (ct_X0_isPerson W S) rfl rfl (Nat.le_of_ble_eq_true rfl) (by first | decide | omega) ?_
      rintro _ _ ⟨rfl, rfl⟩
      first | refine r_if_eqZ (pc := 5) (tgt := 30) dX0_paints_5 (by decide) (fun h5 => ?_) (fun h5 => ?_) | refine r_if_eqN (pc := 5) (tgt := 30) dX0_paints_5 (by decide) (by omega) (fun h5 => ?_) (fun h5 => ?_) | refine r_if_eq (pc := 5) (tgt := 30) dX0_paints_5 (by decide) (fun h5 => ?_) (fun h5 => ?_)
      · skip
        exact absurd (by rw [nI_toInt (by omega)]; omega) h5
      · skip
        refine r_ild2 (pc := 8) dX0_paints_8 ?_
        refine r_iconst (v := nI 0) (pc := 9) dX0_paints_9 (by decide) ?_
        refine r_iconst (v := nI 1) (pc := 10) dX0_paints_10 (by decide) ?_
        refine r_cS (pc := 11) dX0_paints_11 cs_X0_190 (ct_X0_is (v := y) (a := nI 0) (b := nI 1)) rfl rfl (Nat.le_of_ble_eq_true rfl) (by first | decide | omega) ?_
        rintro _ _ ⟨rfl, rfl⟩
        rw [nI_toInt (n := 0) (by decide), nI_toInt (n := 1) (by decide)]
        first | refine r_if_eqZ (pc := 14) (tgt := 30) dX0_paints_14 (by decide) (fun h14 => ?_) (fun h14 => ?_) | refine r_if_eqN (pc := 14) (tgt := 30) dX0_paints_14 (by decide) (by omega) (fun h14 => ?_) (fun h14 => ?_) | refine r_if_eq (pc := 14) (tgt := 30) dX0_paints_14 (by decide) (fun h14 => ?_) (fun h14 => ?_)
        · skip
          refine r_iconst (v := -1) (pc := 30) dX0_paints_30 (by decide) ?_
          refine r_iret (pc := 31) dX0_paints_31 ?_
          exact ⟨s, rfl, rfl, hI⟩
        · skip
          exact absurd h14 (by omega)
    | some e =>
      obtain ⟨he1, rfl⟩ := pidx_some hk
      cases hw : nb (gS q) (tn (gT q)) p e with
      | none =>
        refine r_ald0 (pc := 0) dX0_paints_0 ?_
        refine r_ild1 (pc := 1) dX0_paints_1 ?_
        refine r_cV (pc := 2) dX0_paints_2 cv_X0_161 (hS.k (c := 0) ow_0 kd_0) (ct_X0_isPerson W S) rfl rfl (Nat.le_of_ble_eq_true rfl) (by first | decide | omega) ?_
        rintro _ _ ⟨rfl, rfl⟩
        first | refine r_if_eqZ (pc := 5) (tgt := 30) dX0_paints_5 (by decide) (fun h5 => ?_) (fun h5 => ?_) | refine r_if_eqN (pc := 5) (tgt := 30) dX0_paints_5 (by decide) (by omega) (fun h5 => ?_) (fun h5 => ?_) | refine r_if_eq (pc := 5) (tgt := 30) dX0_paints_5 (by decide) (fun h5 => ?_) (fun h5 => ?_)
        · skip
          exact absurd (by rw [nI_toInt (by omega)]; omega) h5
        · skip
          refine r_ild2 (pc := 8) dX0_paints_8 ?_
          refine r_iconst (v := nI 0) (pc := 9) dX0_paints_9 (by decide) ?_
          refine r_iconst (v := nI 1) (pc := 10) dX0_paints_10 (by decide) ?_
          refine r_cS (pc := 11) dX0_paints_11 cs_X0_190 (ct_X0_is (v := nI e) (a := nI 0) (b := nI 1)) rfl rfl (Nat.le_of_ble_eq_true rfl) (by first | decide | omega) ?_
          rintro _ _ ⟨rfl, rfl⟩
          rw [nI_toInt (n := 0) (by decide), nI_toInt (n := 1) (by decide), nI_toInt (n := e) (by omega)]
          first | refine r_if_eqZ (pc := 14) (tgt := 30) dX0_paints_14 (by decide) (fun h14 => ?_) (fun h14 => ?_) | refine r_if_eqN (pc := 14) (tgt := 30) dX0_paints_14 (by decide) (by omega) (fun h14 => ?_) (fun h14 => ?_) | refine r_if_eq (pc := 14) (tgt := 30) dX0_paints_14 (by decide) (fun h14 => ?_) (fun h14 => ?_)
          · skip
            exact absurd (by omega) h14
          · skip
            refine r_ald0 (pc := 17) dX0_paints_17 ?_
            refine x_getR (c := 0) hS ow_0 kd_0 (pc := 18) dX0_paints_18 fl_X0_69 (fx_0_9 hX) ?_
            refine r_ild1 (pc := 21) dX0_paints_21 ?_
            refine r_ild2 (pc := 22) dX0_paints_22 ?_
            refine r_cV (pc := 23) dX0_paints_23 cv_X0_215 (hS.k (c := 12) (st_ow isS_12) (st_kd isS_12)) (ct_X5_beside hS hX isS_12 hN hB hn8 hp1 he1) rfl rfl (Nat.le_of_ble_eq_true rfl) (by first | decide | omega) ?_
            rintro _ _ ⟨rfl, rfl⟩
            rw [hw, oI_none]
            refine r_iconst (v := -1) (pc := 26) dX0_paints_26 (by decide) ?_
            first | refine r_icmp_neN (pc := 27) (tgt := 32) dX0_paints_27 (by decide) (by omega) (by omega) (fun h27 => ?_) (fun h27 => ?_) | refine r_icmp_ne (pc := 27) (tgt := 32) dX0_paints_27 (by decide) (fun h27 => ?_) (fun h27 => ?_)
            · skip
              exact absurd rfl h27
            · skip
              refine r_iconst (v := -1) (pc := 30) dX0_paints_30 (by decide) ?_
              refine r_iret (pc := 31) dX0_paints_31 ?_
              exact ⟨s, rfl, by simp only [hw], hI⟩
      | some w =>
        have hw1 := nb_lt hw
        refine r_ald0 (pc := 0) dX0_paints_0 ?_
        refine r_ild1 (pc := 1) dX0_paints_1 ?_
        refine r_cV (pc := 2) dX0_paints_2 cv_X0_161 (hS.k (c := 0) ow_0 kd_0) (ct_X0_isPerson W S) rfl rfl (Nat.le_of_ble_eq_true rfl) (by first | decide | omega) ?_
        rintro _ _ ⟨rfl, rfl⟩
        first | refine r_if_eqZ (pc := 5) (tgt := 30) dX0_paints_5 (by decide) (fun h5 => ?_) (fun h5 => ?_) | refine r_if_eqN (pc := 5) (tgt := 30) dX0_paints_5 (by decide) (by omega) (fun h5 => ?_) (fun h5 => ?_) | refine r_if_eq (pc := 5) (tgt := 30) dX0_paints_5 (by decide) (fun h5 => ?_) (fun h5 => ?_)
        · skip
          exact absurd (by rw [nI_toInt (by omega)]; omega) h5
        · skip
          refine r_ild2 (pc := 8) dX0_paints_8 ?_
          refine r_iconst (v := nI 0) (pc := 9) dX0_paints_9 (by decide) ?_
          refine r_iconst (v := nI 1) (pc := 10) dX0_paints_10 (by decide) ?_
          refine r_cS (pc := 11) dX0_paints_11 cs_X0_190 (ct_X0_is (v := nI e) (a := nI 0) (b := nI 1)) rfl rfl (Nat.le_of_ble_eq_true rfl) (by first | decide | omega) ?_
          rintro _ _ ⟨rfl, rfl⟩
          rw [nI_toInt (n := 0) (by decide), nI_toInt (n := 1) (by decide), nI_toInt (n := e) (by omega)]
          first | refine r_if_eqZ (pc := 14) (tgt := 30) dX0_paints_14 (by decide) (fun h14 => ?_) (fun h14 => ?_) | refine r_if_eqN (pc := 14) (tgt := 30) dX0_paints_14 (by decide) (by omega) (fun h14 => ?_) (fun h14 => ?_) | refine r_if_eq (pc := 14) (tgt := 30) dX0_paints_14 (by decide) (fun h14 => ?_) (fun h14 => ?_)
          · skip
            exact absurd (by omega) h14
          · skip
            refine r_ald0 (pc := 17) dX0_paints_17 ?_
            refine x_getR (c := 0) hS ow_0 kd_0 (pc := 18) dX0_paints_18 fl_X0_69 (fx_0_9 hX) ?_
            refine r_ild1 (pc := 21) dX0_paints_21 ?_
            refine r_ild2 (pc := 22) dX0_paints_22 ?_
            refine r_cV (pc := 23) dX0_paints_23 cv_X0_215 (hS.k (c := 12) (st_ow isS_12) (st_kd isS_12)) (ct_X5_beside hS hX isS_12 hN hB hn8 hp1 he1) rfl rfl (Nat.le_of_ble_eq_true rfl) (by first | decide | omega) ?_
            rintro _ _ ⟨rfl, rfl⟩
            rw [hw, oI_some]
            refine r_iconst (v := -1) (pc := 26) dX0_paints_26 (by decide) ?_
            first | refine r_icmp_neN (pc := 27) (tgt := 32) dX0_paints_27 (by decide) (by omega) (by omega) (fun h27 => ?_) (fun h27 => ?_) | refine r_icmp_ne (pc := 27) (tgt := 32) dX0_paints_27 (by decide) (fun h27 => ?_) (fun h27 => ?_)
            · skip
              refine r_ald0 (pc := 32) dX0_paints_32 ?_
              refine x_getR (c := 0) hS ow_0 kd_0 (pc := 33) dX0_paints_33 fl_X0_69 (fx_0_9 hX) ?_
              refine r_ild1 (pc := 36) dX0_paints_36 ?_
              refine r_ald0 (pc := 37) dX0_paints_37 ?_
              refine x_getR (c := 0) hS ow_0 kd_0 (pc := 38) dX0_paints_38 fl_X0_69 (fx_0_9 hX) ?_
              refine r_ild1 (pc := 41) dX0_paints_41 ?_
              refine r_ild2 (pc := 42) dX0_paints_42 ?_
              refine r_cV (pc := 43) dX0_paints_43 cv_X0_215 (hS.k (c := 12) (st_ow isS_12) (st_kd isS_12)) (ct_X5_beside hS hX isS_12 hN hB hn8 hp1 he1) rfl rfl (Nat.le_of_ble_eq_true rfl) (by first | decide | omega) ?_
              rintro _ _ ⟨rfl, rfl⟩
              rw [hw, oI_some]
              refine r_ild2 (pc := 46) dX0_paints_46 ?_
              refine r_cV (pc := 47) dX0_paints_47 cv_X0_226 (hS.k (c := 12) (st_ow isS_12) (st_kd isS_12)) (ct_X5_paints W isS_12 hN hB hp1 hw1 he1) rfl rfl (Nat.le_of_ble_eq_true rfl) (by first | decide | omega) ?_
              rintro _ _ ⟨s1, rfl, rfl, hM1⟩
              refine r_iret (pc := 50) dX0_paints_50 ?_
              exact ⟨s1, rfl, by simp only [hw], hM1.I hI hG⟩
            · skip
              exact absurd h27 (nI_m1 (by omega))
theorem px_feud {x : Int32} (hI : IX g M o P ta s q) (hG : GI q) : Ct g yX0_feud cX0_feud 2 (some Jvm.ClassFile.FieldType.int) 431 0 0 [.ref o, .int x] (putX M o s) (QI g M o P ta q (.int (feudQ q x))) noX := by
  have W := hI.W
  have S := hI.So
  have hg := W.gx
  have hS := W.S
  have hX := W.X
  have hTB := W.B
  have hn8 := hTB.1
  have hH9 := hTB.2.1
  have hN := hI.nw.1
  have hR := hI.nw.2
  have hB : SB (tn (gT q)) (gS q) := hG.2.2.2.2.2.1.1
  refine Ct.of (by decide) (Nat.le_of_ble_eq_true rfl) rfl ?_
  unfold feudQ
  cases hp : pidx x (tH (gT q)) with
  | none =>
    have hp := pidx_none hp
    refine r_ald0 (pc := 0) dX0_feud_0 ?_
    refine r_ild1 (pc := 1) dX0_feud_1 ?_
    refine r_cV (pc := 2) dX0_feud_2 cv_X0_201 (hS.k (c := 0) ow_0 kd_0) (ct_X0_isHouse W) rfl rfl (Nat.le_of_ble_eq_true rfl) (by first | decide | omega) ?_
    rintro _ _ ⟨rfl, rfl⟩
    first | refine r_if_eqZ (pc := 5) (tgt := 53) dX0_feud_5 (by decide) (fun h5 => ?_) (fun h5 => ?_) | refine r_if_eqN (pc := 5) (tgt := 53) dX0_feud_5 (by decide) (by omega) (fun h5 => ?_) (fun h5 => ?_) | refine r_if_eq (pc := 5) (tgt := 53) dX0_feud_5 (by decide) (fun h5 => ?_) (fun h5 => ?_)
    · skip
      refine r_iconst (v := -1) (pc := 53) dX0_feud_53 (by decide) ?_
      refine r_iret (pc := 54) dX0_feud_54 ?_
      exact ⟨s, rfl, rfl, hI⟩
    · skip
      exact absurd h5 hp
  | some h =>
    obtain ⟨hh, rfl⟩ := pidx_some hp
    cases e1 : who (gS q) (tn (gT q)) h with
    | none =>
      have h0 : feudAtS (gT q) (gS q) h = none := by unfold feudAtS; rw [e1]
      simp only [h0]
      refine r_ald0 (pc := 0) dX0_feud_0 ?_
      refine r_ild1 (pc := 1) dX0_feud_1 ?_
      refine r_cV (pc := 2) dX0_feud_2 cv_X0_201 (hS.k (c := 0) ow_0 kd_0) (ct_X0_isHouse W) rfl rfl (Nat.le_of_ble_eq_true rfl) (by first | decide | omega) ?_
      rintro _ _ ⟨rfl, rfl⟩
      first | refine r_if_eqZ (pc := 5) (tgt := 53) dX0_feud_5 (by decide) (fun h5 => ?_) (fun h5 => ?_) | refine r_if_eqN (pc := 5) (tgt := 53) dX0_feud_5 (by decide) (by omega) (fun h5 => ?_) (fun h5 => ?_) | refine r_if_eq (pc := 5) (tgt := 53) dX0_feud_5 (by decide) (fun h5 => ?_) (fun h5 => ?_)
      · skip
        exact absurd (by rw [nI_toInt (by omega)]; omega) h5
      · skip
        refine r_ald0 (pc := 8) dX0_feud_8 ?_
        refine x_getR (c := 0) hS ow_0 kd_0 (pc := 9) dX0_feud_9 fl_X0_69 (fx_0_9 hX) ?_
        refine r_ild1 (pc := 12) dX0_feud_12 ?_
        refine r_cV (pc := 13) dX0_feud_13 cv_X0_204 (hS.k (c := 12) (st_ow isS_12) (st_kd isS_12)) (ct_X5_who hS hX isS_12 hN hB hn8 (by omega)) rfl rfl (Nat.le_of_ble_eq_true rfl) (by first | decide | omega) ?_
        rintro _ _ ⟨rfl, rfl⟩
        rw [e1, oI_none]
        refine r_iconst (v := -1) (pc := 16) dX0_feud_16 (by decide) ?_
        first | refine r_icmp_eqN (pc := 17) (tgt := 53) dX0_feud_17 (by decide) (by omega) (by omega) (fun h17 => ?_) (fun h17 => ?_) | refine r_icmp_eq (pc := 17) (tgt := 53) dX0_feud_17 (by decide) (fun h17 => ?_) (fun h17 => ?_)
        · skip
          refine r_iconst (v := -1) (pc := 53) dX0_feud_53 (by decide) ?_
          refine r_iret (pc := 54) dX0_feud_54 ?_
          exact ⟨s, rfl, rfl, hI⟩
        · skip
          exact absurd rfl h17
    | some a =>
      have ha := who_lt e1
      cases e2 : who (gS q) (tn (gT q)) (h + 1) with
      | none =>
        have h0 : feudAtS (gT q) (gS q) h = none := by unfold feudAtS; rw [e1, e2]
        simp only [h0]
        refine r_ald0 (pc := 0) dX0_feud_0 ?_
        refine r_ild1 (pc := 1) dX0_feud_1 ?_
        refine r_cV (pc := 2) dX0_feud_2 cv_X0_201 (hS.k (c := 0) ow_0 kd_0) (ct_X0_isHouse W) rfl rfl (Nat.le_of_ble_eq_true rfl) (by first | decide | omega) ?_
        rintro _ _ ⟨rfl, rfl⟩
        first | refine r_if_eqZ (pc := 5) (tgt := 53) dX0_feud_5 (by decide) (fun h5 => ?_) (fun h5 => ?_) | refine r_if_eqN (pc := 5) (tgt := 53) dX0_feud_5 (by decide) (by omega) (fun h5 => ?_) (fun h5 => ?_) | refine r_if_eq (pc := 5) (tgt := 53) dX0_feud_5 (by decide) (fun h5 => ?_) (fun h5 => ?_)
        · skip
          exact absurd (by rw [nI_toInt (by omega)]; omega) h5
        · skip
          refine r_ald0 (pc := 8) dX0_feud_8 ?_
          refine x_getR (c := 0) hS ow_0 kd_0 (pc := 9) dX0_feud_9 fl_X0_69 (fx_0_9 hX) ?_
          refine r_ild1 (pc := 12) dX0_feud_12 ?_
          refine r_cV (pc := 13) dX0_feud_13 cv_X0_204 (hS.k (c := 12) (st_ow isS_12) (st_kd isS_12)) (ct_X5_who hS hX isS_12 hN hB hn8 (by omega)) rfl rfl (Nat.le_of_ble_eq_true rfl) (by first | decide | omega) ?_
          rintro _ _ ⟨rfl, rfl⟩
          rw [e1, oI_some]
          refine r_iconst (v := -1) (pc := 16) dX0_feud_16 (by decide) ?_
          first | refine r_icmp_eqN (pc := 17) (tgt := 53) dX0_feud_17 (by decide) (by omega) (by omega) (fun h17 => ?_) (fun h17 => ?_) | refine r_icmp_eq (pc := 17) (tgt := 53) dX0_feud_17 (by decide) (fun h17 => ?_) (fun h17 => ?_)
          · skip
            exact absurd h17 (nI_m1 (by omega))
          · skip
            refine r_ald0 (pc := 20) dX0_feud_20 ?_
            refine x_getR (c := 0) hS ow_0 kd_0 (pc := 21) dX0_feud_21 fl_X0_69 (fx_0_9 hX) ?_
            refine r_ild1 (pc := 24) dX0_feud_24 ?_
            refine r_iconst (v := nI 1) (pc := 25) dX0_feud_25 (by decide) ?_
            first | refine r_iaddN (pc := 26) dX0_feud_26 ?_ | refine r_iaddJ (pc := 26) dX0_feud_26 ?_ | refine r_iadd (pc := 26) dX0_feud_26 ?_
            refine r_cV (pc := 27) dX0_feud_27 cv_X0_204 (hS.k (c := 12) (st_ow isS_12) (st_kd isS_12)) (ct_X5_who hS hX isS_12 hN hB hn8 (by omega)) rfl rfl (Nat.le_of_ble_eq_true rfl) (by first | decide | omega) ?_
            rintro _ _ ⟨rfl, rfl⟩
            rw [e2, oI_none]
            refine r_iconst (v := -1) (pc := 30) dX0_feud_30 (by decide) ?_
            first | refine r_icmp_eqN (pc := 31) (tgt := 53) dX0_feud_31 (by decide) (by omega) (by omega) (fun h31 => ?_) (fun h31 => ?_) | refine r_icmp_eq (pc := 31) (tgt := 53) dX0_feud_31 (by decide) (fun h31 => ?_) (fun h31 => ?_)
            · skip
              refine r_iconst (v := -1) (pc := 53) dX0_feud_53 (by decide) ?_
              refine r_iret (pc := 54) dX0_feud_54 ?_
              exact ⟨s, rfl, rfl, hI⟩
            · skip
              exact absurd rfl h31
      | some b =>
        have hb := who_lt e2
        have h0 : feudAtS (gT q) (gS q) h = some (feudS (gT q) (gS q) a b) := by unfold feudAtS; rw [e1, e2]
        refine r_ald0 (pc := 0) dX0_feud_0 ?_
        refine r_ild1 (pc := 1) dX0_feud_1 ?_
        refine r_cV (pc := 2) dX0_feud_2 cv_X0_201 (hS.k (c := 0) ow_0 kd_0) (ct_X0_isHouse W) rfl rfl (Nat.le_of_ble_eq_true rfl) (by first | decide | omega) ?_
        rintro _ _ ⟨rfl, rfl⟩
        first | refine r_if_eqZ (pc := 5) (tgt := 53) dX0_feud_5 (by decide) (fun h5 => ?_) (fun h5 => ?_) | refine r_if_eqN (pc := 5) (tgt := 53) dX0_feud_5 (by decide) (by omega) (fun h5 => ?_) (fun h5 => ?_) | refine r_if_eq (pc := 5) (tgt := 53) dX0_feud_5 (by decide) (fun h5 => ?_) (fun h5 => ?_)
        · skip
          exact absurd (by rw [nI_toInt (by omega)]; omega) h5
        · skip
          refine r_ald0 (pc := 8) dX0_feud_8 ?_
          refine x_getR (c := 0) hS ow_0 kd_0 (pc := 9) dX0_feud_9 fl_X0_69 (fx_0_9 hX) ?_
          refine r_ild1 (pc := 12) dX0_feud_12 ?_
          refine r_cV (pc := 13) dX0_feud_13 cv_X0_204 (hS.k (c := 12) (st_ow isS_12) (st_kd isS_12)) (ct_X5_who hS hX isS_12 hN hB hn8 (by omega)) rfl rfl (Nat.le_of_ble_eq_true rfl) (by first | decide | omega) ?_
          rintro _ _ ⟨rfl, rfl⟩
          rw [e1, oI_some]
          refine r_iconst (v := -1) (pc := 16) dX0_feud_16 (by decide) ?_
          first | refine r_icmp_eqN (pc := 17) (tgt := 53) dX0_feud_17 (by decide) (by omega) (by omega) (fun h17 => ?_) (fun h17 => ?_) | refine r_icmp_eq (pc := 17) (tgt := 53) dX0_feud_17 (by decide) (fun h17 => ?_) (fun h17 => ?_)
          · skip
            exact absurd h17 (nI_m1 (by omega))
          · skip
            refine r_ald0 (pc := 20) dX0_feud_20 ?_
            refine x_getR (c := 0) hS ow_0 kd_0 (pc := 21) dX0_feud_21 fl_X0_69 (fx_0_9 hX) ?_
            refine r_ild1 (pc := 24) dX0_feud_24 ?_
            refine r_iconst (v := nI 1) (pc := 25) dX0_feud_25 (by decide) ?_
            first | refine r_iaddN (pc := 26) dX0_feud_26 ?_ | refine r_iaddJ (pc := 26) dX0_feud_26 ?_ | refine r_iadd (pc := 26) dX0_feud_26 ?_
            refine r_cV (pc := 27) dX0_feud_27 cv_X0_204 (hS.k (c := 12) (st_ow isS_12) (st_kd isS_12)) (ct_X5_who hS hX isS_12 hN hB hn8 (by omega)) rfl rfl (Nat.le_of_ble_eq_true rfl) (by first | decide | omega) ?_
            rintro _ _ ⟨rfl, rfl⟩
            rw [e2, oI_some]
            refine r_iconst (v := -1) (pc := 30) dX0_feud_30 (by decide) ?_
            first | refine r_icmp_eqN (pc := 31) (tgt := 53) dX0_feud_31 (by decide) (by omega) (by omega) (fun h31 => ?_) (fun h31 => ?_) | refine r_icmp_eq (pc := 31) (tgt := 53) dX0_feud_31 (by decide) (fun h31 => ?_) (fun h31 => ?_)
            · skip
              exact absurd h31 (nI_m1 (by omega))
            · skip
              refine r_ald0 (pc := 34) dX0_feud_34 ?_
              refine x_getR (c := 0) hS ow_0 kd_0 (pc := 35) dX0_feud_35 fl_X0_69 (fx_0_9 hX) ?_
              refine r_ild1 (pc := 38) dX0_feud_38 ?_
              refine r_cV (pc := 39) dX0_feud_39 cv_X0_181 (hS.k (c := 12) (st_ow isS_12) (st_kd isS_12)) (ct_X5_feud W isS_12 hN hB (by omega)) rfl rfl (Nat.le_of_ble_eq_true rfl) (by first | decide | omega) ?_
              rintro _ _ ⟨s1, rfl, rfl, hM1⟩
              first | refine r_if_eqZ (pc := 42) (tgt := 49) dX0_feud_42 (by decide) (fun h42 => ?_) (fun h42 => ?_) | refine r_if_eqN (pc := 42) (tgt := 49) dX0_feud_42 (by decide) (by omega) (fun h42 => ?_) (fun h42 => ?_) | refine r_if_eq (pc := 42) (tgt := 49) dX0_feud_42 (by decide) (fun h42 => ?_) (fun h42 => ?_)
              · skip
                have hz : fI (feudAtS (gT q) (gS q) h) = 0 := by rw [h0] at h42 ⊢; cases hf : feudS (gT q) (gS q) a b <;> first | rfl | (rw [hf] at h42; exact absurd rfl h42)
                refine r_iconst (v := nI 0) (pc := 49) dX0_feud_49 (by decide) ?_
                refine r_goto (pc := 50) (tgt := 54) dX0_feud_50 (by decide) ?_
                refine r_iret (pc := 54) dX0_feud_54 ?_
                exact ⟨s1, rfl, by simp only [hz]; rfl, hM1.I hI hG⟩
              · skip
                have hz : fI (feudAtS (gT q) (gS q) h) = 1 := by rw [h42]; rfl
                refine r_iconst (v := nI 1) (pc := 45) dX0_feud_45 (by decide) ?_
                refine r_goto (pc := 46) (tgt := 54) dX0_feud_46 (by decide) ?_
                refine r_iret (pc := 54) dX0_feud_54 ?_
                exact ⟨s1, rfl, by simp only [hz]; rfl, hM1.I hI hG⟩
theorem px_kept {x y : Int32} (hI : IX g M o P ta s q) (hG : GI q) : Ct g yX0_kept cX0_kept 3 (some Jvm.ClassFile.FieldType.int) 1 0 0 [.ref o, .int x, .int y] (putX M o s) (QI g M o P ta q (.int (keptS q x y))) noX := by
  have W := hI.W
  have S := hI.So
  have hg := W.gx
  have hS := W.S
  have hX := W.X
  have hTB := W.B
  have hn8 := hTB.1
  have hH9 := hTB.2.1
  have hN := hI.nw.1
  have hR := hI.nw.2
  have hB : SB (tn (gT q)) (gS q) := hG.2.2.2.2.2.1.1
  obtain ⟨pm, hpm, hkn, hk40, hkE⟩ := hR
  refine Ct.of (by decide) (Nat.le_of_ble_eq_true rfl) rfl ?_
  unfold keptS
  have his : ∀ x : Int32, (iI (((gK q).length : Nat) - (1 : Nat) : Int)).toInt = ((gK q).length : Int) - 1 := fun _ => iI_T (by constructor <;> omega)
  cases hp : pidx x (gK q).length with
  | none =>
    have hp := pidx_none hp
    refine r_ild1 (pc := 0) dX0_kept_0 ?_
    refine r_iconst (v := nI 0) (pc := 1) dX0_kept_1 (by decide) ?_
    refine r_ald0 (pc := 2) dX0_kept_2 ?_
    refine x_getR (c := 0) hS ow_0 kd_0 (pc := 3) dX0_kept_3 fl_X0_69 (fx_0_9 hX) ?_
    refine x_getIN (c := 12) hS (st_ow isS_12) (st_kd isS_12) (pc := 6) dX0_kept_6 (fn_X0_187 hg) ?_
    rw [hkn]
    refine r_iconst (v := nI 1) (pc := 9) dX0_kept_9 (by decide) ?_
    refine r_isubM (pc := 10) dX0_kept_10 ?_
    refine r_cS (pc := 11) dX0_kept_11 cs_X0_190 (ct_X0_is (v := x) (a := nI 0)) rfl rfl (Nat.le_of_ble_eq_true rfl) (by first | decide | omega) ?_
    rintro _ _ ⟨rfl, rfl⟩
    rw [nI_toInt (n := 0) (by decide), his x]
    first | refine r_if_eqZ (pc := 14) (tgt := 40) dX0_kept_14 (by decide) (fun h14 => ?_) (fun h14 => ?_) | refine r_if_eqN (pc := 14) (tgt := 40) dX0_kept_14 (by decide) (by omega) (fun h14 => ?_) (fun h14 => ?_) | refine r_if_eq (pc := 14) (tgt := 40) dX0_kept_14 (by decide) (fun h14 => ?_) (fun h14 => ?_)
    · skip
      refine r_iconst (v := -1) (pc := 40) dX0_kept_40 (by decide) ?_
      refine r_iret (pc := 41) dX0_kept_41 ?_
      exact ⟨s, rfl, rfl, hI⟩
    · skip
      exact absurd h14 (by omega)
  | some i =>
    obtain ⟨hi, rfl⟩ := pidx_some hp
    cases hk : pidx y 3 with
    | none =>
      have hk := pidx_none hk
      refine r_ild1 (pc := 0) dX0_kept_0 ?_
      refine r_iconst (v := nI 0) (pc := 1) dX0_kept_1 (by decide) ?_
      refine r_ald0 (pc := 2) dX0_kept_2 ?_
      refine x_getR (c := 0) hS ow_0 kd_0 (pc := 3) dX0_kept_3 fl_X0_69 (fx_0_9 hX) ?_
      refine x_getIN (c := 12) hS (st_ow isS_12) (st_kd isS_12) (pc := 6) dX0_kept_6 (fn_X0_187 hg) ?_
      rw [hkn]
      refine r_iconst (v := nI 1) (pc := 9) dX0_kept_9 (by decide) ?_
      refine r_isubM (pc := 10) dX0_kept_10 ?_
      refine r_cS (pc := 11) dX0_kept_11 cs_X0_190 (ct_X0_is (v := nI i) (a := nI 0)) rfl rfl (Nat.le_of_ble_eq_true rfl) (by first | decide | omega) ?_
      rintro _ _ ⟨rfl, rfl⟩
      rw [nI_toInt (n := 0) (by decide), his 0, nI_toInt (n := i) (by omega)]
      first | refine r_if_eqZ (pc := 14) (tgt := 40) dX0_kept_14 (by decide) (fun h14 => ?_) (fun h14 => ?_) | refine r_if_eqN (pc := 14) (tgt := 40) dX0_kept_14 (by decide) (by omega) (fun h14 => ?_) (fun h14 => ?_) | refine r_if_eq (pc := 14) (tgt := 40) dX0_kept_14 (by decide) (fun h14 => ?_) (fun h14 => ?_)
      · skip
        exact absurd (by omega) h14
      · skip
        refine r_ild2 (pc := 17) dX0_kept_17 ?_
        refine r_iconst (v := nI 0) (pc := 18) dX0_kept_18 (by decide) ?_
        refine r_iconst (v := nI 2) (pc := 19) dX0_kept_19 (by decide) ?_
        refine r_cS (pc := 20) dX0_kept_20 cs_X0_190 (ct_X0_is (v := y) (a := nI 0) (b := nI 2)) rfl rfl (Nat.le_of_ble_eq_true rfl) (by first | decide | omega) ?_
        rintro _ _ ⟨rfl, rfl⟩
        rw [nI_toInt (n := 0) (by decide), nI_toInt (n := 2) (by decide)]
        first | refine r_if_eqZ (pc := 23) (tgt := 40) dX0_kept_23 (by decide) (fun h23 => ?_) (fun h23 => ?_) | refine r_if_eqN (pc := 23) (tgt := 40) dX0_kept_23 (by decide) (by omega) (fun h23 => ?_) (fun h23 => ?_) | refine r_if_eq (pc := 23) (tgt := 40) dX0_kept_23 (by decide) (fun h23 => ?_) (fun h23 => ?_)
        · skip
          refine r_iconst (v := -1) (pc := 40) dX0_kept_40 (by decide) ?_
          refine r_iret (pc := 41) dX0_kept_41 ?_
          exact ⟨s, rfl, rfl, hI⟩
        · skip
          exact absurd h23 (by omega)
    | some k =>
      obtain ⟨hk1, rfl⟩ := pidx_some hk
      obtain ⟨⟨a, c, e⟩, hL⟩ : ∃ x : Ev, (gK q)[i]? = some x := ⟨_, List.getElem?_eq_getElem hi⟩
      obtain ⟨z1, z2⟩ := hpm.1 i (by omega)
      obtain ⟨y1, y2, y3⟩ := hkE i a c e hL
      have hans : iX s (12 + (16 + pm i)) k = (if k = 0 then nI a else if k = 1 then nI c else nI e) := by
        have : k = 0 ∨ k = 1 ∨ k = 2 := by omega
        rcases this with rfl | rfl | rfl
        · exact y1
        · exact y2
        · exact y3
      refine r_ild1 (pc := 0) dX0_kept_0 ?_
      refine r_iconst (v := nI 0) (pc := 1) dX0_kept_1 (by decide) ?_
      refine r_ald0 (pc := 2) dX0_kept_2 ?_
      refine x_getR (c := 0) hS ow_0 kd_0 (pc := 3) dX0_kept_3 fl_X0_69 (fx_0_9 hX) ?_
      refine x_getIN (c := 12) hS (st_ow isS_12) (st_kd isS_12) (pc := 6) dX0_kept_6 (fn_X0_187 hg) ?_
      rw [hkn]
      refine r_iconst (v := nI 1) (pc := 9) dX0_kept_9 (by decide) ?_
      refine r_isubM (pc := 10) dX0_kept_10 ?_
      refine r_cS (pc := 11) dX0_kept_11 cs_X0_190 (ct_X0_is (v := nI i) (a := nI 0)) rfl rfl (Nat.le_of_ble_eq_true rfl) (by first | decide | omega) ?_
      rintro _ _ ⟨rfl, rfl⟩
      rw [nI_toInt (n := 0) (by decide), his 0, nI_toInt (n := i) (by omega)]
      first | refine r_if_eqZ (pc := 14) (tgt := 40) dX0_kept_14 (by decide) (fun h14 => ?_) (fun h14 => ?_) | refine r_if_eqN (pc := 14) (tgt := 40) dX0_kept_14 (by decide) (by omega) (fun h14 => ?_) (fun h14 => ?_) | refine r_if_eq (pc := 14) (tgt := 40) dX0_kept_14 (by decide) (fun h14 => ?_) (fun h14 => ?_)
      · skip
        exact absurd (by omega) h14
      · skip
        refine r_ild2 (pc := 17) dX0_kept_17 ?_
        refine r_iconst (v := nI 0) (pc := 18) dX0_kept_18 (by decide) ?_
        refine r_iconst (v := nI 2) (pc := 19) dX0_kept_19 (by decide) ?_
        refine r_cS (pc := 20) dX0_kept_20 cs_X0_190 (ct_X0_is (v := nI k) (a := nI 0) (b := nI 2)) rfl rfl (Nat.le_of_ble_eq_true rfl) (by first | decide | omega) ?_
        rintro _ _ ⟨rfl, rfl⟩
        rw [nI_toInt (n := 0) (by decide), nI_toInt (n := 2) (by decide), nI_toInt (n := k) (by omega)]
        first | refine r_if_eqZ (pc := 23) (tgt := 40) dX0_kept_23 (by decide) (fun h23 => ?_) (fun h23 => ?_) | refine r_if_eqN (pc := 23) (tgt := 40) dX0_kept_23 (by decide) (by omega) (fun h23 => ?_) (fun h23 => ?_) | refine r_if_eq (pc := 23) (tgt := 40) dX0_kept_23 (by decide) (fun h23 => ?_) (fun h23 => ?_)
        · skip
          exact absurd (by omega) h23
        · skip
          refine r_ald0 (pc := 26) dX0_kept_26 ?_
          refine x_getR (c := 0) hS ow_0 kd_0 (pc := 27) dX0_kept_27 fl_X0_69 (fx_0_9 hX) ?_
          refine x_getRN (c := 12) hS (st_ow isS_12) (st_kd isS_12) (pc := 30) dX0_kept_30 (fn_X0_230 hg) (fs_9 hX isS_12) ?_
          refine r_ild1 (pc := 33) dX0_kept_33 ?_
          refine x_aald (c := (12 + 15)) (j := i) hS (st_ow15 isS_12) (st_kd15 isS_12) (by decide) (st_ln15 isS_12) (pc := 34) dX0_kept_34 (by omega) (by omega) z2 ?_
          refine r_ild2 (pc := 35) dX0_kept_35 ?_
          refine x_iald (c := (12 + (16 + pm i))) hS (rw_ow isS_12 (by omega)) (rw_kd isS_12 (by omega)) (rw_ln isS_12 (by omega)) (pc := 36) dX0_kept_36 (by omega) (by omega) ?_
          refine Bd.eqI hans ?_
          refine r_goto (pc := 37) (tgt := 41) dX0_kept_37 (by decide) ?_
          refine r_iret (pc := 41) dX0_kept_41 ?_
          exact ⟨s, rfl, by simp only [hL], hI⟩
end X21
