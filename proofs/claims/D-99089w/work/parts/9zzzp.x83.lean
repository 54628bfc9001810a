set_option maxRecDepth 100000
/-! THE READER: which statement it is -/
section X83
variable {g : GC} {M : MM} {o n d kc ks zw p : Nat} {f : Nat → Nat} {w : List Nat} {Pz : Nat → Prop} {Q : Option Value → MM → Prop} {X : Nat → MM → Prop}
theorem off6 (x : Int) : Op.lookupswitch.offset [(-995683371, 89), (-874702399, 74), (3139470, 119), (3533120, 134), (3536371, 59), (103900769, 104)] 146 x = 146 ∨ Op.lookupswitch.offset [(-995683371, 89), (-874702399, 74), (3139470, 119), (3533120, 134), (3536371, 59), (103900769, 104)] 146 x = 59 ∨ Op.lookupswitch.offset [(-995683371, 89), (-874702399, 74), (3139470, 119), (3533120, 134), (3536371, 59), (103900769, 104)] 146 x = 74 ∨ Op.lookupswitch.offset [(-995683371, 89), (-874702399, 74), (3139470, 119), (3533120, 134), (3536371, 59), (103900769, 104)] 146 x = 89 ∨ Op.lookupswitch.offset [(-995683371, 89), (-874702399, 74), (3139470, 119), (3533120, 134), (3536371, 59), (103900769, 104)] 146 x = 104 ∨ Op.lookupswitch.offset [(-995683371, 89), (-874702399, 74), (3139470, 119), (3533120, 134), (3536371, 59), (103900769, 104)] 146 x = 119 ∨ Op.lookupswitch.offset [(-995683371, 89), (-874702399, 74), (3139470, 119), (3533120, 134), (3536371, 59), (103900769, 104)] 146 x = 134 := by
  simp only [Op.lookupswitch.offset]
  repeat' split
  all_goals simp
/-- the word at zw, its hash not asked yet -/
def WZ (g : GC) (M : MM) (Pz : Nat → Prop) (zw : Nat) (w : List Nat) : Prop := STR M Pz zw w ∧ gb g ≤ zw ∧ mI M zw 2 = nI 0 ∧ mI M zw 3 = nI 0 ∧ 0 < w.length
theorem skp_s {M1 : MM} {zt j : Nat} {x : Int32} {u : List Nat} (e1 : M1 = sI M zw j x) (t2 : SKP M o zt u) (e : zt ≠ zw) (hk : mK M zw = 42) : SKP M1 o zt u := by
  obtain ⟨k1, k2, k3, v, k4, k5, k6, k7, k8, k9, k10⟩ := t2
  have hv : v ≠ zw := fun q => by rw [q, hk] at k6; omega
  subst e1
  exact ⟨k1, k2, (mI_sIa e).trans k3, v, k4, k5, k6, k7, fun j hj => (mI_sIa hv).trans (k8 j hj), k9, k10⟩
theorem told_Soul (W : RW g M o n f) (hw : WZ g M Pz zw wSoul) (hoz : o + 6 < zw) (hd : 20 ≤ d) (K : ∀ j x, 2 ≤ j → Bd g yX2_told cX2_told 7 none [] d kc ks (sI M zw j x) 196 [some (.ref (o + 5)), none, some (.int (nI p)), none, none, none, none] [] Q X) : Bd g yX2_told cX2_told 7 none [] d kc ks M 0 [some (.ref (o + 5)), some (.ref zw), some (.int (nI p)), none, none, none, none] [] Q X := by
  have hc := W.c
  have h := W.1
  obtain ⟨w1, w2, w3, w4, w5⟩ := hw
  obtain ⟨zt, t1, t2⟩ := W.tx (e := (172, "soul", wSoul)) (by decide)
  refine r_ald1 (pc := 0) dX2_told_0 ?_
  refine r_ast3 (pc := 1) dX2_told_1 ?_
  refine r_iconst (v := -1) (pc := 2) dX2_told_2 (by decide) ?_
  refine r_ist4 (pc := 3) dX2_told_3 ?_
  refine r_ald3 (pc := 5) dX2_told_5 ?_
  refine r_cV (ci := 22) (pc := 6) dX2_told_6 cv_X2_169 w1.k (ct_J6_hashCode hc w1 w2 w3 w4 w5) rfl rfl (Nat.le_of_ble_eq_true rfl) (by omega) ?_
  rintro _ M1 ⟨rfl, j, x, hj, e1⟩
  have w6 : STR M1 Pz zw wSoul := by rw [e1]; exact w1.hs hj
  have t3 : SKP M1 o zt wSoul := by
    by_cases e : zt = zw
    · rw [e1]; rw [e] at t2 ⊢; exact STR.hs t2 hj
    · exact skp_s e1 t2 e w1.k
  refine r_lookup (pc := 9) (tgt := 68) (off := 59) dX2_told_9 (by decide) (by decide +kernel) (by decide) ?_
  · skip
    refine r_ald3 (pc := 68) dX2_told_68 ?_
    refine r_ldcS (pc := 69) (tx := "soul") dX2_told_69 t1 ?_
    refine r_cV (ci := 22) (pc := 71) dX2_told_71 cv_X2_74 w6.k (ct_J6_equals hc w6 t3) rfl rfl (Nat.le_of_ble_eq_true rfl) (by omega) ?_
    rintro _ M8 ⟨rfl, e8⟩
    rw [e8]
    first | refine r_if_eqZ (pc := 74) (tgt := 155) dX2_told_74 (by decide) (fun h74 => ?_) (fun h74 => ?_) | refine r_if_eqN (pc := 74) (tgt := 155) dX2_told_74 (by decide) (by omega) (fun h74 => ?_) (fun h74 => ?_) | refine r_if_eq (pc := 74) (tgt := 155) dX2_told_74 (by decide) (fun h74 => ?_) (fun h74 => ?_)
    · skip
      exact absurd rfl h74
    · skip
      refine r_iconst (v := nI 0) (pc := 77) dX2_told_77 (by decide) ?_
      refine r_ist4 (pc := 78) dX2_told_78 ?_
      refine r_goto (pc := 80) (tgt := 155) dX2_told_80 (by decide) ?_
      refine r_ild4 (pc := 155) dX2_told_155 ?_
      refine r_tableIn (pc := 157) (tgt := 196) (off := 39) dX2_told_157 (by decide) (by decide) rfl (by decide) ?_
      rw [e1]
      exact Bd.kill 1 (Bd.kill 3 (Bd.kill 4 (K j x hj)))
theorem told_Thinks (W : RW g M o n f) (hw : WZ g M Pz zw wThinks) (hoz : o + 6 < zw) (hd : 20 ≤ d) (K : ∀ j x, 2 ≤ j → Bd g yX2_told cX2_told 7 none [] d kc ks (sI M zw j x) 204 [some (.ref (o + 5)), none, some (.int (nI p)), none, none, none, none] [] Q X) : Bd g yX2_told cX2_told 7 none [] d kc ks M 0 [some (.ref (o + 5)), some (.ref zw), some (.int (nI p)), none, none, none, none] [] Q X := by
  have hc := W.c
  have h := W.1
  obtain ⟨w1, w2, w3, w4, w5⟩ := hw
  obtain ⟨zt, t1, t2⟩ := W.tx (e := (174, "thinks", wThinks)) (by decide)
  refine r_ald1 (pc := 0) dX2_told_0 ?_
  refine r_ast3 (pc := 1) dX2_told_1 ?_
  refine r_iconst (v := -1) (pc := 2) dX2_told_2 (by decide) ?_
  refine r_ist4 (pc := 3) dX2_told_3 ?_
  refine r_ald3 (pc := 5) dX2_told_5 ?_
  refine r_cV (ci := 22) (pc := 6) dX2_told_6 cv_X2_169 w1.k (ct_J6_hashCode hc w1 w2 w3 w4 w5) rfl rfl (Nat.le_of_ble_eq_true rfl) (by omega) ?_
  rintro _ M1 ⟨rfl, j, x, hj, e1⟩
  have w6 : STR M1 Pz zw wThinks := by rw [e1]; exact w1.hs hj
  have t3 : SKP M1 o zt wThinks := by
    by_cases e : zt = zw
    · rw [e1]; rw [e] at t2 ⊢; exact STR.hs t2 hj
    · exact skp_s e1 t2 e w1.k
  refine r_lookup (pc := 9) (tgt := 83) (off := 74) dX2_told_9 (by decide) (by decide +kernel) (by decide) ?_
  · skip
    refine r_ald3 (pc := 83) dX2_told_83 ?_
    refine r_ldcS (pc := 84) (tx := "thinks") dX2_told_84 t1 ?_
    refine r_cV (ci := 22) (pc := 86) dX2_told_86 cv_X2_74 w6.k (ct_J6_equals hc w6 t3) rfl rfl (Nat.le_of_ble_eq_true rfl) (by omega) ?_
    rintro _ M8 ⟨rfl, e8⟩
    rw [e8]
    first | refine r_if_eqZ (pc := 89) (tgt := 155) dX2_told_89 (by decide) (fun h89 => ?_) (fun h89 => ?_) | refine r_if_eqN (pc := 89) (tgt := 155) dX2_told_89 (by decide) (by omega) (fun h89 => ?_) (fun h89 => ?_) | refine r_if_eq (pc := 89) (tgt := 155) dX2_told_89 (by decide) (fun h89 => ?_) (fun h89 => ?_)
    · skip
      exact absurd rfl h89
    · skip
      refine r_iconst (v := nI 1) (pc := 92) dX2_told_92 (by decide) ?_
      refine r_ist4 (pc := 93) dX2_told_93 ?_
      refine r_goto (pc := 95) (tgt := 155) dX2_told_95 (by decide) ?_
      refine r_ild4 (pc := 155) dX2_told_155 ?_
      refine r_tableIn (pc := 157) (tgt := 204) (off := 47) dX2_told_157 (by decide) (by decide) rfl (by decide) ?_
      rw [e1]
      exact Bd.kill 1 (Bd.kill 3 (Bd.kill 4 (K j x hj)))
theorem told_Paints (W : RW g M o n f) (hw : WZ g M Pz zw wPaints) (hoz : o + 6 < zw) (hd : 20 ≤ d) (K : ∀ j x, 2 ≤ j → Bd g yX2_told cX2_told 7 none [] d kc ks (sI M zw j x) 258 [some (.ref (o + 5)), none, some (.int (nI p)), none, none, none, none] [] Q X) : Bd g yX2_told cX2_told 7 none [] d kc ks M 0 [some (.ref (o + 5)), some (.ref zw), some (.int (nI p)), none, none, none, none] [] Q X := by
  have hc := W.c
  have h := W.1
  obtain ⟨w1, w2, w3, w4, w5⟩ := hw
  obtain ⟨zt, t1, t2⟩ := W.tx (e := (176, "paints", wPaints)) (by decide)
  refine r_ald1 (pc := 0) dX2_told_0 ?_
  refine r_ast3 (pc := 1) dX2_told_1 ?_
  refine r_iconst (v := -1) (pc := 2) dX2_told_2 (by decide) ?_
  refine r_ist4 (pc := 3) dX2_told_3 ?_
  refine r_ald3 (pc := 5) dX2_told_5 ?_
  refine r_cV (ci := 22) (pc := 6) dX2_told_6 cv_X2_169 w1.k (ct_J6_hashCode hc w1 w2 w3 w4 w5) rfl rfl (Nat.le_of_ble_eq_true rfl) (by omega) ?_
  rintro _ M1 ⟨rfl, j, x, hj, e1⟩
  have w6 : STR M1 Pz zw wPaints := by rw [e1]; exact w1.hs hj
  have t3 : SKP M1 o zt wPaints := by
    by_cases e : zt = zw
    · rw [e1]; rw [e] at t2 ⊢; exact STR.hs t2 hj
    · exact skp_s e1 t2 e w1.k
  refine r_lookup (pc := 9) (tgt := 98) (off := 89) dX2_told_9 (by decide) (by decide +kernel) (by decide) ?_
  · skip
    refine r_ald3 (pc := 98) dX2_told_98 ?_
    refine r_ldcS (pc := 99) (tx := "paints") dX2_told_99 t1 ?_
    refine r_cV (ci := 22) (pc := 101) dX2_told_101 cv_X2_74 w6.k (ct_J6_equals hc w6 t3) rfl rfl (Nat.le_of_ble_eq_true rfl) (by omega) ?_
    rintro _ M8 ⟨rfl, e8⟩
    rw [e8]
    first | refine r_if_eqZ (pc := 104) (tgt := 155) dX2_told_104 (by decide) (fun h104 => ?_) (fun h104 => ?_) | refine r_if_eqN (pc := 104) (tgt := 155) dX2_told_104 (by decide) (by omega) (fun h104 => ?_) (fun h104 => ?_) | refine r_if_eq (pc := 104) (tgt := 155) dX2_told_104 (by decide) (fun h104 => ?_) (fun h104 => ?_)
    · skip
      exact absurd rfl h104
    · skip
      refine r_iconst (v := nI 2) (pc := 107) dX2_told_107 (by decide) ?_
      refine r_ist4 (pc := 108) dX2_told_108 ?_
      refine r_goto (pc := 110) (tgt := 155) dX2_told_110 (by decide) ?_
      refine r_ild4 (pc := 155) dX2_told_155 ?_
      refine r_tableIn (pc := 157) (tgt := 258) (off := 101) dX2_told_157 (by decide) (by decide) rfl (by decide) ?_
      rw [e1]
      exact Bd.kill 1 (Bd.kill 3 (Bd.kill 4 (K j x hj)))
theorem told_Minds (W : RW g M o n f) (hw : WZ g M Pz zw wMinds) (hoz : o + 6 < zw) (hd : 20 ≤ d) (K : ∀ j x, 2 ≤ j → Bd g yX2_told cX2_told 7 none [] d kc ks (sI M zw j x) 282 [some (.ref (o + 5)), none, some (.int (nI p)), none, none, none, none] [] Q X) : Bd g yX2_told cX2_told 7 none [] d kc ks M 0 [some (.ref (o + 5)), some (.ref zw), some (.int (nI p)), none, none, none, none] [] Q X := by
  have hc := W.c
  have h := W.1
  obtain ⟨w1, w2, w3, w4, w5⟩ := hw
  obtain ⟨zt, t1, t2⟩ := W.tx (e := (178, "minds", wMinds)) (by decide)
  refine r_ald1 (pc := 0) dX2_told_0 ?_
  refine r_ast3 (pc := 1) dX2_told_1 ?_
  refine r_iconst (v := -1) (pc := 2) dX2_told_2 (by decide) ?_
  refine r_ist4 (pc := 3) dX2_told_3 ?_
  refine r_ald3 (pc := 5) dX2_told_5 ?_
  refine r_cV (ci := 22) (pc := 6) dX2_told_6 cv_X2_169 w1.k (ct_J6_hashCode hc w1 w2 w3 w4 w5) rfl rfl (Nat.le_of_ble_eq_true rfl) (by omega) ?_
  rintro _ M1 ⟨rfl, j, x, hj, e1⟩
  have w6 : STR M1 Pz zw wMinds := by rw [e1]; exact w1.hs hj
  have t3 : SKP M1 o zt wMinds := by
    by_cases e : zt = zw
    · rw [e1]; rw [e] at t2 ⊢; exact STR.hs t2 hj
    · exact skp_s e1 t2 e w1.k
  refine r_lookup (pc := 9) (tgt := 113) (off := 104) dX2_told_9 (by decide) (by decide +kernel) (by decide) ?_
  · skip
    refine r_ald3 (pc := 113) dX2_told_113 ?_
    refine r_ldcS (pc := 114) (tx := "minds") dX2_told_114 t1 ?_
    refine r_cV (ci := 22) (pc := 116) dX2_told_116 cv_X2_74 w6.k (ct_J6_equals hc w6 t3) rfl rfl (Nat.le_of_ble_eq_true rfl) (by omega) ?_
    rintro _ M8 ⟨rfl, e8⟩
    rw [e8]
    first | refine r_if_eqZ (pc := 119) (tgt := 155) dX2_told_119 (by decide) (fun h119 => ?_) (fun h119 => ?_) | refine r_if_eqN (pc := 119) (tgt := 155) dX2_told_119 (by decide) (by omega) (fun h119 => ?_) (fun h119 => ?_) | refine r_if_eq (pc := 119) (tgt := 155) dX2_told_119 (by decide) (fun h119 => ?_) (fun h119 => ?_)
    · skip
      exact absurd rfl h119
    · skip
      refine r_iconst (v := nI 3) (pc := 122) dX2_told_122 (by decide) ?_
      refine r_ist4 (pc := 123) dX2_told_123 ?_
      refine r_goto (pc := 125) (tgt := 155) dX2_told_125 (by decide) ?_
      refine r_ild4 (pc := 155) dX2_told_155 ?_
      refine r_tableIn (pc := 157) (tgt := 282) (off := 125) dX2_told_157 (by decide) (by decide) rfl (by decide) ?_
      rw [e1]
      exact Bd.kill 1 (Bd.kill 3 (Bd.kill 4 (K j x hj)))
theorem told_Feud (W : RW g M o n f) (hw : WZ g M Pz zw wFeud) (hoz : o + 6 < zw) (hd : 20 ≤ d) (K : ∀ j x, 2 ≤ j → Bd g yX2_told cX2_told 7 none [] d kc ks (sI M zw j x) 306 [some (.ref (o + 5)), none, some (.int (nI p)), none, none, none, none] [] Q X) : Bd g yX2_told cX2_told 7 none [] d kc ks M 0 [some (.ref (o + 5)), some (.ref zw), some (.int (nI p)), none, none, none, none] [] Q X := by
  have hc := W.c
  have h := W.1
  obtain ⟨w1, w2, w3, w4, w5⟩ := hw
  obtain ⟨zt, t1, t2⟩ := W.tx (e := (180, "feud", wFeud)) (by decide)
  refine r_ald1 (pc := 0) dX2_told_0 ?_
  refine r_ast3 (pc := 1) dX2_told_1 ?_
  refine r_iconst (v := -1) (pc := 2) dX2_told_2 (by decide) ?_
  refine r_ist4 (pc := 3) dX2_told_3 ?_
  refine r_ald3 (pc := 5) dX2_told_5 ?_
  refine r_cV (ci := 22) (pc := 6) dX2_told_6 cv_X2_169 w1.k (ct_J6_hashCode hc w1 w2 w3 w4 w5) rfl rfl (Nat.le_of_ble_eq_true rfl) (by omega) ?_
  rintro _ M1 ⟨rfl, j, x, hj, e1⟩
  have w6 : STR M1 Pz zw wFeud := by rw [e1]; exact w1.hs hj
  have t3 : SKP M1 o zt wFeud := by
    by_cases e : zt = zw
    · rw [e1]; rw [e] at t2 ⊢; exact STR.hs t2 hj
    · exact skp_s e1 t2 e w1.k
  refine r_lookup (pc := 9) (tgt := 128) (off := 119) dX2_told_9 (by decide) (by decide +kernel) (by decide) ?_
  · skip
    refine r_ald3 (pc := 128) dX2_told_128 ?_
    refine r_ldcS (pc := 129) (tx := "feud") dX2_told_129 t1 ?_
    refine r_cV (ci := 22) (pc := 131) dX2_told_131 cv_X2_74 w6.k (ct_J6_equals hc w6 t3) rfl rfl (Nat.le_of_ble_eq_true rfl) (by omega) ?_
    rintro _ M8 ⟨rfl, e8⟩
    rw [e8]
    first | refine r_if_eqZ (pc := 134) (tgt := 155) dX2_told_134 (by decide) (fun h134 => ?_) (fun h134 => ?_) | refine r_if_eqN (pc := 134) (tgt := 155) dX2_told_134 (by decide) (by omega) (fun h134 => ?_) (fun h134 => ?_) | refine r_if_eq (pc := 134) (tgt := 155) dX2_told_134 (by decide) (fun h134 => ?_) (fun h134 => ?_)
    · skip
      exact absurd rfl h134
    · skip
      refine r_iconst (v := nI 4) (pc := 137) dX2_told_137 (by decide) ?_
      refine r_ist4 (pc := 138) dX2_told_138 ?_
      refine r_goto (pc := 140) (tgt := 155) dX2_told_140 (by decide) ?_
      refine r_ild4 (pc := 155) dX2_told_155 ?_
      refine r_tableIn (pc := 157) (tgt := 306) (off := 149) dX2_told_157 (by decide) (by decide) rfl (by decide) ?_
      rw [e1]
      exact Bd.kill 1 (Bd.kill 3 (Bd.kill 4 (K j x hj)))
theorem told_Slip (W : RW g M o n f) (hw : WZ g M Pz zw wSlip) (hoz : o + 6 < zw) (hd : 20 ≤ d) (K : ∀ j x, 2 ≤ j → Bd g yX2_told cX2_told 7 none [] d kc ks (sI M zw j x) 347 [some (.ref (o + 5)), none, some (.int (nI p)), none, none, none, none] [] Q X) : Bd g yX2_told cX2_told 7 none [] d kc ks M 0 [some (.ref (o + 5)), some (.ref zw), some (.int (nI p)), none, none, none, none] [] Q X := by
  have hc := W.c
  have h := W.1
  obtain ⟨w1, w2, w3, w4, w5⟩ := hw
  obtain ⟨zt, t1, t2⟩ := W.tx (e := (182, "slip", wSlip)) (by decide)
  refine r_ald1 (pc := 0) dX2_told_0 ?_
  refine r_ast3 (pc := 1) dX2_told_1 ?_
  refine r_iconst (v := -1) (pc := 2) dX2_told_2 (by decide) ?_
  refine r_ist4 (pc := 3) dX2_told_3 ?_
  refine r_ald3 (pc := 5) dX2_told_5 ?_
  refine r_cV (ci := 22) (pc := 6) dX2_told_6 cv_X2_169 w1.k (ct_J6_hashCode hc w1 w2 w3 w4 w5) rfl rfl (Nat.le_of_ble_eq_true rfl) (by omega) ?_
  rintro _ M1 ⟨rfl, j, x, hj, e1⟩
  have w6 : STR M1 Pz zw wSlip := by rw [e1]; exact w1.hs hj
  have t3 : SKP M1 o zt wSlip := by
    by_cases e : zt = zw
    · rw [e1]; rw [e] at t2 ⊢; exact STR.hs t2 hj
    · exact skp_s e1 t2 e w1.k
  refine r_lookup (pc := 9) (tgt := 143) (off := 134) dX2_told_9 (by decide) (by decide +kernel) (by decide) ?_
  · skip
    refine r_ald3 (pc := 143) dX2_told_143 ?_
    refine r_ldcS (pc := 144) (tx := "slip") dX2_told_144 t1 ?_
    refine r_cV (ci := 22) (pc := 146) dX2_told_146 cv_X2_74 w6.k (ct_J6_equals hc w6 t3) rfl rfl (Nat.le_of_ble_eq_true rfl) (by omega) ?_
    rintro _ M8 ⟨rfl, e8⟩
    rw [e8]
    first | refine r_if_eqZ (pc := 149) (tgt := 155) dX2_told_149 (by decide) (fun h149 => ?_) (fun h149 => ?_) | refine r_if_eqN (pc := 149) (tgt := 155) dX2_told_149 (by decide) (by omega) (fun h149 => ?_) (fun h149 => ?_) | refine r_if_eq (pc := 149) (tgt := 155) dX2_told_149 (by decide) (fun h149 => ?_) (fun h149 => ?_)
    · skip
      exact absurd rfl h149
    · skip
      refine r_iconst (v := nI 5) (pc := 152) dX2_told_152 (by decide) ?_
      refine r_ist4 (pc := 153) dX2_told_153 ?_
      refine r_ild4 (pc := 155) dX2_told_155 ?_
      refine r_tableIn (pc := 157) (tgt := 347) (off := 190) dX2_told_157 (by decide) (by decide) rfl (by decide) ?_
      rw [e1]
      exact Bd.kill 1 (Bd.kill 3 (Bd.kill 4 (K j x hj)))
theorem told_no (W : RW g M o n f) (hw : WZ g M Pz zw w) (hoz : o + 6 < zw) (hd : 20 ≤ d) (n0 : w ≠ wSoul) (n1 : w ≠ wThinks) (n2 : w ≠ wPaints) (n3 : w ≠ wMinds) (n4 : w ≠ wFeud) (n5 : w ≠ wSlip) (K : ∀ M1, RDF g M1 o n f → FM (fun c => c = zw) M M1 → X (o + 6) (flM M1 o 1 p)) : Bd g yX2_told cX2_told 7 none [] d kc ks M 0 [some (.ref (o + 5)), some (.ref zw), some (.int (nI p)), none, none, none, none] [] Q X := by
  have hc := W.c
  have h := W.1
  obtain ⟨w1, w2, w3, w4, w5⟩ := hw
  have hend : ∀ M1 v3, RDF g M1 o n f → FM (fun c => c = zw) M M1 → Bd g yX2_told cX2_told 7 none [] d kc ks M1 155 [some (.ref (o + 5)), some (.ref zw), some (.int (nI p)), v3, some (.int (-1)), none, none] [] Q X := by
    intro M1 v3 h1 f1
    have r71 := h1.2.2.2.2.2.2.2.1.1
    refine r_ild4 (pc := 155) dX2_told_155 ?_
    refine r_tableOut (pc := 157) (tgt := 364) dX2_told_157 (by first | decide | assumption) (by decide) ?_
    refine r_ald0 (pc := 364) dX2_told_364 ?_
    refine r_iconst (v := nI 1) (pc := 365) dX2_told_365 (by decide) ?_
    refine r_ild2 (pc := 366) dX2_told_366 ?_
    refine r_cV (ci := 2) (pc := 367) dX2_told_367 cv_X2_47 r71 (ct_X2_wrong (k := 1) h1) rfl rfl (Nat.le_of_ble_eq_true rfl) (by omega) ?_
    rintro _ M2 ⟨rfl, e9⟩
    rw [e9]
    exact r_athrow (pc := 370) dX2_told_370 h1.2.2.2.2.2.2.2.2.1 (K M1 h1 f1)
  have hsk : ∀ M1 j x (e : Nat × String × List Nat), e ∈ txT → 2 ≤ j → M1 = sI M zw j x → ∃ zt, NR g "Retouched$Reader" e.1 e.2.1 zt ∧ SKP M1 o zt e.2.2 := by
    intro M1 j x e he hj e1
    obtain ⟨zt, t1, t2⟩ := W.tx he
    refine ⟨zt, t1, ?_⟩
    by_cases e' : zt = zw
    · rw [e1]; rw [e'] at t2 ⊢; exact STR.hs t2 hj
    · exact skp_s e1 t2 e' w1.k
  have go : ∀ M1 j x, 2 ≤ j → M1 = sI M zw j x → Bd g yX2_told cX2_told 7 none [] d kc ks M1 9 [some (.ref (o + 5)), some (.ref zw), some (.int (nI p)), some (.ref zw), some (.int (-1)), none, none] [.int (hsW w)] Q X := by
    intro M1 j x hj e1
    have w6 : STR M1 Pz zw w := by rw [e1]; exact w1.hs hj
    have h1 : RDF g M1 o n f := by rw [e1]; exact (W.sm (M1 := sI M zw j x) (Nat.le_refl _) (fun c hc => Sm.sI (by omega))).1
    have f1 : FM (fun c => c = zw) M M1 := by rw [e1]; exact FM.sI fun _ => rfl
    rcases off6 (hsW w).toInt with ho | ho | ho | ho | ho | ho | ho
    · skip
      refine r_lookup (pc := 9) (tgt := 155) (off := 146) dX2_told_9 (by decide) ho (by decide) ?_
      · skip
        exact hend M1 _ h1 f1
    · obtain ⟨zt, t1, t2⟩ := hsk M1 j x (172, "soul", wSoul) (by decide) hj e1
      refine r_lookup (pc := 9) (tgt := 68) (off := 59) dX2_told_9 (by decide) ho (by decide) ?_
      · skip
        refine r_ald3 (pc := 68) dX2_told_68 ?_
        refine r_ldcS (pc := 69) (tx := "soul") dX2_told_69 t1 ?_
        refine r_cV (ci := 22) (pc := 71) dX2_told_71 cv_X2_74 w6.k (ct_J6_equals hc w6 t2) rfl rfl (Nat.le_of_ble_eq_true rfl) (by omega) ?_
        rintro _ M8 ⟨rfl, e8⟩
        rw [e8]
        first | refine r_if_eqZ (pc := 74) (tgt := 155) dX2_told_74 (by decide) (fun h74 => ?_) (fun h74 => ?_) | refine r_if_eqN (pc := 74) (tgt := 155) dX2_told_74 (by decide) (by omega) (fun h74 => ?_) (fun h74 => ?_) | refine r_if_eq (pc := 74) (tgt := 155) dX2_told_74 (by decide) (fun h74 => ?_) (fun h74 => ?_)
        · skip
          exact hend M1 _ h1 f1
        · skip
          exact absurd h74 n0
    · obtain ⟨zt, t1, t2⟩ := hsk M1 j x (174, "thinks", wThinks) (by decide) hj e1
      refine r_lookup (pc := 9) (tgt := 83) (off := 74) dX2_told_9 (by decide) ho (by decide) ?_
      · skip
        refine r_ald3 (pc := 83) dX2_told_83 ?_
        refine r_ldcS (pc := 84) (tx := "thinks") dX2_told_84 t1 ?_
        refine r_cV (ci := 22) (pc := 86) dX2_told_86 cv_X2_74 w6.k (ct_J6_equals hc w6 t2) rfl rfl (Nat.le_of_ble_eq_true rfl) (by omega) ?_
        rintro _ M8 ⟨rfl, e8⟩
        rw [e8]
        first | refine r_if_eqZ (pc := 89) (tgt := 155) dX2_told_89 (by decide) (fun h89 => ?_) (fun h89 => ?_) | refine r_if_eqN (pc := 89) (tgt := 155) dX2_told_89 (by decide) (by omega) (fun h89 => ?_) (fun h89 => ?_) | refine r_if_eq (pc := 89) (tgt := 155) dX2_told_89 (by decide) (fun h89 => ?_) (fun h89 => ?_)
        · skip
          exact hend M1 _ h1 f1
        · skip
          exact absurd h89 n1
    · obtain ⟨zt, t1, t2⟩ := hsk M1 j x (176, "paints", wPaints) (by decide) hj e1
      refine r_lookup (pc := 9) (tgt := 98) (off := 89) dX2_told_9 (by decide) ho (by decide) ?_
      · skip
        refine r_ald3 (pc := 98) dX2_told_98 ?_
        refine r_ldcS (pc := 99) (tx := "paints") dX2_told_99 t1 ?_
        refine r_cV (ci := 22) (pc := 101) dX2_told_101 cv_X2_74 w6.k (ct_J6_equals hc w6 t2) rfl rfl (Nat.le_of_ble_eq_true rfl) (by omega) ?_
        rintro _ M8 ⟨rfl, e8⟩
        rw [e8]
        first | refine r_if_eqZ (pc := 104) (tgt := 155) dX2_told_104 (by decide) (fun h104 => ?_) (fun h104 => ?_) | refine r_if_eqN (pc := 104) (tgt := 155) dX2_told_104 (by decide) (by omega) (fun h104 => ?_) (fun h104 => ?_) | refine r_if_eq (pc := 104) (tgt := 155) dX2_told_104 (by decide) (fun h104 => ?_) (fun h104 => ?_)
        · skip
          exact hend M1 _ h1 f1
        · skip
          exact absurd h104 n2
    · obtain ⟨zt, t1, t2⟩ := hsk M1 j x (178, "minds", wMinds) (by decide) hj e1
      refine r_lookup (pc := 9) (tgt := 113) (off := 104) dX2_told_9 (by decide) ho (by decide) ?_
      · skip
        refine r_ald3 (pc := 113) dX2_told_113 ?_
        refine r_ldcS (pc := 114) (tx := "minds") dX2_told_114 t1 ?_
        refine r_cV (ci := 22) (pc := 116) dX2_told_116 cv_X2_74 w6.k (ct_J6_equals hc w6 t2) rfl rfl (Nat.le_of_ble_eq_true rfl) (by omega) ?_
        rintro _ M8 ⟨rfl, e8⟩
        rw [e8]
        first | refine r_if_eqZ (pc := 119) (tgt := 155) dX2_told_119 (by decide) (fun h119 => ?_) (fun h119 => ?_) | refine r_if_eqN (pc := 119) (tgt := 155) dX2_told_119 (by decide) (by omega) (fun h119 => ?_) (fun h119 => ?_) | refine r_if_eq (pc := 119) (tgt := 155) dX2_told_119 (by decide) (fun h119 => ?_) (fun h119 => ?_)
        · skip
          exact hend M1 _ h1 f1
        · skip
          exact absurd h119 n3
    · obtain ⟨zt, t1, t2⟩ := hsk M1 j x (180, "feud", wFeud) (by decide) hj e1
      refine r_lookup (pc := 9) (tgt := 128) (off := 119) dX2_told_9 (by decide) ho (by decide) ?_
      · skip
        refine r_ald3 (pc := 128) dX2_told_128 ?_
        refine r_ldcS (pc := 129) (tx := "feud") dX2_told_129 t1 ?_
        refine r_cV (ci := 22) (pc := 131) dX2_told_131 cv_X2_74 w6.k (ct_J6_equals hc w6 t2) rfl rfl (Nat.le_of_ble_eq_true rfl) (by omega) ?_
        rintro _ M8 ⟨rfl, e8⟩
        rw [e8]
        first | refine r_if_eqZ (pc := 134) (tgt := 155) dX2_told_134 (by decide) (fun h134 => ?_) (fun h134 => ?_) | refine r_if_eqN (pc := 134) (tgt := 155) dX2_told_134 (by decide) (by omega) (fun h134 => ?_) (fun h134 => ?_) | refine r_if_eq (pc := 134) (tgt := 155) dX2_told_134 (by decide) (fun h134 => ?_) (fun h134 => ?_)
        · skip
          exact hend M1 _ h1 f1
        · skip
          exact absurd h134 n4
    · obtain ⟨zt, t1, t2⟩ := hsk M1 j x (182, "slip", wSlip) (by decide) hj e1
      refine r_lookup (pc := 9) (tgt := 143) (off := 134) dX2_told_9 (by decide) ho (by decide) ?_
      · skip
        refine r_ald3 (pc := 143) dX2_told_143 ?_
        refine r_ldcS (pc := 144) (tx := "slip") dX2_told_144 t1 ?_
        refine r_cV (ci := 22) (pc := 146) dX2_told_146 cv_X2_74 w6.k (ct_J6_equals hc w6 t2) rfl rfl (Nat.le_of_ble_eq_true rfl) (by omega) ?_
        rintro _ M8 ⟨rfl, e8⟩
        rw [e8]
        first | refine r_if_eqZ (pc := 149) (tgt := 155) dX2_told_149 (by decide) (fun h149 => ?_) (fun h149 => ?_) | refine r_if_eqN (pc := 149) (tgt := 155) dX2_told_149 (by decide) (by omega) (fun h149 => ?_) (fun h149 => ?_) | refine r_if_eq (pc := 149) (tgt := 155) dX2_told_149 (by decide) (fun h149 => ?_) (fun h149 => ?_)
        · skip
          exact hend M1 _ h1 f1
        · skip
          exact absurd h149 n5
  refine r_ald1 (pc := 0) dX2_told_0 ?_
  refine r_ast3 (pc := 1) dX2_told_1 ?_
  refine r_iconst (v := -1) (pc := 2) dX2_told_2 (by decide) ?_
  refine r_ist4 (pc := 3) dX2_told_3 ?_
  refine r_ald3 (pc := 5) dX2_told_5 ?_
  refine r_cV (ci := 22) (pc := 6) dX2_told_6 cv_X2_169 w1.k (ct_J6_hashCode hc w1 w2 w3 w4 w5) rfl rfl (Nat.le_of_ble_eq_true rfl) (by omega) ?_
  rintro _ M1 ⟨rfl, j, x, hj, e1⟩
  exact go M1 j x hj e1
end X83
