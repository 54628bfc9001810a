set_option maxRecDepth 100000
/-! RETOUCHED: what there is, what is ahead -/
section X22
variable {g : GC} {M : MM} {o ta : Nat} {P : Nat → Prop} {s : XS} {q : Sg}
theorem xcurtLoop {x : Int32} (hI : IX g M o P ta s q) (hG : GI q) : ∀ k i, i + k = tn (gT q) →
    Bd g yX0_has_2 cX0_has_2 4 (some Jvm.ClassFile.FieldType.int) [] 431 0 0 (putX M o s) 79 [some (.ref o), some (.int x), some (.int (nI (cnt (fun p => lk (gS q) p == 0) i))), some (.int (nI i))] [] (QI g M o P ta q (.int (nI (cnt (fun p => lk (gS q) p == 0) (tn (gT q)))))) noX := by
  have W := hI.W
  have S := hI.So
  have hg := W.gx
  have hS := W.S
  have hX := W.X
  have hTB := W.B
  have hn8 := hTB.1
  have hH9 := hTB.2.1
  have hN := hI.nw.1
  have hR := hI.nw.2
  have hB : SB (tn (gT q)) (gS q) := hG.2.2.2.2.2.1.1
  intro k
  induction k with
  | zero =>
    intro i hi
    obtain rfl : i = tn (gT q) := by omega
    refine r_ild3 (pc := 79) dX0_has_2_79 ?_
    refine r_ald0 (pc := 80) dX0_has_2_80 ?_
    refine r_cV (pc := 81) dX0_has_2_81 cv_X0_158 (hS.k (c := 0) ow_0 kd_0) (ct_X0_people W S) rfl rfl (Nat.le_of_ble_eq_true rfl) (by first | decide | omega) ?_
    rintro _ _ ⟨rfl, rfl⟩
    first | refine r_icmp_geN (pc := 84) (tgt := 113) dX0_has_2_84 (by decide) (by omega) (by omega) (fun h84 => ?_) (fun h84 => ?_) | refine r_icmp_ge (pc := 84) (tgt := 113) dX0_has_2_84 (by decide) (fun h84 => ?_) (fun h84 => ?_)
    · skip
      refine r_ild2 (pc := 113) dX0_has_2_113 ?_
      refine r_iret (pc := 114) dX0_has_2_114 ?_
      exact ⟨s, rfl, rfl, hI⟩
    · skip
      exact absurd h84 (by omega)
  | succ k ih =>
    intro i hi
    have hl := (hB.2 i (by omega)).2.1
    have hstep : cnt (fun p => lk (gS q) p == 0) (i + 1) = cnt (fun p => lk (gS q) p == 0) i + if lk (gS q) i = 0 then 1 else 0 := by
      show cnt _ i + (if (lk (gS q) i == 0) = true then 1 else 0) = _; by_cases e : lk (gS q) i = 0 <;> simp [e]
    refine r_ild3 (pc := 79) dX0_has_2_79 ?_
    refine r_ald0 (pc := 80) dX0_has_2_80 ?_
    refine r_cV (pc := 81) dX0_has_2_81 cv_X0_158 (hS.k (c := 0) ow_0 kd_0) (ct_X0_people W S) rfl rfl (Nat.le_of_ble_eq_true rfl) (by first | decide | omega) ?_
    rintro _ _ ⟨rfl, rfl⟩
    first | refine r_icmp_geN (pc := 84) (tgt := 113) dX0_has_2_84 (by decide) (by omega) (by omega) (fun h84 => ?_) (fun h84 => ?_) | refine r_icmp_ge (pc := 84) (tgt := 113) dX0_has_2_84 (by decide) (fun h84 => ?_) (fun h84 => ?_)
    · skip
      exact absurd h84 (by omega)
    · skip
      refine r_ild2 (pc := 87) dX0_has_2_87 ?_
      refine r_ald0 (pc := 88) dX0_has_2_88 ?_
      refine x_getR (c := 0) hS ow_0 kd_0 (pc := 89) dX0_has_2_89 fl_X0_69 (fx_0_9 hX) ?_
      refine x_getRN (c := 12) hS (st_ow isS_12) (st_kd isS_12) (pc := 92) dX0_has_2_92 (fn_X0_174 hg) (fs_4 hX isS_12) ?_
      refine r_ild3 (pc := 95) dX0_has_2_95 ?_
      refine x_iald (c := (12 + 2)) hS (st_ow2 isS_12) (st_kd2 isS_12) (st_ln2 isS_12) (pc := 96) dX0_has_2_96 (by omega) (by omega) ?_
      refine Bd.eqI (hN.2.2.2.1 i (by omega)) ?_
      refine r_if_neN (pc := 97) (tgt := 104) dX0_has_2_97 (by decide) (by omega) (fun h97 => ?_) (fun h97 => ?_)
      · skip
        refine r_iconst (v := nI 0) (pc := 104) dX0_has_2_104 (by decide) ?_
        first | refine r_iaddN (pc := 105) dX0_has_2_105 ?_ | refine r_iaddJ (pc := 105) dX0_has_2_105 ?_ | refine r_iadd (pc := 105) dX0_has_2_105 ?_
        refine r_ist2 (pc := 106) dX0_has_2_106 ?_
        first | refine r_iinc3N (j := 1) (pc := 107) dX0_has_2_107 rfl ?_ | refine r_iinc3 (pc := 107) dX0_has_2_107 ?_
        refine r_goto (pc := 110) (tgt := 79) dX0_has_2_110 (by decide) ?_
        have := ih (i + 1) (by omega)
        rw [hstep] at this
        first | (rw [if_pos (by omega)] at this; exact this) | (rw [if_neg (by omega)] at this; exact this)
      · skip
        refine r_iconst (v := nI 1) (pc := 100) dX0_has_2_100 (by decide) ?_
        refine r_goto (pc := 101) (tgt := 105) dX0_has_2_101 (by decide) ?_
        first | refine r_iaddN (pc := 105) dX0_has_2_105 ?_ | refine r_iaddJ (pc := 105) dX0_has_2_105 ?_ | refine r_iadd (pc := 105) dX0_has_2_105 ?_
        refine r_ist2 (pc := 106) dX0_has_2_106 ?_
        first | refine r_iinc3N (j := 1) (pc := 107) dX0_has_2_107 rfl ?_ | refine r_iinc3 (pc := 107) dX0_has_2_107 ?_
        refine r_goto (pc := 110) (tgt := 79) dX0_has_2_110 (by decide) ?_
        have := ih (i + 1) (by omega)
        rw [hstep] at this
        first | (rw [if_pos (by omega)] at this; exact this) | (rw [if_neg (by omega)] at this; exact this)
theorem xspareLoop {x : Int32} (hI : IX g M o P ta s q) (hG : GI q) : ∀ k i, i + k = tn (gT q) →
    Bd g yX0_has_2 cX0_has_2 4 (some Jvm.ClassFile.FieldType.int) [] 431 0 0 (putX M o s) 117 [some (.ref o), some (.int x), some (.int (nI (cnt (fun p => sp (gS q) p == 1) i))), some (.int (nI i))] [] (QI g M o P ta q (.int (nI (cnt (fun p => sp (gS q) p == 1) (tn (gT q)))))) noX := by
  have W := hI.W
  have S := hI.So
  have hg := W.gx
  have hS := W.S
  have hX := W.X
  have hTB := W.B
  have hn8 := hTB.1
  have hH9 := hTB.2.1
  have hN := hI.nw.1
  have hR := hI.nw.2
  have hB : SB (tn (gT q)) (gS q) := hG.2.2.2.2.2.1.1
  intro k
  induction k with
  | zero =>
    intro i hi
    obtain rfl : i = tn (gT q) := by omega
    refine r_ild3 (pc := 117) dX0_has_2_117 ?_
    refine r_ald0 (pc := 118) dX0_has_2_118 ?_
    refine r_cV (pc := 119) dX0_has_2_119 cv_X0_158 (hS.k (c := 0) ow_0 kd_0) (ct_X0_people W S) rfl rfl (Nat.le_of_ble_eq_true rfl) (by first | decide | omega) ?_
    rintro _ _ ⟨rfl, rfl⟩
    first | refine r_icmp_geN (pc := 122) (tgt := 151) dX0_has_2_122 (by decide) (by omega) (by omega) (fun h122 => ?_) (fun h122 => ?_) | refine r_icmp_ge (pc := 122) (tgt := 151) dX0_has_2_122 (by decide) (fun h122 => ?_) (fun h122 => ?_)
    · skip
      refine r_ild2 (pc := 151) dX0_has_2_151 ?_
      refine r_iret (pc := 152) dX0_has_2_152 ?_
      exact ⟨s, rfl, rfl, hI⟩
    · skip
      exact absurd h122 (by omega)
  | succ k ih =>
    intro i hi
    have hstep : cnt (fun p => sp (gS q) p == 1) (i + 1) = cnt (fun p => sp (gS q) p == 1) i + if sp (gS q) i = 1 then 1 else 0 := by
      show cnt _ i + (if (sp (gS q) i == 1) = true then 1 else 0) = _; by_cases e : sp (gS q) i = 1 <;> simp [e]
    refine r_ild3 (pc := 117) dX0_has_2_117 ?_
    refine r_ald0 (pc := 118) dX0_has_2_118 ?_
    refine r_cV (pc := 119) dX0_has_2_119 cv_X0_158 (hS.k (c := 0) ow_0 kd_0) (ct_X0_people W S) rfl rfl (Nat.le_of_ble_eq_true rfl) (by first | decide | omega) ?_
    rintro _ _ ⟨rfl, rfl⟩
    first | refine r_icmp_geN (pc := 122) (tgt := 151) dX0_has_2_122 (by decide) (by omega) (by omega) (fun h122 => ?_) (fun h122 => ?_) | refine r_icmp_ge (pc := 122) (tgt := 151) dX0_has_2_122 (by decide) (fun h122 => ?_) (fun h122 => ?_)
    · skip
      exact absurd h122 (by omega)
    · skip
      refine r_ild2 (pc := 125) dX0_has_2_125 ?_
      refine r_ald0 (pc := 126) dX0_has_2_126 ?_
      refine x_getR (c := 0) hS ow_0 kd_0 (pc := 127) dX0_has_2_127 fl_X0_69 (fx_0_9 hX) ?_
      refine x_getRN (c := 12) hS (st_ow isS_12) (st_kd isS_12) (pc := 130) dX0_has_2_130 (fn_X0_177 hg) (fs_7 hX isS_12) ?_
      refine r_ild3 (pc := 133) dX0_has_2_133 ?_
      refine x_zald (c := (12 + 5)) hS (st_ow5 isS_12) (st_kd5 isS_12) (st_ln5 isS_12) (pc := 134) dX0_has_2_134 (by omega) (by omega) ?_
      refine Bd.eqI (hN.2.2.2.2.2.2.1 i (by omega)) ?_
      refine r_if_eqZ (pc := 135) (tgt := 142) dX0_has_2_135 (by decide) (fun h135 => ?_) (fun h135 => ?_)
      · skip
        refine r_iconst (v := nI 0) (pc := 142) dX0_has_2_142 (by decide) ?_
        first | refine r_iaddN (pc := 143) dX0_has_2_143 ?_ | refine r_iaddJ (pc := 143) dX0_has_2_143 ?_ | refine r_iadd (pc := 143) dX0_has_2_143 ?_
        refine r_ist2 (pc := 144) dX0_has_2_144 ?_
        first | refine r_iinc3N (j := 1) (pc := 145) dX0_has_2_145 rfl ?_ | refine r_iinc3 (pc := 145) dX0_has_2_145 ?_
        refine r_goto (pc := 148) (tgt := 117) dX0_has_2_148 (by decide) ?_
        have := ih (i + 1) (by omega)
        rw [hstep] at this
        first | (rw [if_pos h135] at this; exact this) | (rw [if_neg h135] at this; exact this)
      · skip
        refine r_iconst (v := nI 1) (pc := 138) dX0_has_2_138 (by decide) ?_
        refine r_goto (pc := 139) (tgt := 143) dX0_has_2_139 (by decide) ?_
        first | refine r_iaddN (pc := 143) dX0_has_2_143 ?_ | refine r_iaddJ (pc := 143) dX0_has_2_143 ?_ | refine r_iadd (pc := 143) dX0_has_2_143 ?_
        refine r_ist2 (pc := 144) dX0_has_2_144 ?_
        first | refine r_iinc3N (j := 1) (pc := 145) dX0_has_2_145 rfl ?_ | refine r_iinc3 (pc := 145) dX0_has_2_145 ?_
        refine r_goto (pc := 148) (tgt := 117) dX0_has_2_148 (by decide) ?_
        have := ih (i + 1) (by omega)
        rw [hstep] at this
        first | (rw [if_pos h135] at this; exact this) | (rw [if_neg h135] at this; exact this)
theorem xfeudLoop {x : Int32} (hG : GI q) : ∀ k i s, i + k = tH (gT q) → IX g M o P ta s q →
    Bd g yX0_has_2 cX0_has_2 4 (some Jvm.ClassFile.FieldType.int) [] 431 0 0 (putX M o s) 155 [some (.ref o), some (.int x), some (.int (nI (cnt (fun h => feudAtS (gT q) (gS q) h == some true) i))), some (.int (nI i))] [] (QI g M o P ta q (.int (nI (cnt (fun h => feudAtS (gT q) (gS q) h == some true) (tH (gT q)))))) noX := by
  intro k
  induction k with
  | zero =>
    intro i s hi hI
    have W := hI.W
    have S := hI.So
    have hg := W.gx
    have hS := W.S
    have hX := W.X
    have hTB := W.B
    have hn8 := hTB.1
    have hH9 := hTB.2.1
    have hN := hI.nw.1
    have hR := hI.nw.2
    have hB : SB (tn (gT q)) (gS q) := hG.2.2.2.2.2.1.1
    obtain ⟨t0, t1, t2, -⟩ := W.2.2.2.2.2.1
    have hIH : mI (putX M o s) ta 1 = nI (tH (gT q)) := (mI_putXn (W.2.2.2.1 ta t0)).trans t2
    obtain rfl : i = tH (gT q) := by omega
    refine r_ild3 (pc := 155) dX0_has_2_155 ?_
    refine r_ald0 (pc := 156) dX0_has_2_156 ?_
    refine x_getR (c := 0) hS ow_0 kd_0 (pc := 157) dX0_has_2_157 fl_X0_31 W.ht ?_
    refine r_getIN (pc := 160) dX0_has_2_160 (fn_X0_146 hg) t1 ?_
    rw [hIH]
    first | refine r_icmp_geN (pc := 163) (tgt := 191) dX0_has_2_163 (by decide) (by omega) (by omega) (fun h163 => ?_) (fun h163 => ?_) | refine r_icmp_ge (pc := 163) (tgt := 191) dX0_has_2_163 (by decide) (fun h163 => ?_) (fun h163 => ?_)
    · skip
      refine r_ild2 (pc := 191) dX0_has_2_191 ?_
      refine r_iret (pc := 192) dX0_has_2_192 ?_
      exact ⟨s, rfl, rfl, hI⟩
    · skip
      exact absurd h163 (by omega)
  | succ k ih =>
    intro i s hi hI
    have W := hI.W
    have S := hI.So
    have hg := W.gx
    have hS := W.S
    have hX := W.X
    have hTB := W.B
    have hn8 := hTB.1
    have hH9 := hTB.2.1
    have hN := hI.nw.1
    have hR := hI.nw.2
    have hB : SB (tn (gT q)) (gS q) := hG.2.2.2.2.2.1.1
    obtain ⟨t0, t1, t2, -⟩ := W.2.2.2.2.2.1
    have hIH : mI (putX M o s) ta 1 = nI (tH (gT q)) := (mI_putXn (W.2.2.2.1 ta t0)).trans t2
    have hstep : cnt (fun h => feudAtS (gT q) (gS q) h == some true) (i + 1) = cnt (fun h => feudAtS (gT q) (gS q) h == some true) i + if feudAtS (gT q) (gS q) i = some true then 1 else 0 := by
      show cnt _ i + (if (feudAtS (gT q) (gS q) i == some true) = true then 1 else 0) = _; by_cases e : feudAtS (gT q) (gS q) i = some true <;> simp [e]
    refine r_ild3 (pc := 155) dX0_has_2_155 ?_
    refine r_ald0 (pc := 156) dX0_has_2_156 ?_
    refine x_getR (c := 0) hS ow_0 kd_0 (pc := 157) dX0_has_2_157 fl_X0_31 W.ht ?_
    refine r_getIN (pc := 160) dX0_has_2_160 (fn_X0_146 hg) t1 ?_
    rw [hIH]
    first | refine r_icmp_geN (pc := 163) (tgt := 191) dX0_has_2_163 (by decide) (by omega) (by omega) (fun h163 => ?_) (fun h163 => ?_) | refine r_icmp_ge (pc := 163) (tgt := 191) dX0_has_2_163 (by decide) (fun h163 => ?_) (fun h163 => ?_)
    · skip
      exact absurd h163 (by omega)
    · skip
      refine r_ild2 (pc := 166) dX0_has_2_166 ?_
      refine r_ald0 (pc := 167) dX0_has_2_167 ?_
      refine x_getR (c := 0) hS ow_0 kd_0 (pc := 168) dX0_has_2_168 fl_X0_69 (fx_0_9 hX) ?_
      refine r_ild3 (pc := 171) dX0_has_2_171 ?_
      refine r_cV (pc := 172) dX0_has_2_172 cv_X0_181 (hS.k (c := 12) (st_ow isS_12) (st_kd isS_12)) (ct_X5_feud W isS_12 hN hB (by omega)) rfl rfl (Nat.le_of_ble_eq_true rfl) (by first | decide | omega) ?_
      rintro _ _ ⟨s1, rfl, rfl, hM1⟩
      refine r_if_eqZ (pc := 175) (tgt := 182) dX0_has_2_175 (by decide) (fun h175 => ?_) (fun h175 => ?_)
      · skip
        refine r_iconst (v := nI 0) (pc := 182) dX0_has_2_182 (by decide) ?_
        first | refine r_iaddN (pc := 183) dX0_has_2_183 ?_ | refine r_iaddJ (pc := 183) dX0_has_2_183 ?_ | refine r_iadd (pc := 183) dX0_has_2_183 ?_
        refine r_ist2 (pc := 184) dX0_has_2_184 ?_
        first | refine r_iinc3N (j := 1) (pc := 185) dX0_has_2_185 rfl ?_ | refine r_iinc3 (pc := 185) dX0_has_2_185 ?_
        refine r_goto (pc := 188) (tgt := 155) dX0_has_2_188 (by decide) ?_
        have := ih (i + 1) s1 (by omega) (hM1.I hI hG)
        rw [hstep] at this
        first | (rw [if_pos h175] at this; exact this) | (rw [if_neg h175] at this; exact this)
      · skip
        refine r_iconst (v := nI 1) (pc := 178) dX0_has_2_178 (by decide) ?_
        refine r_goto (pc := 179) (tgt := 183) dX0_has_2_179 (by decide) ?_
        first | refine r_iaddN (pc := 183) dX0_has_2_183 ?_ | refine r_iaddJ (pc := 183) dX0_has_2_183 ?_ | refine r_iadd (pc := 183) dX0_has_2_183 ?_
        refine r_ist2 (pc := 184) dX0_has_2_184 ?_
        first | refine r_iinc3N (j := 1) (pc := 185) dX0_has_2_185 rfl ?_ | refine r_iinc3 (pc := 185) dX0_has_2_185 ?_
        refine r_goto (pc := 188) (tgt := 155) dX0_has_2_188 (by decide) ?_
        have := ih (i + 1) s1 (by omega) (hM1.I hI hG)
        rw [hstep] at this
        first | (rw [if_pos h175] at this; exact this) | (rw [if_neg h175] at this; exact this)
theorem px_has {x : Int32} (hI : IX g M o P ta s q) (hG : GI q) : Ct g yX0_has_2 cX0_has_2 4 (some Jvm.ClassFile.FieldType.int) 431 0 0 [.ref o, .int x] (putX M o s) (QI g M o P ta q (.int (hasS q x))) noX := by
  have W := hI.W
  have S := hI.So
  have hg := W.gx
  have hS := W.S
  have hX := W.X
  have hTB := W.B
  have hn8 := hTB.1
  have hH9 := hTB.2.1
  have hN := hI.nw.1
  have hR := hI.nw.2
  have hB : SB (tn (gT q)) (gS q) := hG.2.2.2.2.2.1.1
  obtain ⟨t0, t1, t2, -⟩ := W.2.2.2.2.2.1
  have hIH : mI (putX M o s) ta 1 = nI (tH (gT q)) := (mI_putXn (W.2.2.2.1 ta t0)).trans t2
  refine Ct.of (by decide) (Nat.le_of_ble_eq_true rfl) rfl ?_
  unfold hasS
  cases hp : pidx x 10 with
  | none =>
    have hp := pidx_none hp
    have ho : x.toInt < 0 ∨ (9 : Int) < x.toInt := by omega
    refine r_iconst (v := nI 0) (pc := 0) dX0_has_2_0 (by decide) ?_
    refine r_ist2 (pc := 1) dX0_has_2_1 ?_
    refine r_ild1 (pc := 2) dX0_has_2_2 ?_
    refine r_tableOut (pc := 3) (tgt := 219) dX0_has_2_3 (by first | decide | assumption) (by decide) ?_
    refine r_iconst (v := -1) (pc := 219) dX0_has_2_219 (by decide) ?_
    refine r_iret (pc := 220) dX0_has_2_220 ?_
    exact ⟨s, rfl, rfl, hI⟩
  | some k =>
    obtain ⟨hk, rfl⟩ := pidx_some hp
    have hc : k = 0 ∨ k = 1 ∨ k = 2 ∨ k = 3 ∨ k = 4 ∨ k = 5 ∨ k = 6 ∨ k = 7 ∨ k = 8 ∨ k = 9 := by omega
    rcases hc with h | h | h | h | h | h | h | h | h | h <;> subst h
    · skip
      refine r_iconst (v := nI 0) (pc := 0) dX0_has_2_0 (by decide) ?_
      refine r_ist2 (pc := 1) dX0_has_2_1 ?_
      refine r_ild1 (pc := 2) dX0_has_2_2 ?_
      refine r_tableIn (pc := 3) (tgt := 56) (off := 53) dX0_has_2_3 (by decide) (by decide) rfl (by decide) ?_
      refine r_ald0 (pc := 56) dX0_has_2_56 ?_
      refine x_getR (c := 0) hS ow_0 kd_0 (pc := 57) dX0_has_2_57 fl_X0_31 W.ht ?_
      refine r_getIN (pc := 60) dX0_has_2_60 (fn_X0_146 hg) t1 ?_
      rw [hIH]
      refine r_iret (pc := 63) dX0_has_2_63 ?_
      exact ⟨s, rfl, rfl, hI⟩
    · skip
      refine r_iconst (v := nI 0) (pc := 0) dX0_has_2_0 (by decide) ?_
      refine r_ist2 (pc := 1) dX0_has_2_1 ?_
      refine r_ild1 (pc := 2) dX0_has_2_2 ?_
      refine r_tableIn (pc := 3) (tgt := 64) (off := 61) dX0_has_2_3 (by decide) (by decide) rfl (by decide) ?_
      refine r_ald0 (pc := 64) dX0_has_2_64 ?_
      refine r_cV (pc := 65) dX0_has_2_65 cv_X0_158 (hS.k (c := 0) ow_0 kd_0) (ct_X0_people W S) rfl rfl (Nat.le_of_ble_eq_true rfl) (by first | decide | omega) ?_
      rintro _ _ ⟨rfl, rfl⟩
      refine r_iret (pc := 68) dX0_has_2_68 ?_
      exact ⟨s, rfl, rfl, hI⟩
    · skip
      refine r_iconst (v := nI 0) (pc := 0) dX0_has_2_0 (by decide) ?_
      refine r_ist2 (pc := 1) dX0_has_2_1 ?_
      refine r_ild1 (pc := 2) dX0_has_2_2 ?_
      refine r_tableIn (pc := 3) (tgt := 69) (off := 66) dX0_has_2_3 (by decide) (by decide) rfl (by decide) ?_
      refine r_ald0 (pc := 69) dX0_has_2_69 ?_
      refine x_getR (c := 0) hS ow_0 kd_0 (pc := 70) dX0_has_2_70 fl_X0_69 (fx_0_9 hX) ?_
      refine x_getIN (c := 12) hS (st_ow isS_12) (st_kd isS_12) (pc := 73) dX0_has_2_73 (fn_X0_171 hg) ?_
      refine Bd.eqI hN.1 ?_
      refine r_iret (pc := 76) dX0_has_2_76 ?_
      exact ⟨s, rfl, rfl, hI⟩
    · skip
      refine r_iconst (v := nI 0) (pc := 0) dX0_has_2_0 (by decide) ?_
      refine r_ist2 (pc := 1) dX0_has_2_1 ?_
      refine r_ild1 (pc := 2) dX0_has_2_2 ?_
      refine r_tableIn (pc := 3) (tgt := 77) (off := 74) dX0_has_2_3 (by decide) (by decide) rfl (by decide) ?_
      refine r_iconst (v := nI 0) (pc := 77) dX0_has_2_77 (by decide) ?_
      refine r_ist3 (pc := 78) dX0_has_2_78 ?_
      exact xcurtLoop hI hG (tn (gT q)) 0 (by omega)
    · skip
      refine r_iconst (v := nI 0) (pc := 0) dX0_has_2_0 (by decide) ?_
      refine r_ist2 (pc := 1) dX0_has_2_1 ?_
      refine r_ild1 (pc := 2) dX0_has_2_2 ?_
      refine r_tableIn (pc := 3) (tgt := 115) (off := 112) dX0_has_2_3 (by decide) (by decide) rfl (by decide) ?_
      refine r_iconst (v := nI 0) (pc := 115) dX0_has_2_115 (by decide) ?_
      refine r_ist3 (pc := 116) dX0_has_2_116 ?_
      exact xspareLoop hI hG (tn (gT q)) 0 (by omega)
    · skip
      refine r_iconst (v := nI 0) (pc := 0) dX0_has_2_0 (by decide) ?_
      refine r_ist2 (pc := 1) dX0_has_2_1 ?_
      refine r_ild1 (pc := 2) dX0_has_2_2 ?_
      refine r_tableIn (pc := 3) (tgt := 153) (off := 150) dX0_has_2_3 (by decide) (by decide) rfl (by decide) ?_
      refine r_iconst (v := nI 0) (pc := 153) dX0_has_2_153 (by decide) ?_
      refine r_ist3 (pc := 154) dX0_has_2_154 ?_
      exact xfeudLoop hG (tH (gT q)) 0 s (by omega) hI
    · skip
      refine r_iconst (v := nI 0) (pc := 0) dX0_has_2_0 (by decide) ?_
      refine r_ist2 (pc := 1) dX0_has_2_1 ?_
      refine r_ild1 (pc := 2) dX0_has_2_2 ?_
      refine r_tableIn (pc := 3) (tgt := 193) (off := 190) dX0_has_2_3 (by decide) (by decide) rfl (by decide) ?_
      refine r_ald0 (pc := 193) dX0_has_2_193 ?_
      refine x_getR (c := 0) hS ow_0 kd_0 (pc := 194) dX0_has_2_194 fl_X0_69 (fx_0_9 hX) ?_
      refine r_cV (pc := 197) dX0_has_2_197 cv_X0_184 (hS.k (c := 12) (st_ow isS_12) (st_kd isS_12)) (ct_X5_looks hS hX isS_12 hN hn8) rfl rfl (Nat.le_of_ble_eq_true rfl) (by first | decide | omega) ?_
      rintro _ _ ⟨rfl, rfl⟩
      refine r_iret (pc := 200) dX0_has_2_200 ?_
      exact ⟨s, rfl, rfl, hI⟩
    · skip
      refine r_iconst (v := nI 0) (pc := 0) dX0_has_2_0 (by decide) ?_
      refine r_ist2 (pc := 1) dX0_has_2_1 ?_
      refine r_ild1 (pc := 2) dX0_has_2_2 ?_
      refine r_tableIn (pc := 3) (tgt := 201) (off := 198) dX0_has_2_3 (by decide) (by decide) rfl (by decide) ?_
      refine r_ald0 (pc := 201) dX0_has_2_201 ?_
      refine x_getR (c := 0) hS ow_0 kd_0 (pc := 202) dX0_has_2_202 fl_X0_69 (fx_0_9 hX) ?_
      refine x_getIN (c := 12) hS (st_ow isS_12) (st_kd isS_12) (pc := 205) dX0_has_2_205 (fn_X0_187 hg) ?_
      refine Bd.eqI hR.choose_spec.2.1 ?_
      refine r_iret (pc := 208) dX0_has_2_208 ?_
      exact ⟨s, rfl, rfl, hI⟩
    · skip
      refine r_iconst (v := nI 0) (pc := 0) dX0_has_2_0 (by decide) ?_
      refine r_ist2 (pc := 1) dX0_has_2_1 ?_
      refine r_ild1 (pc := 2) dX0_has_2_2 ?_
      refine r_tableIn (pc := 3) (tgt := 209) (off := 206) dX0_has_2_3 (by decide) (by decide) rfl (by decide) ?_
      refine r_ald0 (pc := 209) dX0_has_2_209 ?_
      refine x_getI (c := 0) hS ow_0 kd_0 (pc := 210) dX0_has_2_210 fl_X0_140 ?_
      rw [hI.rw.1]
      refine r_iret (pc := 213) dX0_has_2_213 ?_
      exact ⟨s, rfl, rfl, hI⟩
    · skip
      refine r_iconst (v := nI 0) (pc := 0) dX0_has_2_0 (by decide) ?_
      refine r_ist2 (pc := 1) dX0_has_2_1 ?_
      refine r_ild1 (pc := 2) dX0_has_2_2 ?_
      refine r_tableIn (pc := 3) (tgt := 214) (off := 211) dX0_has_2_3 (by decide) (by decide) rfl (by decide) ?_
      refine r_ald0 (pc := 214) dX0_has_2_214 ?_
      refine x_getI (c := 0) hS ow_0 kd_0 (pc := 215) dX0_has_2_215 fl_X0_137 ?_
      rw [hI.un.1]
      refine r_iret (pc := 218) dX0_has_2_218 ?_
      exact ⟨s, rfl, rfl, hI⟩
theorem px_end {x : Int32} (hI : IX g M o P ta s q) (hG : GI q) : Ct g yX0_end cX0_end 2 (some Jvm.ClassFile.FieldType.boolean) 1 0 0 [.ref o, .int x] (putX M o s) (QI g M o P ta (endS q x).2 (.int (endS q x).1)) noX := by
  have W := hI.W
  have S := hI.So
  have hg := W.gx
  have hS := W.S
  have hX := W.X
  have hTB := W.B
  have hn8 := hTB.1
  have hH9 := hTB.2.1
  have hN := hI.nw.1
  have hR := hI.nw.2
  have hB : SB (tn (gT q)) (gS q) := hG.2.2.2.2.2.1.1
  have hd : gTd q ≤ 1600 := hG.1
  refine Ct.of (by decide) (Nat.le_of_ble_eq_true rfl) rfl ?_
  unfold endS
  refine r_ild1 (pc := 0) dX0_end_0 ?_
  refine r_if_lt (pc := 1) (tgt := 12) dX0_end_1 (by decide) (fun h1 => ?_) (fun h1 => ?_)
  · skip
    rw [Int32.lt_iff_toInt_lt, Int32.toInt_zero] at h1
    rw [if_pos (by omega)]
    refine r_ald0 (pc := 12) dX0_end_12 ?_
    refine r_iconst (v := nI 0) (pc := 13) dX0_end_13 (by decide) ?_
    refine r_cV (pc := 14) dX0_end_14 cv_X0_107 (hS.k (c := 0) ow_0 kd_0) (ct_X0_refuses hS hX (by decide)) rfl rfl (Nat.le_of_ble_eq_true rfl) (by first | decide | omega) ?_
    rintro _ _ ⟨rfl, rfl⟩
    refine r_if_lt (pc := 17) (tgt := 24) dX0_end_17 (by decide) (fun h17 => ?_) (fun h17 => ?_)
    · skip
      refine r_iconst (v := nI 0) (pc := 24) dX0_end_24 (by decide) ?_
      refine r_zret (pc := 25) dX0_end_25 (by first | rfl | exact zI_nar | assumption) ?_
      exact ⟨_, rfl, rfl, hI.ref hG (by decide)⟩
    · skip
      exact absurd (by decide) h17
  · skip
    rw [Int32.lt_iff_toInt_lt, Int32.toInt_zero] at h1
    refine r_ild1 (pc := 4) dX0_end_4 ?_
    refine r_ald0 (pc := 5) dX0_end_5 ?_
    refine x_getI (c := 0) hS ow_0 kd_0 (pc := 6) dX0_end_6 fl_X0_104 ?_
    rw [hI.tp.1]
    refine r_icmp_le (pc := 9) (tgt := 26) dX0_end_9 (by decide) (fun h9 => ?_) (fun h9 => ?_)
    · skip
      rw [Int32.le_iff_toInt_le, nI_toInt (by omega)] at h9
      rw [if_neg (by omega)]
      refine r_ald0 (pc := 26) dX0_end_26 ?_
      refine r_ild1 (pc := 27) dX0_end_27 ?_
      refine x_putI (c := 0) hS ow_0 kd_0 (pc := 28) dX0_end_28 fl_X0_104 fw_X0_2 rfl rfl ?_
      refine r_iconst (v := nI 1) (pc := 31) dX0_end_31 (by decide) ?_
      refine r_zret (pc := 32) dX0_end_32 (by first | rfl | exact zI_nar | assumption) ?_
      obtain ⟨w1, w2, a1, a2, a3, a4, a5, a6, a7, a8, a9, a10⟩ := hI
      have hx : x = nI x.toInt.toNat := (pidx_some (n := 1601) (show pidx x 1601 = some x.toInt.toNat from if_pos ⟨by omega, by omega⟩)).2
      exact ⟨_, rfl, rfl, w1.uI, w2, ⟨iX_s.trans hx, fun j hj => by rw [iX_c (by decide)]; exact a1.2.1 j hj, fun j hj => by rw [iX_c (by decide)]; exact a1.2.2 j hj⟩, a2.fr (Ag.uI (by unfold rFt; omega)), a3.fr (Ag.uI (by unfold rRf; omega)), a4.fr hn8 (Ag.uI (by unfold rNw; omega)) (fun _ => rfl), a5.fr hn8 hG.2.2.2.2.2.2.2.1 (Ag.uI (by unfold rUn; omega)) (fun _ _ _ _ => rfl), a6, a7.fr (Ag.uI (by unfold rRw; omega)), a8, a9.fr (Ag.uI (by unfold rOu; omega)), a10⟩
    · skip
      rw [Int32.le_iff_toInt_le, nI_toInt (by omega)] at h9
      rw [if_pos (by omega)]
      refine r_ald0 (pc := 12) dX0_end_12 ?_
      refine r_iconst (v := nI 0) (pc := 13) dX0_end_13 (by decide) ?_
      refine r_cV (pc := 14) dX0_end_14 cv_X0_107 (hS.k (c := 0) ow_0 kd_0) (ct_X0_refuses hS hX (by decide)) rfl rfl (Nat.le_of_ble_eq_true rfl) (by first | decide | omega) ?_
      rintro _ _ ⟨rfl, rfl⟩
      refine r_if_lt (pc := 17) (tgt := 24) dX0_end_17 (by decide) (fun h17 => ?_) (fun h17 => ?_)
      · skip
        refine r_iconst (v := nI 0) (pc := 24) dX0_end_24 (by decide) ?_
        refine r_zret (pc := 25) dX0_end_25 (by first | rfl | exact zI_nar | assumption) ?_
        exact ⟨_, rfl, rfl, hI.ref hG (by decide)⟩
      · skip
        exact absurd (by decide) h17
theorem px_seed {x : Int32} (hI : IX g M o P ta s q) (hG : GI q) : Ct g yX0_seed cX0_seed 2 (some Jvm.ClassFile.FieldType.boolean) 1 0 0 [.ref o, .int x] (putX M o s) (QI g M o P ta (seedS q x).2 (.int (seedS q x).1)) noX := by
  have W := hI.W
  have S := hI.So
  have hg := W.gx
  have hS := W.S
  have hX := W.X
  have hTB := W.B
  have hn8 := hTB.1
  have hH9 := hTB.2.1
  have hN := hI.nw.1
  have hR := hI.nw.2
  have hB : SB (tn (gT q)) (gS q) := hG.2.2.2.2.2.1.1
  refine Ct.of (by decide) (Nat.le_of_ble_eq_true rfl) rfl ?_
  unfold seedS
  refine r_ild1 (pc := 0) dX0_seed_0 ?_
  refine r_if_ge (pc := 1) (tgt := 18) dX0_seed_1 (by decide) (fun h1 => ?_) (fun h1 => ?_)
  · skip
    rw [Int32.le_iff_toInt_le, Int32.toInt_zero] at h1
    rw [if_neg (by omega)]
    refine r_ald0 (pc := 18) dX0_seed_18 ?_
    refine r_ild1 (pc := 19) dX0_seed_19 ?_
    refine r_i2lT (pc := 20) dX0_seed_20 ?_
    refine x_putL (c := 0) hS ow_0 kd_0 (pc := 21) dX0_seed_21 fl_X0_97 fw_X0_19 ?_
    refine r_iconst (v := nI 1) (pc := 24) dX0_seed_24 (by decide) ?_
    refine r_zret (pc := 25) dX0_seed_25 (by first | rfl | exact zI_nar | assumption) ?_
    obtain ⟨w1, w2, a1, a2, a3, a4, a5, a6, a7, a8, a9, a10⟩ := hI
    exact ⟨_, rfl, rfl, w1.rx rfl (w1.m.upc (by decide)), w2, a1, a2, a3, a4, a5, a6, a7, (by show lX (uL s 0 19 (lI x.toInt)) 0 19 = lI (x.toInt.toNat : Int); rw [lX_uLs]; congr 1; omega), a9, a10.upc (by decide)⟩
  · skip
    rw [Int32.le_iff_toInt_le, Int32.toInt_zero] at h1
    rw [if_pos (by omega)]
    refine r_ald0 (pc := 4) dX0_seed_4 ?_
    refine r_iconst (v := nI 5) (pc := 5) dX0_seed_5 (by decide) ?_
    refine r_cV (pc := 6) dX0_seed_6 cv_X0_107 (hS.k (c := 0) ow_0 kd_0) (ct_X0_refuses hS hX (by decide)) rfl rfl (Nat.le_of_ble_eq_true rfl) (by first | decide | omega) ?_
    rintro _ _ ⟨rfl, rfl⟩
    refine r_if_lt (pc := 9) (tgt := 16) dX0_seed_9 (by decide) (fun h9 => ?_) (fun h9 => ?_)
    · skip
      refine r_iconst (v := nI 0) (pc := 16) dX0_seed_16 (by decide) ?_
      refine r_zret (pc := 17) dX0_seed_17 (by first | rfl | exact zI_nar | assumption) ?_
      exact ⟨_, rfl, rfl, hI.ref hG (by decide)⟩
    · skip
      exact absurd (by decide) h9
/-- a try: a copy of what is now -/
theorem IX.copyd {s1 : XS} (hI : IX g M o P ta s q) (hr : rX s1 = rX s) (hF : FrX (stP 68) s s1) : WS g M o P ta (gT q) s1 := hI.W.rx hr (fun k hk => by rw [hF.2.1 8 (fun z => by unfold stP at z; omega)]; exact hI.W.m k hk)
/-- behind a try all is as it was -/
theorem YrQ.I {T : Te} {s1 : XS} {t : St} {L : List Ev} (h : YrQ g M o P ta T 68 s t L s1) (hI : IX g M o P ta s q) (hG : GI q) : IX g M o P ta s1 q :=
  hI.scr hG (h.2.2.2.mono (fun c hc => Or.inl hc)) h.1.X (by obtain ⟨pm, hp, -⟩ := h.2.2.1; exact ⟨pm, hp⟩) h.1.m
theorem px_later {x y : Int32} (hI : IX g M o P ta s q) (hG : GI q) : Ct g yX0_later cX0_later 3 (some Jvm.ClassFile.FieldType.int) 434 0 0 [.ref o, .int x, .int y] (putX M o s) (QI g M o P ta q (.int (laterS q x y))) noX := by
  have W := hI.W
  have S := hI.So
  have hg := W.gx
  have hS := W.S
  have hX := W.X
  have hTB := W.B
  have hn8 := hTB.1
  have hH9 := hTB.2.1
  have hN := hI.nw.1
  have hR := hI.nw.2
  have hB : SB (tn (gT q)) (gS q) := hG.2.2.2.2.2.1.1
  obtain ⟨pm, hpm⟩ := hI.pm 68 isS_68
  refine Ct.of (by decide) (Nat.le_of_ble_eq_true rfl) rfl ?_
  unfold laterS
  cases hp : pidx x (tn (gT q)) with
  | none =>
    have hp := pidx_none hp
    refine r_ald0 (pc := 0) dX0_later_0 ?_
    refine r_ild1 (pc := 1) dX0_later_1 ?_
    refine r_cV (pc := 2) dX0_later_2 cv_X0_161 (hS.k (c := 0) ow_0 kd_0) (ct_X0_isPerson W S) rfl rfl (Nat.le_of_ble_eq_true rfl) (by first | decide | omega) ?_
    rintro _ _ ⟨rfl, rfl⟩
    first | refine r_if_eqZ (pc := 5) (tgt := 42) dX0_later_5 (by decide) (fun h5 => ?_) (fun h5 => ?_) | refine r_if_eqN (pc := 5) (tgt := 42) dX0_later_5 (by decide) (by omega) (fun h5 => ?_) (fun h5 => ?_) | refine r_if_eq (pc := 5) (tgt := 42) dX0_later_5 (by decide) (fun h5 => ?_) (fun h5 => ?_)
    · skip
      refine r_iconst (v := -1) (pc := 42) dX0_later_42 (by decide) ?_
      refine r_iret (pc := 43) dX0_later_43 ?_
      exact ⟨s, rfl, rfl, hI⟩
    · skip
      exact absurd h5 hp
  | some p =>
    obtain ⟨hp1, rfl⟩ := pidx_some hp
    have hH : 0 < tH (gT q) := by have := hG.2.2.2.2.2.1.2.2.1 p hp1; omega
    cases hr : ahd (gS q) y 0 60 with
    | none =>
      have hr := ahd_none hr
      refine r_ald0 (pc := 0) dX0_later_0 ?_
      refine r_ild1 (pc := 1) dX0_later_1 ?_
      refine r_cV (pc := 2) dX0_later_2 cv_X0_161 (hS.k (c := 0) ow_0 kd_0) (ct_X0_isPerson W S) rfl rfl (Nat.le_of_ble_eq_true rfl) (by first | decide | omega) ?_
      rintro _ _ ⟨rfl, rfl⟩
      first | refine r_if_eqZ (pc := 5) (tgt := 42) dX0_later_5 (by decide) (fun h5 => ?_) (fun h5 => ?_) | refine r_if_eqN (pc := 5) (tgt := 42) dX0_later_5 (by decide) (by omega) (fun h5 => ?_) (fun h5 => ?_) | refine r_if_eq (pc := 5) (tgt := 42) dX0_later_5 (by decide) (fun h5 => ?_) (fun h5 => ?_)
      · skip
        exact absurd (by rw [nI_toInt (by omega)]; omega) h5
      · skip
        refine r_ald0 (pc := 8) dX0_later_8 ?_
        refine r_ild2 (pc := 9) dX0_later_9 ?_
        refine r_iconst (v := nI 0) (pc := 10) dX0_later_10 (by decide) ?_
        refine r_bipush (v := nI 60) (pc := 11) dX0_later_11 (by decide) ?_
        refine r_cV (pc := 13) dX0_later_13 cv_X0_236 (hS.k (c := 0) ow_0 kd_0) (ct_X0_isAhead W hN.1 hB.1 (by decide) (by decide)) rfl rfl (Nat.le_of_ble_eq_true rfl) (by first | decide | omega) ?_
        rintro _ _ ⟨rfl, rfl⟩
        first | refine r_if_eqZ (pc := 16) (tgt := 42) dX0_later_16 (by decide) (fun h16 => ?_) (fun h16 => ?_) | refine r_if_eqN (pc := 16) (tgt := 42) dX0_later_16 (by decide) (by omega) (fun h16 => ?_) (fun h16 => ?_) | refine r_if_eq (pc := 16) (tgt := 42) dX0_later_16 (by decide) (fun h16 => ?_) (fun h16 => ?_)
        · skip
          refine r_iconst (v := -1) (pc := 42) dX0_later_42 (by decide) ?_
          refine r_iret (pc := 43) dX0_later_43 ?_
          exact ⟨s, rfl, rfl, hI⟩
        · skip
          exact absurd h16.2 hr
    | some n =>
      obtain ⟨n1, n2, n3, rfl⟩ := ahd_some hr
      refine r_ald0 (pc := 0) dX0_later_0 ?_
      refine r_ild1 (pc := 1) dX0_later_1 ?_
      refine r_cV (pc := 2) dX0_later_2 cv_X0_161 (hS.k (c := 0) ow_0 kd_0) (ct_X0_isPerson W S) rfl rfl (Nat.le_of_ble_eq_true rfl) (by first | decide | omega) ?_
      rintro _ _ ⟨rfl, rfl⟩
      first | refine r_if_eqZ (pc := 5) (tgt := 42) dX0_later_5 (by decide) (fun h5 => ?_) (fun h5 => ?_) | refine r_if_eqN (pc := 5) (tgt := 42) dX0_later_5 (by decide) (by omega) (fun h5 => ?_) (fun h5 => ?_) | refine r_if_eq (pc := 5) (tgt := 42) dX0_later_5 (by decide) (fun h5 => ?_) (fun h5 => ?_)
      · skip
        exact absurd (by rw [nI_toInt (by omega)]; omega) h5
      · skip
        refine r_ald0 (pc := 8) dX0_later_8 ?_
        refine r_ild2 (pc := 9) dX0_later_9 ?_
        refine r_iconst (v := nI 0) (pc := 10) dX0_later_10 (by decide) ?_
        refine r_bipush (v := nI 60) (pc := 11) dX0_later_11 (by decide) ?_
        refine r_cV (pc := 13) dX0_later_13 cv_X0_236 (hS.k (c := 0) ow_0 kd_0) (ct_X0_isAhead W hN.1 hB.1 (by decide) (by decide)) rfl rfl (Nat.le_of_ble_eq_true rfl) (by first | decide | omega) ?_
        rintro _ _ ⟨rfl, rfl⟩
        first | refine r_if_eqZ (pc := 16) (tgt := 42) dX0_later_16 (by decide) (fun h16 => ?_) (fun h16 => ?_) | refine r_if_eqN (pc := 16) (tgt := 42) dX0_later_16 (by decide) (by omega) (fun h16 => ?_) (fun h16 => ?_) | refine r_if_eq (pc := 16) (tgt := 42) dX0_later_16 (by decide) (fun h16 => ?_) (fun h16 => ?_)
        · skip
          exact absurd (by rw [nI_toInt (by omega)]; omega) h16
        · skip
          refine r_ald0 (pc := 19) dX0_later_19 ?_
          refine x_getR (c := 0) hS ow_0 kd_0 (pc := 20) dX0_later_20 fl_X0_73 (fx_0_10 hX) ?_
          refine r_ald0 (pc := 23) dX0_later_23 ?_
          refine x_getR (c := 0) hS ow_0 kd_0 (pc := 24) dX0_later_24 fl_X0_69 (fx_0_9 hX) ?_
          refine r_cV (pc := 27) dX0_later_27 cv_X0_239 (hS.k (c := 68) (st_ow isS_68) (st_kd isS_68)) (ct_X5_copy hS hX isS_68 isS_12 (by decide) hN hn8 hR hpm) rfl rfl (Nat.le_of_ble_eq_true rfl) (by first | decide | omega) ?_
          rintro _ _ ⟨s1, rfl, rfl, hN1, hR1, hr1, hF1⟩
          have W1 := hI.copyd hr1 hF1
          refine r_ild2 (pc := 30) dX0_later_30 ?_
          refine r_cV (pc := 31) dX0_later_31 cv_X0_243 (hS.k (c := 68) (st_ow isS_68) (st_kd isS_68)) (ct_X5_years W1 isS_68 hN1 hR1 hB (by omega) (by omega)) rfl rfl (Nat.le_of_ble_eq_true rfl) (by first | decide | omega) ?_
          rintro _ _ ⟨s2, rfl, rfl, hQ⟩
          have hQ := hQ.from (hF1.mono (fun c hc => Or.inl hc))
          have hX := hQ.1.X
          refine x_getRN (c := 68) hS (st_ow isS_68) (st_kd isS_68) (pc := 34) dX0_later_34 (fn_X0_174 hg) (fs_4 hX isS_68) ?_
          refine r_ild1 (pc := 37) dX0_later_37 ?_
          refine x_iald (c := (68 + 2)) hS (st_ow2 isS_68) (st_kd2 isS_68) (st_ln2 isS_68) (pc := 38) dX0_later_38 (by omega) (by omega) ?_
          refine Bd.eqI (hQ.2.1.2.2.2.1 p hp1) ?_
          refine r_goto (pc := 39) (tgt := 43) dX0_later_39 (by decide) ?_
          refine r_iret (pc := 43) dX0_later_43 ?_
          exact ⟨s2, rfl, rfl, hQ.I hI hG⟩
theorem px_mind {x y z : Int32} (hI : IX g M o P ta s q) (hG : GI q) : Ct g yX0_mind cX0_mind 4 (some Jvm.ClassFile.FieldType.int) 434 0 0 [.ref o, .int x, .int y, .int z] (putX M o s) (QI g M o P ta q (.int (mindQ q x y z))) noX := by
  have W := hI.W
  have S := hI.So
  have hg := W.gx
  have hS := W.S
  have hX := W.X
  have hTB := W.B
  have hn8 := hTB.1
  have hH9 := hTB.2.1
  have hN := hI.nw.1
  have hR := hI.nw.2
  have hB : SB (tn (gT q)) (gS q) := hG.2.2.2.2.2.1.1
  obtain ⟨pm, hpm⟩ := hI.pm 68 isS_68
  refine Ct.of (by decide) (Nat.le_of_ble_eq_true rfl) rfl ?_
  unfold mindQ
  cases hp : twoS (tn (gT q)) x y with
  | none =>
    have hp : ¬ ∃ z, twoS (tn (gT q)) x y = some z := by rw [hp]; rintro ⟨z, h⟩; cases h
    rw [twoS_iff (by omega)] at hp
    refine r_ald0 (pc := 0) dX0_mind_0 ?_
    refine r_ild1 (pc := 1) dX0_mind_1 ?_
    refine r_ild2 (pc := 2) dX0_mind_2 ?_
    refine r_cV (pc := 3) dX0_mind_3 cv_X0_219 (hS.k (c := 0) ow_0 kd_0) (ct_X0_areTwo W S) rfl rfl (Nat.le_of_ble_eq_true rfl) (by first | decide | omega) ?_
    rintro _ _ ⟨rfl, rfl⟩
    first | refine r_if_eqZ (pc := 6) (tgt := 45) dX0_mind_6 (by decide) (fun h6 => ?_) (fun h6 => ?_) | refine r_if_eqN (pc := 6) (tgt := 45) dX0_mind_6 (by decide) (by omega) (fun h6 => ?_) (fun h6 => ?_) | refine r_if_eq (pc := 6) (tgt := 45) dX0_mind_6 (by decide) (fun h6 => ?_) (fun h6 => ?_)
    · skip
      refine r_iconst (v := -1) (pc := 45) dX0_mind_45 (by decide) ?_
      refine r_iret (pc := 46) dX0_mind_46 ?_
      exact ⟨s, rfl, rfl, hI⟩
    · skip
      exact absurd h6 hp
  | some u =>
    obtain ⟨h1, h2, h3, h4, h5⟩ := twoS_some hp
    have hp : ∃ z, twoS (tn (gT q)) x y = some z := ⟨u, hp⟩
    rw [twoS_iff (by omega)] at hp
    have hH : 0 < tH (gT q) := by have := hG.2.2.2.2.2.1.2.2.1 u.1 h1; omega
    cases hr : ahd (gS q) z 0 60 with
    | none =>
      have hr := ahd_none hr
      refine r_ald0 (pc := 0) dX0_mind_0 ?_
      refine r_ild1 (pc := 1) dX0_mind_1 ?_
      refine r_ild2 (pc := 2) dX0_mind_2 ?_
      refine r_cV (pc := 3) dX0_mind_3 cv_X0_219 (hS.k (c := 0) ow_0 kd_0) (ct_X0_areTwo W S) rfl rfl (Nat.le_of_ble_eq_true rfl) (by first | decide | omega) ?_
      rintro _ _ ⟨rfl, rfl⟩
      first | refine r_if_eqZ (pc := 6) (tgt := 45) dX0_mind_6 (by decide) (fun h6 => ?_) (fun h6 => ?_) | refine r_if_eqN (pc := 6) (tgt := 45) dX0_mind_6 (by decide) (by omega) (fun h6 => ?_) (fun h6 => ?_) | refine r_if_eq (pc := 6) (tgt := 45) dX0_mind_6 (by decide) (fun h6 => ?_) (fun h6 => ?_)
      · skip
        exact absurd hp h6
      · skip
        refine r_ald0 (pc := 9) dX0_mind_9 ?_
        refine r_ild3 (pc := 10) dX0_mind_10 ?_
        refine r_iconst (v := nI 0) (pc := 11) dX0_mind_11 (by decide) ?_
        refine r_bipush (v := nI 60) (pc := 12) dX0_mind_12 (by decide) ?_
        refine r_cV (pc := 14) dX0_mind_14 cv_X0_236 (hS.k (c := 0) ow_0 kd_0) (ct_X0_isAhead W hN.1 hB.1 (by decide) (by decide)) rfl rfl (Nat.le_of_ble_eq_true rfl) (by first | decide | omega) ?_
        rintro _ _ ⟨rfl, rfl⟩
        first | refine r_if_eqZ (pc := 17) (tgt := 45) dX0_mind_17 (by decide) (fun h17 => ?_) (fun h17 => ?_) | refine r_if_eqN (pc := 17) (tgt := 45) dX0_mind_17 (by decide) (by omega) (fun h17 => ?_) (fun h17 => ?_) | refine r_if_eq (pc := 17) (tgt := 45) dX0_mind_17 (by decide) (fun h17 => ?_) (fun h17 => ?_)
        · skip
          refine r_iconst (v := -1) (pc := 45) dX0_mind_45 (by decide) ?_
          refine r_iret (pc := 46) dX0_mind_46 ?_
          exact ⟨s, rfl, rfl, hI⟩
        · skip
          exact absurd h17.2 hr
    | some n =>
      obtain ⟨n1, n2, n3, rfl⟩ := ahd_some hr
      subst h4
      subst h5
      refine r_ald0 (pc := 0) dX0_mind_0 ?_
      refine r_ild1 (pc := 1) dX0_mind_1 ?_
      refine r_ild2 (pc := 2) dX0_mind_2 ?_
      refine r_cV (pc := 3) dX0_mind_3 cv_X0_219 (hS.k (c := 0) ow_0 kd_0) (ct_X0_areTwo W S) rfl rfl (Nat.le_of_ble_eq_true rfl) (by first | decide | omega) ?_
      rintro _ _ ⟨rfl, rfl⟩
      first | refine r_if_eqZ (pc := 6) (tgt := 45) dX0_mind_6 (by decide) (fun h6 => ?_) (fun h6 => ?_) | refine r_if_eqN (pc := 6) (tgt := 45) dX0_mind_6 (by decide) (by omega) (fun h6 => ?_) (fun h6 => ?_) | refine r_if_eq (pc := 6) (tgt := 45) dX0_mind_6 (by decide) (fun h6 => ?_) (fun h6 => ?_)
      · skip
        exact absurd hp h6
      · skip
        refine r_ald0 (pc := 9) dX0_mind_9 ?_
        refine r_ild3 (pc := 10) dX0_mind_10 ?_
        refine r_iconst (v := nI 0) (pc := 11) dX0_mind_11 (by decide) ?_
        refine r_bipush (v := nI 60) (pc := 12) dX0_mind_12 (by decide) ?_
        refine r_cV (pc := 14) dX0_mind_14 cv_X0_236 (hS.k (c := 0) ow_0 kd_0) (ct_X0_isAhead W hN.1 hB.1 (by decide) (by decide)) rfl rfl (Nat.le_of_ble_eq_true rfl) (by first | decide | omega) ?_
        rintro _ _ ⟨rfl, rfl⟩
        first | refine r_if_eqZ (pc := 17) (tgt := 45) dX0_mind_17 (by decide) (fun h17 => ?_) (fun h17 => ?_) | refine r_if_eqN (pc := 17) (tgt := 45) dX0_mind_17 (by decide) (by omega) (fun h17 => ?_) (fun h17 => ?_) | refine r_if_eq (pc := 17) (tgt := 45) dX0_mind_17 (by decide) (fun h17 => ?_) (fun h17 => ?_)
        · skip
          exact absurd (by rw [nI_toInt (by omega)]; omega) h17
        · skip
          refine r_ald0 (pc := 20) dX0_mind_20 ?_
          refine x_getR (c := 0) hS ow_0 kd_0 (pc := 21) dX0_mind_21 fl_X0_73 (fx_0_10 hX) ?_
          refine r_ald0 (pc := 24) dX0_mind_24 ?_
          refine x_getR (c := 0) hS ow_0 kd_0 (pc := 25) dX0_mind_25 fl_X0_69 (fx_0_9 hX) ?_
          refine r_cV (pc := 28) dX0_mind_28 cv_X0_239 (hS.k (c := 68) (st_ow isS_68) (st_kd isS_68)) (ct_X5_copy hS hX isS_68 isS_12 (by decide) hN hn8 hR hpm) rfl rfl (Nat.le_of_ble_eq_true rfl) (by first | decide | omega) ?_
          rintro _ _ ⟨s1, rfl, rfl, hN1, hR1, hr1, hF1⟩
          have W1 := hI.copyd hr1 hF1
          refine r_ild3 (pc := 31) dX0_mind_31 ?_
          refine r_cV (pc := 32) dX0_mind_32 cv_X0_243 (hS.k (c := 68) (st_ow isS_68) (st_kd isS_68)) (ct_X5_years W1 isS_68 hN1 hR1 hB (by omega) (by omega)) rfl rfl (Nat.le_of_ble_eq_true rfl) (by first | decide | omega) ?_
          rintro _ _ ⟨s2, rfl, rfl, hQ⟩
          have hQ := hQ.from (hF1.mono (fun c hc => Or.inl hc))
          have hX := hQ.1.X
          refine x_getRN (c := 68) hS (st_ow isS_68) (st_kd isS_68) (pc := 35) dX0_mind_35 (fn_X0_223 hg) (fs_8 hX isS_68) ?_
          refine r_ild1 (pc := 38) dX0_mind_38 ?_
          refine x_aald (c := (68 + 6)) (j := u.1) hS (st_ow6 isS_68) (st_kd6 isS_68) (by decide) (st_ln6 isS_68) (pc := 39) dX0_mind_39 (by omega) (by omega) (fs_th hX isS_68 (by omega)) ?_
          refine r_ild2 (pc := 40) dX0_mind_40 ?_
          refine x_iald (c := (68 + (7 + u.1))) hS (th_ow isS_68 (by omega)) (th_kd isS_68 (by omega)) (th_ln isS_68 (by omega)) (pc := 41) dX0_mind_41 (by omega) (by omega) ?_
          refine Bd.eqI (hQ.2.1.2.2.2.2.2.2.2 u.1 h1 u.2 h2) ?_
          refine r_goto (pc := 42) (tgt := 46) dX0_mind_42 (by decide) ?_
          refine r_iret (pc := 46) dX0_mind_46 ?_
          exact ⟨s2, rfl, rfl, hQ.I hI hG⟩
end X22
