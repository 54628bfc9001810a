set_option maxRecDepth 100000
/-! RETOUCHED: the best change; one who comes -/
section X26
variable {g : GC} {M : MM} {o ta : Nat} {P : Nat → Prop} {s : XS} {q : Sg}
def oF1 (x : Nat × Option (Nat × Nat)) : Int32 := oI (x.2.map (fun z => z.1))
def oF2 (x : Nat × Option (Nat × Nat)) : Int32 := oI (x.2.map (fun z => z.2))
/-- a try that goes on with a state's years -/
theorem tryYears {T : Te} {s1 s2 : XS} {t : St} {L : List Ev} (hI : IX g M o P ta s q) (hG : GI q) (hF : FrX (stP 68) s s1) (h : YrQ g M o P ta T 68 s1 t L s2) : IX g M o P ta s2 q := (h.from (hF.mono (fun c hc => Or.inl hc))).I hI hG
theorem xchgB {m a : Nat} {y : Int32} {Q : Option Value → MM → Prop} (hG : GI q) (hm : m ≤ 20) (hy0 : yr (gS q) ≤ 999) (ha : a < tH (gT q)) : ∀ k b s1 x x8, b + k = tH (gT q) → a < b → x.1 ≤ 792 → IX g M o P ta s1 q →
    (∀ s2 x7 x8, IX g M o P ta s2 q → (chgsB (gT q) (gS q) m a k b x).1 ≤ 792 → Bd g yX0_changed cX0_changed 9 (some Jvm.ClassFile.FieldType.int) [] 434 0 0 (putX M o s2) 50 [some (.ref o), some (.int (nI m)), some (.int y), some (.int (nI (chgsB (gT q) (gS q) m a k b x).1)), some (.int (oF1 (chgsB (gT q) (gS q) m a k b x))), some (.int (oF2 (chgsB (gT q) (gS q) m a k b x))), some (.int (nI (a + 1))), x7, x8] [] Q noX) →
    Bd g yX0_changed cX0_changed 9 (some Jvm.ClassFile.FieldType.int) [] 434 0 0 (putX M o s1) 68 [some (.ref o), some (.int (nI m)), some (.int y), some (.int (nI x.1)), some (.int (oF1 x)), some (.int (oF2 x)), some (.int (nI a)), some (.int (nI b)), x8] [] Q noX := by
  intro k
  induction k with
  | zero =>
    intro b s1 x x8 hb hab hx hI K
    have W := hI.W
    have S := hI.So
    have hg := W.gx
    have hS := W.S
    have hX := W.X
    have hTB := W.B
    have hn8 := hTB.1
    have hH9 := hTB.2.1
    have hN := hI.nw.1
    have hR := hI.nw.2
    have hB : SB (tn (gT q)) (gS q) := hG.2.2.2.2.2.1.1
    obtain ⟨t0, t1, t2, -⟩ := W.2.2.2.2.2.1
    have hIH : mI (putX M o s1) ta 1 = nI (tH (gT q)) := (mI_putXn (W.2.2.2.1 ta t0)).trans t2
    refine r_ild7 (pc := 68) dX0_changed_68 ?_
    refine r_ald0 (pc := 70) dX0_changed_70 ?_
    refine x_getR (c := 0) hS ow_0 kd_0 (pc := 71) dX0_changed_71 fl_X0_31 W.ht ?_
    refine r_getIN (pc := 74) dX0_changed_74 (fn_X0_146 hg) t1 ?_
    rw [hIH]
    first | refine r_icmp_geN (pc := 77) (tgt := 133) dX0_changed_77 (by decide) (by omega) (by omega) (fun h77 => ?_) (fun h77 => ?_) | refine r_icmp_ge (pc := 77) (tgt := 133) dX0_changed_77 (by decide) (fun h77 => ?_) (fun h77 => ?_)
    · skip
      first | refine r_iinc6N (j := 1) (pc := 133) dX0_changed_133 rfl ?_ | refine r_iinc6 (pc := 133) dX0_changed_133 ?_
      refine r_goto (pc := 136) (tgt := 50) dX0_changed_136 (by decide) ?_
      exact K s1 _ _ hI hx
    · skip
      exact absurd h77 (by omega)
  | succ k ih =>
    intro b s1 x x8 hb hab hx hI K
    have W := hI.W
    have S := hI.So
    have hg := W.gx
    have hS := W.S
    have hX := W.X
    have hTB := W.B
    have hn8 := hTB.1
    have hH9 := hTB.2.1
    have hN := hI.nw.1
    have hR := hI.nw.2
    have hB : SB (tn (gT q)) (gS q) := hG.2.2.2.2.2.1.1
    obtain ⟨t0, t1, t2, -⟩ := W.2.2.2.2.2.1
    have hIH : mI (putX M o s1) ta 1 = nI (tH (gT q)) := (mI_putXn (W.2.2.2.1 ta t0)).trans t2
    obtain ⟨pm, hpm⟩ := hI.pm 68 isS_68
    have hBc := changesS_SB (a := a) (b := b) hB (by omega) (by omega)
    have hyc := changesS_yr (tn (gT q)) (gS q) a b
    have hl := lksS_le (T := gT q) (m := m) (t := changesS (tn (gT q)) (gS q) a b) hBc hn8 (by rw [hyc]; omega)
    have hK : ∀ x', chgS (gT q) (gS q) m a b x = x' → x'.1 ≤ 792 → ∀ s2 x8, IX g M o P ta s2 q → Bd g yX0_changed cX0_changed 9 (some Jvm.ClassFile.FieldType.int) [] 434 0 0 (putX M o s2) 68 [some (.ref o), some (.int (nI m)), some (.int y), some (.int (nI x'.1)), some (.int (oF1 x')), some (.int (oF2 x')), some (.int (nI a)), some (.int (nI (b + 1))), x8] [] Q noX := by
      intro x' hx' hle s2 x8 hI2
      have hch : chgsB (gT q) (gS q) m a (k + 1) b x = chgsB (gT q) (gS q) m a k (b + 1) x' := by rw [← hx']; rfl
      rw [hch] at K
      exact ih (b + 1) s2 x' x8 (by omega) (by omega) hle hI2 K
    refine r_ild7 (pc := 68) dX0_changed_68 ?_
    refine r_ald0 (pc := 70) dX0_changed_70 ?_
    refine x_getR (c := 0) hS ow_0 kd_0 (pc := 71) dX0_changed_71 fl_X0_31 W.ht ?_
    refine r_getIN (pc := 74) dX0_changed_74 (fn_X0_146 hg) t1 ?_
    rw [hIH]
    first | refine r_icmp_geN (pc := 77) (tgt := 133) dX0_changed_77 (by decide) (by omega) (by omega) (fun h77 => ?_) (fun h77 => ?_) | refine r_icmp_ge (pc := 77) (tgt := 133) dX0_changed_77 (by decide) (fun h77 => ?_) (fun h77 => ?_)
    · skip
      exact absurd h77 (by omega)
    · skip
      refine r_ald0 (pc := 80) dX0_changed_80 ?_
      refine x_getR (c := 0) hS ow_0 kd_0 (pc := 81) dX0_changed_81 fl_X0_73 (fx_0_10 hX) ?_
      refine r_ald0 (pc := 84) dX0_changed_84 ?_
      refine x_getR (c := 0) hS ow_0 kd_0 (pc := 85) dX0_changed_85 fl_X0_69 (fx_0_9 hX) ?_
      refine r_cV (pc := 88) dX0_changed_88 cv_X0_239 (hS.k (c := 68) (st_ow isS_68) (st_kd isS_68)) (ct_X5_copy hS hX isS_68 isS_12 (by decide) hN hn8 hR hpm) rfl rfl (Nat.le_of_ble_eq_true rfl) (by first | decide | omega) ?_
      rintro _ _ ⟨s2, rfl, rfl, hN1, hR1, hr1, hF1⟩
      have hX1 : FxX (rX s2) o := by rw [hr1]; exact hX
      refine r_ild6 (pc := 91) dX0_changed_91 ?_
      refine r_ild7 (pc := 93) dX0_changed_93 ?_
      refine r_cV (pc := 95) dX0_changed_95 cv_X0_250 (hS.k (c := 68) (st_ow isS_68) (st_kd isS_68)) (ct_X5_changes hS hX1 isS_68 hN1 hB hn8 (by omega) (by omega)) rfl rfl (Nat.le_of_ble_eq_true rfl) (by first | decide | omega) ?_
      rintro _ _ ⟨s3, rfl, rfl, hN2, hr2, hF2⟩
      have hF3 : FrX (stP 68) s1 s3 := hF1.trans (hF2.mono (fun c hc => ⟨by omega, by omega⟩))
      have hR3 : RX s3 o 68 (gK q) := hR1.fr (fun c j hc => by rw [hF2.1 c (by omega)]) (fun j => by rw [hr2])
      have W3 := hI.copyd (hr2.trans hr1) hF3
      refine r_ild1 (pc := 98) dX0_changed_98 ?_
      refine r_cV (pc := 99) dX0_changed_99 cv_X0_243 (hS.k (c := 68) (st_ow isS_68) (st_kd isS_68)) (ct_X5_years W3 isS_68 hN2 hR3 hBc (by omega) (by rw [hyc]; omega)) rfl rfl (Nat.le_of_ble_eq_true rfl) (by first | decide | omega) ?_
      rintro _ _ ⟨s4, rfl, rfl, hQ⟩
      have hI4 := tryYears hI hG hF3 hQ
      refine r_cV (pc := 102) dX0_changed_102 cv_X0_184 (hS.k (c := 68) (st_ow isS_68) (st_kd isS_68)) (ct_X5_looks hS hQ.1.X isS_68 hQ.2.1 hn8) rfl rfl (Nat.le_of_ble_eq_true rfl) (by first | decide | omega) ?_
      rintro _ _ ⟨rfl, rfl⟩
      rw [show sumN (lk (yearsS (gT q) m (changesS (tn (gT q)) (gS q) a b)).1) (tn (gT q)) = lksS (gT q) m (changesS (tn (gT q)) (gS q) a b) from rfl]
      generalize hz : lksS (gT q) m (changesS (tn (gT q)) (gS q) a b) = z at hl ⊢
      refine r_ist8 (pc := 105) dX0_changed_105 ?_
      refine r_ild8 (pc := 107) dX0_changed_107 ?_
      refine r_ild3 (pc := 109) dX0_changed_109 ?_
      first | refine r_icmp_gtN (pc := 110) (tgt := 116) dX0_changed_110 (by decide) (by omega) (by omega) (fun h110 => ?_) (fun h110 => ?_) | refine r_icmp_gt (pc := 110) (tgt := 116) dX0_changed_110 (by decide) (fun h110 => ?_) (fun h110 => ?_)
      · skip
        have hcs : chgS (gT q) (gS q) m a b x = (z, some (a, b)) := by unfold chgS; rw [hz]; exact if_pos (by omega)
        refine r_ild8 (pc := 116) dX0_changed_116 ?_
        refine r_ist3 (pc := 118) dX0_changed_118 ?_
        refine r_ild6 (pc := 119) dX0_changed_119 ?_
        refine r_ist4 (pc := 121) dX0_changed_121 ?_
        refine r_ild7 (pc := 123) dX0_changed_123 ?_
        refine r_ist5 (pc := 125) dX0_changed_125 ?_
        first | refine r_iinc7N (j := 1) (pc := 127) dX0_changed_127 rfl ?_ | refine r_iinc7 (pc := 127) dX0_changed_127 ?_
        refine r_goto (pc := 130) (tgt := 68) dX0_changed_130 (by decide) ?_
        first | exact hK x hcs hx s4 _ hI4 | exact hK (z, some (a, b)) hcs hl s4 _ hI4
      · skip
        have hcs : chgS (gT q) (gS q) m a b x = x := by unfold chgS; rw [hz]; exact if_neg (by omega)
        refine r_goto (pc := 113) (tgt := 127) dX0_changed_113 (by decide) ?_
        first | refine r_iinc7N (j := 1) (pc := 127) dX0_changed_127 rfl ?_ | refine r_iinc7 (pc := 127) dX0_changed_127 ?_
        refine r_goto (pc := 130) (tgt := 68) dX0_changed_130 (by decide) ?_
        first | exact hK x hcs hx s4 _ hI4 | exact hK (z, some (a, b)) hcs hl s4 _ hI4
theorem xchgA {m : Nat} {y : Int32} {Q : Option Value → MM → Prop} (hG : GI q) (hm : m ≤ 20) (hy0 : yr (gS q) ≤ 999) : ∀ k a s1 x x7 x8, a + k = tH (gT q) → x.1 ≤ 792 → IX g M o P ta s1 q →
    (∀ s2 x6 x7 x8, IX g M o P ta s2 q → (chgsA (gT q) (gS q) m k a x).1 ≤ 792 → Bd g yX0_changed cX0_changed 9 (some Jvm.ClassFile.FieldType.int) [] 434 0 0 (putX M o s2) 139 [some (.ref o), some (.int (nI m)), some (.int y), some (.int (nI (chgsA (gT q) (gS q) m k a x).1)), some (.int (oF1 (chgsA (gT q) (gS q) m k a x))), some (.int (oF2 (chgsA (gT q) (gS q) m k a x))), x6, x7, x8] [] Q noX) →
    Bd g yX0_changed cX0_changed 9 (some Jvm.ClassFile.FieldType.int) [] 434 0 0 (putX M o s1) 50 [some (.ref o), some (.int (nI m)), some (.int y), some (.int (nI x.1)), some (.int (oF1 x)), some (.int (oF2 x)), some (.int (nI a)), x7, x8] [] Q noX := by
  intro k
  induction k with
  | zero =>
    intro a s1 x x7 x8 ha hx hI K
    have W := hI.W
    have S := hI.So
    have hg := W.gx
    have hS := W.S
    have hX := W.X
    have hTB := W.B
    have hn8 := hTB.1
    have hH9 := hTB.2.1
    have hN := hI.nw.1
    have hR := hI.nw.2
    have hB : SB (tn (gT q)) (gS q) := hG.2.2.2.2.2.1.1
    obtain ⟨t0, t1, t2, -⟩ := W.2.2.2.2.2.1
    have hIH : mI (putX M o s1) ta 1 = nI (tH (gT q)) := (mI_putXn (W.2.2.2.1 ta t0)).trans t2
    refine r_ild6 (pc := 50) dX0_changed_50 ?_
    refine r_ald0 (pc := 52) dX0_changed_52 ?_
    refine x_getR (c := 0) hS ow_0 kd_0 (pc := 53) dX0_changed_53 fl_X0_31 W.ht ?_
    refine r_getIN (pc := 56) dX0_changed_56 (fn_X0_146 hg) t1 ?_
    rw [hIH]
    first | refine r_icmp_geN (pc := 59) (tgt := 139) dX0_changed_59 (by decide) (by omega) (by omega) (fun h59 => ?_) (fun h59 => ?_) | refine r_icmp_ge (pc := 59) (tgt := 139) dX0_changed_59 (by decide) (fun h59 => ?_) (fun h59 => ?_)
    · skip
      exact K s1 _ _ _ hI hx
    · skip
      exact absurd h59 (by omega)
  | succ k ih =>
    intro a s1 x x7 x8 ha hx hI K
    have W := hI.W
    have S := hI.So
    have hg := W.gx
    have hS := W.S
    have hX := W.X
    have hTB := W.B
    have hn8 := hTB.1
    have hH9 := hTB.2.1
    have hN := hI.nw.1
    have hR := hI.nw.2
    have hB : SB (tn (gT q)) (gS q) := hG.2.2.2.2.2.1.1
    obtain ⟨t0, t1, t2, -⟩ := W.2.2.2.2.2.1
    have hIH : mI (putX M o s1) ta 1 = nI (tH (gT q)) := (mI_putXn (W.2.2.2.1 ta t0)).trans t2
    refine r_ild6 (pc := 50) dX0_changed_50 ?_
    refine r_ald0 (pc := 52) dX0_changed_52 ?_
    refine x_getR (c := 0) hS ow_0 kd_0 (pc := 53) dX0_changed_53 fl_X0_31 W.ht ?_
    refine r_getIN (pc := 56) dX0_changed_56 (fn_X0_146 hg) t1 ?_
    rw [hIH]
    first | refine r_icmp_geN (pc := 59) (tgt := 139) dX0_changed_59 (by decide) (by omega) (by omega) (fun h59 => ?_) (fun h59 => ?_) | refine r_icmp_ge (pc := 59) (tgt := 139) dX0_changed_59 (by decide) (fun h59 => ?_) (fun h59 => ?_)
    · skip
      exact absurd h59 (by omega)
    · skip
      refine r_ild6 (pc := 62) dX0_changed_62 ?_
      refine r_iconst (v := nI 1) (pc := 64) dX0_changed_64 (by decide) ?_
      first | refine r_iaddN (pc := 65) dX0_changed_65 ?_ | refine r_iaddJ (pc := 65) dX0_changed_65 ?_ | refine r_iadd (pc := 65) dX0_changed_65 ?_
      refine r_ist7 (pc := 66) dX0_changed_66 ?_
      exact xchgB hG hm hy0 (by omega) (tH (gT q) - (a + 1)) (a + 1) s1 x _ (by omega) (by omega) hx hI (fun s2 x7 x8 hI2 hle => ih (a + 1) s2 _ x7 x8 (by omega) hle hI2 K)
theorem chxB_lt {T : Te} {t : St} {m a : Nat} : ∀ k b x, b + k = tH T → a < b → (∀ z, x.2 = some z → z.1 < tH T ∧ z.2 < tH T) → ∀ z, (chgsB T t m a k b x).2 = some z → z.1 < tH T ∧ z.2 < tH T
  | 0, _, _, _, _, h => h
  | k + 1, b, x, hb, hab, h => by
    refine chxB_lt k (b + 1) (chgS T t m a b x) (by omega) (by omega) (fun z hz => ?_)
    unfold chgS at hz
    split at hz
    · cases hz; exact ⟨by show a < tH T; omega, by show b < tH T; omega⟩
    · exact h z hz
theorem chxA_lt {T : Te} {t : St} {m : Nat} : ∀ k a x, a + k = tH T → (∀ z, x.2 = some z → z.1 < tH T ∧ z.2 < tH T) → ∀ z, (chgsA T t m k a x).2 = some z → z.1 < tH T ∧ z.2 < tH T
  | 0, _, _, _, h => h
  | k + 1, a, x, ha, h => chxA_lt k (a + 1) _ (by omega) (chxB_lt (tH T - (a + 1)) (a + 1) x (by omega) (by omega) h)
theorem xchgEnd {m w : Nat} {x6 x7 x8 : Option Value} (hI : IX g M o P ta s q) (hw : w < 3) (hle : (chgsA (gT q) (gS q) m (tH (gT q)) 0 (lksS (gT q) m (gS q), none)).1 ≤ 792) :
    Bd g yX0_changed cX0_changed 9 (some Jvm.ClassFile.FieldType.int) [] 434 0 0 (putX M o s) 139 [some (.ref o), some (.int (nI m)), some (.int (nI w)), some (.int (nI (chgsA (gT q) (gS q) m (tH (gT q)) 0 (lksS (gT q) m (gS q), none)).1)), some (.int (oF1 (chgsA (gT q) (gS q) m (tH (gT q)) 0 (lksS (gT q) m (gS q), none)))), some (.int (oF2 (chgsA (gT q) (gS q) m (tH (gT q)) 0 (lksS (gT q) m (gS q), none)))), x6, x7, x8] [] (QI g M o P ta q (.int (changedN q m w))) noX := by
  unfold changedN
  have hb := chxA_lt (T := gT q) (t := gS q) (m := m) (tH (gT q)) 0 (lksS (gT q) m (gS q), none) (by omega) (fun z h => by cases h)
  generalize chgsA (gT q) (gS q) m (tH (gT q)) 0 (lksS (gT q) m (gS q), none) = r at hle hb ⊢
  obtain ⟨r1, r2⟩ := r
  have hS := hI.W.S
  have hH9 := hI.W.B.2.1
  cases r2 with
  | none =>
    show Bd g yX0_changed cX0_changed 9 (some Jvm.ClassFile.FieldType.int) [] 434 0 0 (putX M o s) 139 [some (.ref o), some (.int (nI m)), some (.int (nI w)), some (.int (nI r1)), some (.int (-1)), some (.int (-1)), x6, x7, x8] [] _ noX
    refine r_ild4 (pc := 139) dX0_changed_139 ?_
    refine r_iconst (v := -1) (pc := 141) dX0_changed_141 (by decide) ?_
    first | refine r_icmp_neN (pc := 142) (tgt := 149) dX0_changed_142 (by decide) (by omega) (by omega) (fun h142 => ?_) (fun h142 => ?_) | refine r_icmp_ne (pc := 142) (tgt := 149) dX0_changed_142 (by decide) (fun h142 => ?_) (fun h142 => ?_)
    · skip
      exact absurd rfl h142
    · skip
      refine r_iconst (v := -1) (pc := 145) dX0_changed_145 (by decide) ?_
      refine r_goto (pc := 146) (tgt := 169) dX0_changed_146 (by decide) ?_
      refine r_iret (pc := 169) dX0_changed_169 ?_
      exact ⟨s, rfl, rfl, hI⟩
  | some z =>
    obtain ⟨z1, z2⟩ := z
    obtain ⟨b1, b2⟩ := hb (z1, z2) rfl
    have b1 : z1 < tH (gT q) := b1
    show Bd g yX0_changed cX0_changed 9 (some Jvm.ClassFile.FieldType.int) [] 434 0 0 (putX M o s) 139 [some (.ref o), some (.int (nI m)), some (.int (nI w)), some (.int (nI r1)), some (.int (nI z1)), some (.int (nI z2)), x6, x7, x8] [] (QI g M o P ta q (.int (if w = 0 then nI z1 else if w = 1 then nI z2 else nI r1))) noX
    have hw3 : w = 0 ∨ w = 1 ∨ w = 2 := by omega
    refine r_ild4 (pc := 139) dX0_changed_139 ?_
    refine r_iconst (v := -1) (pc := 141) dX0_changed_141 (by decide) ?_
    first | refine r_icmp_neN (pc := 142) (tgt := 149) dX0_changed_142 (by decide) (by omega) (by omega) (fun h142 => ?_) (fun h142 => ?_) | refine r_icmp_ne (pc := 142) (tgt := 149) dX0_changed_142 (by decide) (fun h142 => ?_) (fun h142 => ?_)
    · skip
      refine r_ild2 (pc := 149) dX0_changed_149 ?_
      refine r_if_neN (pc := 150) (tgt := 158) dX0_changed_150 (by decide) (by omega) (fun h150 => ?_) (fun h150 => ?_)
      · skip
        refine r_ild2 (pc := 158) dX0_changed_158 ?_
        refine r_iconst (v := nI 1) (pc := 159) dX0_changed_159 (by decide) ?_
        first | refine r_icmp_neN (pc := 160) (tgt := 168) dX0_changed_160 (by decide) (by omega) (by omega) (fun h160 => ?_) (fun h160 => ?_) | refine r_icmp_ne (pc := 160) (tgt := 168) dX0_changed_160 (by decide) (fun h160 => ?_) (fun h160 => ?_)
        · skip
          refine r_ild3 (pc := 168) dX0_changed_168 ?_
          refine r_iret (pc := 169) dX0_changed_169 ?_
          exact ⟨s, rfl, by first | rw [if_pos h150] | rw [if_neg h150, if_pos h160] | rw [if_neg h150, if_neg h160], hI⟩
        · skip
          refine r_ild5 (pc := 163) dX0_changed_163 ?_
          refine r_goto (pc := 165) (tgt := 169) dX0_changed_165 (by decide) ?_
          refine r_iret (pc := 169) dX0_changed_169 ?_
          exact ⟨s, rfl, by first | rw [if_pos h150] | rw [if_neg h150, if_pos h160] | rw [if_neg h150, if_neg h160], hI⟩
      · skip
        refine r_ild4 (pc := 153) dX0_changed_153 ?_
        refine r_goto (pc := 155) (tgt := 169) dX0_changed_155 (by decide) ?_
        refine r_iret (pc := 169) dX0_changed_169 ?_
        exact ⟨s, rfl, by first | rw [if_pos h150] | rw [if_neg h150, if_pos h160] | rw [if_neg h150, if_neg h160], hI⟩
    · skip
      exact absurd h142 (nI_m1 (by omega))
theorem px_changed {x y : Int32} (hI : IX g M o P ta s q) (hG : GI q) : Ct g yX0_changed cX0_changed 9 (some Jvm.ClassFile.FieldType.int) 434 0 0 [.ref o, .int x, .int y] (putX M o s) (QI g M o P ta q (.int (changedQ q x y))) noX := by
  have W := hI.W
  have S := hI.So
  have hg := W.gx
  have hS := W.S
  have hX := W.X
  have hTB := W.B
  have hn8 := hTB.1
  have hH9 := hTB.2.1
  have hN := hI.nw.1
  have hR := hI.nw.2
  have hB : SB (tn (gT q)) (gS q) := hG.2.2.2.2.2.1.1
  have hy0 : yr (gS q) ≤ 999 := hG.2.2.2.2.2.1.2.1
  obtain ⟨pm, hpm⟩ := hI.pm 68 isS_68
  refine Ct.of (by decide) (Nat.le_of_ble_eq_true rfl) rfl ?_
  unfold changedQ
  cases hr : ahd (gS q) x 1 20 with
  | none =>
    have hr := ahd_none hr
    refine r_ald0 (pc := 0) dX0_changed_0 ?_
    refine r_ild1 (pc := 1) dX0_changed_1 ?_
    refine r_iconst (v := nI 1) (pc := 2) dX0_changed_2 (by decide) ?_
    refine r_bipush (v := nI 20) (pc := 3) dX0_changed_3 (by decide) ?_
    refine r_cV (pc := 5) dX0_changed_5 cv_X0_236 (hS.k (c := 0) ow_0 kd_0) (ct_X0_isAhead W hN.1 hB.1 (by decide) (by decide)) rfl rfl (Nat.le_of_ble_eq_true rfl) (by first | decide | omega) ?_
    rintro _ _ ⟨rfl, rfl⟩
    first | refine r_if_eqZ (pc := 8) (tgt := 20) dX0_changed_8 (by decide) (fun h8 => ?_) (fun h8 => ?_) | refine r_if_eqN (pc := 8) (tgt := 20) dX0_changed_8 (by decide) (by omega) (fun h8 => ?_) (fun h8 => ?_) | refine r_if_eq (pc := 8) (tgt := 20) dX0_changed_8 (by decide) (fun h8 => ?_) (fun h8 => ?_)
    · skip
      refine r_iconst (v := -1) (pc := 20) dX0_changed_20 (by decide) ?_
      refine r_iret (pc := 21) dX0_changed_21 ?_
      exact ⟨s, rfl, rfl, hI⟩
    · skip
      exact absurd h8.2 hr
  | some m =>
    obtain ⟨n1, n2, n3, rfl⟩ := ahd_some hr
    cases hk : pidx y 3 with
    | none =>
      have hk := pidx_none hk
      refine r_ald0 (pc := 0) dX0_changed_0 ?_
      refine r_ild1 (pc := 1) dX0_changed_1 ?_
      refine r_iconst (v := nI 1) (pc := 2) dX0_changed_2 (by decide) ?_
      refine r_bipush (v := nI 20) (pc := 3) dX0_changed_3 (by decide) ?_
      refine r_cV (pc := 5) dX0_changed_5 cv_X0_236 (hS.k (c := 0) ow_0 kd_0) (ct_X0_isAhead W hN.1 hB.1 (by decide) (by decide)) rfl rfl (Nat.le_of_ble_eq_true rfl) (by first | decide | omega) ?_
      rintro _ _ ⟨rfl, rfl⟩
      first | refine r_if_eqZ (pc := 8) (tgt := 20) dX0_changed_8 (by decide) (fun h8 => ?_) (fun h8 => ?_) | refine r_if_eqN (pc := 8) (tgt := 20) dX0_changed_8 (by decide) (by omega) (fun h8 => ?_) (fun h8 => ?_) | refine r_if_eq (pc := 8) (tgt := 20) dX0_changed_8 (by decide) (fun h8 => ?_) (fun h8 => ?_)
      · skip
        refine r_iconst (v := -1) (pc := 20) dX0_changed_20 (by decide) ?_
        refine r_iret (pc := 21) dX0_changed_21 ?_
        exact ⟨s, rfl, rfl, hI⟩
      · skip
        refine r_ild2 (pc := 11) dX0_changed_11 ?_
        refine r_iconst (v := nI 0) (pc := 12) dX0_changed_12 (by decide) ?_
        refine r_iconst (v := nI 2) (pc := 13) dX0_changed_13 (by decide) ?_
        refine r_cS (pc := 14) dX0_changed_14 cs_X0_190 (ct_X0_is (v := y) (a := nI 0) (b := nI 2)) rfl rfl (Nat.le_of_ble_eq_true rfl) (by first | decide | omega) ?_
        rintro _ _ ⟨rfl, rfl⟩
        rw [nI_toInt (n := 0) (by decide), nI_toInt (n := 2) (by decide)]
        first | refine r_if_neZ (pc := 17) (tgt := 22) dX0_changed_17 (by decide) (fun h17 => ?_) (fun h17 => ?_) | refine r_if_neN (pc := 17) (tgt := 22) dX0_changed_17 (by decide) (by omega) (fun h17 => ?_) (fun h17 => ?_) | refine r_if_ne (pc := 17) (tgt := 22) dX0_changed_17 (by decide) (fun h17 => ?_) (fun h17 => ?_)
        · skip
          exact absurd h17 (by omega)
        · skip
          refine r_iconst (v := -1) (pc := 20) dX0_changed_20 (by decide) ?_
          refine r_iret (pc := 21) dX0_changed_21 ?_
          exact ⟨s, rfl, rfl, hI⟩
    | some w =>
      obtain ⟨hw, rfl⟩ := pidx_some hk
      by_cases hH : 0 < tH (gT q)
      · have hl0 := lksS_le (T := gT q) (m := m) (t := gS q) hB hn8 (by omega)
        refine r_ald0 (pc := 0) dX0_changed_0 ?_
        refine r_ild1 (pc := 1) dX0_changed_1 ?_
        refine r_iconst (v := nI 1) (pc := 2) dX0_changed_2 (by decide) ?_
        refine r_bipush (v := nI 20) (pc := 3) dX0_changed_3 (by decide) ?_
        refine r_cV (pc := 5) dX0_changed_5 cv_X0_236 (hS.k (c := 0) ow_0 kd_0) (ct_X0_isAhead W hN.1 hB.1 (by decide) (by decide)) rfl rfl (Nat.le_of_ble_eq_true rfl) (by first | decide | omega) ?_
        rintro _ _ ⟨rfl, rfl⟩
        first | refine r_if_eqZ (pc := 8) (tgt := 20) dX0_changed_8 (by decide) (fun h8 => ?_) (fun h8 => ?_) | refine r_if_eqN (pc := 8) (tgt := 20) dX0_changed_8 (by decide) (by omega) (fun h8 => ?_) (fun h8 => ?_) | refine r_if_eq (pc := 8) (tgt := 20) dX0_changed_8 (by decide) (fun h8 => ?_) (fun h8 => ?_)
        · skip
          exact absurd (by rw [nI_toInt (by omega)]; omega) h8
        · skip
          refine r_ild2 (pc := 11) dX0_changed_11 ?_
          refine r_iconst (v := nI 0) (pc := 12) dX0_changed_12 (by decide) ?_
          refine r_iconst (v := nI 2) (pc := 13) dX0_changed_13 (by decide) ?_
          refine r_cS (pc := 14) dX0_changed_14 cs_X0_190 (ct_X0_is (v := nI w) (a := nI 0) (b := nI 2)) rfl rfl (Nat.le_of_ble_eq_true rfl) (by first | decide | omega) ?_
          rintro _ _ ⟨rfl, rfl⟩
          rw [nI_toInt (n := 0) (by decide), nI_toInt (n := 2) (by decide), nI_toInt (n := w) (by omega)]
          first | refine r_if_neZ (pc := 17) (tgt := 22) dX0_changed_17 (by decide) (fun h17 => ?_) (fun h17 => ?_) | refine r_if_neN (pc := 17) (tgt := 22) dX0_changed_17 (by decide) (by omega) (fun h17 => ?_) (fun h17 => ?_) | refine r_if_ne (pc := 17) (tgt := 22) dX0_changed_17 (by decide) (fun h17 => ?_) (fun h17 => ?_)
          · skip
            refine r_ald0 (pc := 22) dX0_changed_22 ?_
            refine x_getR (c := 0) hS ow_0 kd_0 (pc := 23) dX0_changed_23 fl_X0_73 (fx_0_10 hX) ?_
            refine r_ald0 (pc := 26) dX0_changed_26 ?_
            refine x_getR (c := 0) hS ow_0 kd_0 (pc := 27) dX0_changed_27 fl_X0_69 (fx_0_9 hX) ?_
            refine r_cV (pc := 30) dX0_changed_30 cv_X0_239 (hS.k (c := 68) (st_ow isS_68) (st_kd isS_68)) (ct_X5_copy hS hX isS_68 isS_12 (by decide) hN hn8 hR hpm) rfl rfl (Nat.le_of_ble_eq_true rfl) (by first | decide | omega) ?_
            rintro _ _ ⟨s1, rfl, rfl, hN1, hR1, hr1, hF1⟩
            have W1 := hI.copyd hr1 hF1
            refine r_ild1 (pc := 33) dX0_changed_33 ?_
            refine r_cV (pc := 34) dX0_changed_34 cv_X0_243 (hS.k (c := 68) (st_ow isS_68) (st_kd isS_68)) (ct_X5_years W1 isS_68 hN1 hR1 hB (by omega) (by omega)) rfl rfl (Nat.le_of_ble_eq_true rfl) (by first | decide | omega) ?_
            rintro _ _ ⟨s2, rfl, rfl, hQ⟩
            have hI2 := tryYears hI hG hF1 hQ
            refine r_cV (pc := 37) dX0_changed_37 cv_X0_184 (hS.k (c := 68) (st_ow isS_68) (st_kd isS_68)) (ct_X5_looks hS hQ.1.X isS_68 hQ.2.1 hn8) rfl rfl (Nat.le_of_ble_eq_true rfl) (by first | decide | omega) ?_
            rintro _ _ ⟨rfl, rfl⟩
            refine r_ist3 (pc := 40) dX0_changed_40 ?_
            refine r_iconst (v := -1) (pc := 41) dX0_changed_41 (by decide) ?_
            refine r_ist4 (pc := 42) dX0_changed_42 ?_
            refine r_iconst (v := -1) (pc := 44) dX0_changed_44 (by decide) ?_
            refine r_ist5 (pc := 45) dX0_changed_45 ?_
            refine r_iconst (v := nI 0) (pc := 47) dX0_changed_47 (by decide) ?_
            refine r_ist6 (pc := 48) dX0_changed_48 ?_
            refine xchgA hG n2 hy0 (tH (gT q)) 0 s2 (lksS (gT q) m (gS q), none) none none (by omega) hl0 hI2 (fun s3 x6 x7 x8 hI3 hle => ?_)
            exact xchgEnd hI3 hw hle
          · skip
            exact absurd (by omega) h17
      · have hc : changedN q m w = -1 := by
          unfold changedN; rw [show tH (gT q) = 0 by omega]; rfl
        refine r_ald0 (pc := 0) dX0_changed_0 ?_
        refine r_ild1 (pc := 1) dX0_changed_1 ?_
        refine r_iconst (v := nI 1) (pc := 2) dX0_changed_2 (by decide) ?_
        refine r_bipush (v := nI 20) (pc := 3) dX0_changed_3 (by decide) ?_
        refine r_cV (pc := 5) dX0_changed_5 cv_X0_236 (hS.k (c := 0) ow_0 kd_0) (ct_X0_isAhead W hN.1 hB.1 (by decide) (by decide)) rfl rfl (Nat.le_of_ble_eq_true rfl) (by first | decide | omega) ?_
        rintro _ _ ⟨rfl, rfl⟩
        first | refine r_if_eqZ (pc := 8) (tgt := 20) dX0_changed_8 (by decide) (fun h8 => ?_) (fun h8 => ?_) | refine r_if_eqN (pc := 8) (tgt := 20) dX0_changed_8 (by decide) (by omega) (fun h8 => ?_) (fun h8 => ?_) | refine r_if_eq (pc := 8) (tgt := 20) dX0_changed_8 (by decide) (fun h8 => ?_) (fun h8 => ?_)
        · skip
          refine r_iconst (v := -1) (pc := 20) dX0_changed_20 (by decide) ?_
          refine r_iret (pc := 21) dX0_changed_21 ?_
          exact ⟨s, rfl, by simp only [hc], hI⟩
        · skip
          exact absurd h8.1 hH
def oS1 (x : Option (Nat × Nat)) : Int32 := oI (x.map (fun z => z.1))
def oS2 (x : Option (Nat × Nat)) : Int32 := oI (x.map (fun z => z.2))
theorem comX_SB {n h f : Nat} {t : St} (hB : SB n t) (hh : h < 9) (hf : f ≤ 9) : SB (n + 1) (comesS n t h f) := by
  refine ⟨hB.1, fun p hp => ?_⟩
  refine ⟨?_, ?_, ?_, fun r hr => ?_⟩
  · show va_up (hs t) n h p < 9
    unfold va_up; split
    · exact hh
    · exact (hB.2 p (by omega)).1
  · show va_up (lk t) n (10 * f) p ≤ 99
    unfold va_up; split
    · omega
    · exact (hB.2 p (by omega)).2.1
  · show va_up (sp t) n 0 p ≤ 1
    unfold va_up; split
    · omega
    · exact (hB.2 p (by omega)).2.2.1
  · show (if p = n ∨ r = n then 5 else th t p r) ≤ 9
    split
    · omega
    · exact (hB.2 p (by omega)).2.2.2 r (by omega)
def strJ (h v : Nat) : Option (Nat × Nat) → Option (Nat × Nat)
  | none => some (h, v)
  | some z => if z.2 < v then some (h, v) else some z
theorem strS_none {T : Te} {t : St} {f k m h : Nat} {x : Option (Nat × Nat)} (e : who t (tn T) h = none) : strS T t f k m h x = strJ h (strN T t f k m h) x := by
  unfold strS; rw [e]; cases x <;> rfl
theorem xstrLoop {f k m : Nat} {v : Int32} {Q : Option Value → MM → Prop} (hG : GI q) (hm : m ≤ 20) (hy0 : yr (gS q) ≤ 999) (hf : f ≤ 9) (hk : k ≤ 9) (hn7 : tn (gT q) < 8) : ∀ c h s1 x x8, h + c = tH (gT q) → (∀ z, x = some z → z.2 ≤ 99) → IX g M o P ta s1 q →
    (∀ s2 x7 x8, IX g M o P ta s2 q → Bd g yX0_stranger cX0_stranger 9 (some Jvm.ClassFile.FieldType.int) [] 434 0 0 (putX M o s2) 145 [some (.ref o), some (.int (nI f)), some (.int (nI k)), some (.int (nI m)), some (.int v), some (.int (oS1 (strsS (gT q) (gS q) f k m c h x))), some (.int (oS2 (strsS (gT q) (gS q) f k m c h x))), x7, x8] [] Q noX) →
    Bd g yX0_stranger cX0_stranger 9 (some Jvm.ClassFile.FieldType.int) [] 434 0 0 (putX M o s1) 61 [some (.ref o), some (.int (nI f)), some (.int (nI k)), some (.int (nI m)), some (.int v), some (.int (oS1 x)), some (.int (oS2 x)), some (.int (nI h)), x8] [] Q noX := by
  intro c
  induction c with
  | zero =>
    intro h s1 x x8 hh hx hI K
    have W := hI.W
    have S := hI.So
    have hg := W.gx
    have hS := W.S
    have hX := W.X
    have hTB := W.B
    have hn8 := hTB.1
    have hH9 := hTB.2.1
    have hN := hI.nw.1
    have hR := hI.nw.2
    have hB : SB (tn (gT q)) (gS q) := hG.2.2.2.2.2.1.1
    obtain ⟨t0, t1, t2, -⟩ := W.2.2.2.2.2.1
    have hIH : mI (putX M o s1) ta 1 = nI (tH (gT q)) := (mI_putXn (W.2.2.2.1 ta t0)).trans t2
    refine r_ild7 (pc := 61) dX0_stranger_61 ?_
    refine r_ald0 (pc := 63) dX0_stranger_63 ?_
    refine x_getR (c := 0) hS ow_0 kd_0 (pc := 64) dX0_stranger_64 fl_X0_31 W.ht ?_
    refine r_getIN (pc := 67) dX0_stranger_67 (fn_X0_146 hg) t1 ?_
    rw [hIH]
    first | refine r_icmp_geN (pc := 70) (tgt := 145) dX0_stranger_70 (by decide) (by omega) (by omega) (fun h70 => ?_) (fun h70 => ?_) | refine r_icmp_ge (pc := 70) (tgt := 145) dX0_stranger_70 (by decide) (fun h70 => ?_) (fun h70 => ?_)
    · skip
      exact K s1 _ _ hI
    · skip
      exact absurd h70 (by omega)
  | succ c ih =>
    intro h s1 x x8 hh hx hI K
    have W := hI.W
    have S := hI.So
    have hg := W.gx
    have hS := W.S
    have hX := W.X
    have hTB := W.B
    have hn8 := hTB.1
    have hH9 := hTB.2.1
    have hN := hI.nw.1
    have hR := hI.nw.2
    have hB : SB (tn (gT q)) (gS q) := hG.2.2.2.2.2.1.1
    obtain ⟨t0, t1, t2, -⟩ := W.2.2.2.2.2.1
    have hIH : mI (putX M o s1) ta 1 = nI (tH (gT q)) := (mI_putXn (W.2.2.2.1 ta t0)).trans t2
    obtain ⟨pm, hpm⟩ := hI.pm 68 isS_68
    have hK : ∀ x', strS (gT q) (gS q) f k m h x = x' → (∀ z, x' = some z → z.2 ≤ 99) → ∀ s2 x8, IX g M o P ta s2 q → Bd g yX0_stranger cX0_stranger 9 (some Jvm.ClassFile.FieldType.int) [] 434 0 0 (putX M o s2) 61 [some (.ref o), some (.int (nI f)), some (.int (nI k)), some (.int (nI m)), some (.int v), some (.int (oS1 x')), some (.int (oS2 x')), some (.int (nI (h + 1))), x8] [] Q noX := by
      intro x' hx' hle s2 x8 hI2
      have hch : strsS (gT q) (gS q) f k m (c + 1) h x = strsS (gT q) (gS q) f k m c (h + 1) x' := by rw [← hx']; rfl
      rw [hch] at K
      exact ih (h + 1) s2 x' x8 (by omega) hle hI2 K
    cases e1 : who (gS q) (tn (gT q)) h with
    | some p =>
      have hp := who_lt e1
      have hs0 : strS (gT q) (gS q) f k m h x = x := by unfold strS; rw [e1]
      refine r_ild7 (pc := 61) dX0_stranger_61 ?_
      refine r_ald0 (pc := 63) dX0_stranger_63 ?_
      refine x_getR (c := 0) hS ow_0 kd_0 (pc := 64) dX0_stranger_64 fl_X0_31 W.ht ?_
      refine r_getIN (pc := 67) dX0_stranger_67 (fn_X0_146 hg) t1 ?_
      rw [hIH]
      first | refine r_icmp_geN (pc := 70) (tgt := 145) dX0_stranger_70 (by decide) (by omega) (by omega) (fun h70 => ?_) (fun h70 => ?_) | refine r_icmp_ge (pc := 70) (tgt := 145) dX0_stranger_70 (by decide) (fun h70 => ?_) (fun h70 => ?_)
      · skip
        exact absurd h70 (by omega)
      · skip
        refine r_ald0 (pc := 73) dX0_stranger_73 ?_
        refine x_getR (c := 0) hS ow_0 kd_0 (pc := 74) dX0_stranger_74 fl_X0_69 (fx_0_9 hX) ?_
        refine r_ild7 (pc := 77) dX0_stranger_77 ?_
        refine r_cV (pc := 79) dX0_stranger_79 cv_X0_204 (hS.k (c := 12) (st_ow isS_12) (st_kd isS_12)) (ct_X5_who hS hX isS_12 hN hB hn8 (by omega)) rfl rfl (Nat.le_of_ble_eq_true rfl) (by first | decide | omega) ?_
        rintro _ _ ⟨rfl, rfl⟩
        rw [e1, oI_some]
        refine r_iconst (v := -1) (pc := 82) dX0_stranger_82 (by decide) ?_
        first | refine r_icmp_eqN (pc := 83) (tgt := 89) dX0_stranger_83 (by decide) (by omega) (by omega) (fun h83 => ?_) (fun h83 => ?_) | refine r_icmp_eq (pc := 83) (tgt := 89) dX0_stranger_83 (by decide) (fun h83 => ?_) (fun h83 => ?_)
        · skip
          exact absurd h83 (nI_m1 (by omega))
        · skip
          refine r_goto (pc := 86) (tgt := 139) dX0_stranger_86 (by decide) ?_
          first | refine r_iinc7N (j := 1) (pc := 139) dX0_stranger_139 rfl ?_ | refine r_iinc7 (pc := 139) dX0_stranger_139 ?_
          refine r_goto (pc := 142) (tgt := 61) dX0_stranger_142 (by decide) ?_
          exact hK x hs0 hx s1 _ hI
    | none =>
      have hTc := comesT_TB (f := f) (k := k) hTB hn7 hf hk
      have hBc : SB (tn (comesT (gT q) f k)) (comesS (tn (gT q)) (gS q) h f) := comX_SB hB (by omega) hf
      have hBy := yearsS_SB m (comesT (gT q) f k) (comesS (tn (gT q)) (gS q) h f) hBc (by show yr (gS q) + m ≤ 2000; omega)
      have hl : strN (gT q) (gS q) f k m h ≤ 99 := (hBy.2 (tn (gT q)) (by show tn (gT q) < tn (gT q) + 1; omega)).2.1
      have hs0 := strS_none (f := f) (k := k) (m := m) (x := x) e1
      refine r_ild7 (pc := 61) dX0_stranger_61 ?_
      refine r_ald0 (pc := 63) dX0_stranger_63 ?_
      refine x_getR (c := 0) hS ow_0 kd_0 (pc := 64) dX0_stranger_64 fl_X0_31 W.ht ?_
      refine r_getIN (pc := 67) dX0_stranger_67 (fn_X0_146 hg) t1 ?_
      rw [hIH]
      first | refine r_icmp_geN (pc := 70) (tgt := 145) dX0_stranger_70 (by decide) (by omega) (by omega) (fun h70 => ?_) (fun h70 => ?_) | refine r_icmp_ge (pc := 70) (tgt := 145) dX0_stranger_70 (by decide) (fun h70 => ?_) (fun h70 => ?_)
      · skip
        exact absurd h70 (by omega)
      · skip
        refine r_ald0 (pc := 73) dX0_stranger_73 ?_
        refine x_getR (c := 0) hS ow_0 kd_0 (pc := 74) dX0_stranger_74 fl_X0_69 (fx_0_9 hX) ?_
        refine r_ild7 (pc := 77) dX0_stranger_77 ?_
        refine r_cV (pc := 79) dX0_stranger_79 cv_X0_204 (hS.k (c := 12) (st_ow isS_12) (st_kd isS_12)) (ct_X5_who hS hX isS_12 hN hB hn8 (by omega)) rfl rfl (Nat.le_of_ble_eq_true rfl) (by first | decide | omega) ?_
        rintro _ _ ⟨rfl, rfl⟩
        rw [e1, oI_none]
        refine r_iconst (v := -1) (pc := 82) dX0_stranger_82 (by decide) ?_
        first | refine r_icmp_eqN (pc := 83) (tgt := 89) dX0_stranger_83 (by decide) (by omega) (by omega) (fun h83 => ?_) (fun h83 => ?_) | refine r_icmp_eq (pc := 83) (tgt := 89) dX0_stranger_83 (by decide) (fun h83 => ?_) (fun h83 => ?_)
        · skip
          refine r_ald0 (pc := 89) dX0_stranger_89 ?_
          refine x_getR (c := 0) hS ow_0 kd_0 (pc := 90) dX0_stranger_90 fl_X0_73 (fx_0_10 hX) ?_
          refine r_ald0 (pc := 93) dX0_stranger_93 ?_
          refine x_getR (c := 0) hS ow_0 kd_0 (pc := 94) dX0_stranger_94 fl_X0_69 (fx_0_9 hX) ?_
          refine r_cV (pc := 97) dX0_stranger_97 cv_X0_239 (hS.k (c := 68) (st_ow isS_68) (st_kd isS_68)) (ct_X5_copy hS hX isS_68 isS_12 (by decide) hN hn8 hR hpm) rfl rfl (Nat.le_of_ble_eq_true rfl) (by first | decide | omega) ?_
          rintro _ _ ⟨s2, rfl, rfl, hN1, hR1, hr1, hF1⟩
          have hX1 : FxX (rX s2) o := by rw [hr1]; exact hX
          refine r_ild7 (pc := 100) dX0_stranger_100 ?_
          refine r_ild1 (pc := 102) dX0_stranger_102 ?_
          refine r_ild2 (pc := 103) dX0_stranger_103 ?_
          refine r_cV (pc := 104) dX0_stranger_104 cv_X0_254 (hS.k (c := 68) (st_ow isS_68) (st_kd isS_68)) (ct_X5_comes hS hX1 isS_68 hN1 (by omega) hf) rfl rfl (Nat.le_of_ble_eq_true rfl) (by first | decide | omega) ?_
          rintro _ _ ⟨s3, rfl, rfl, hN2, hr2, hF2, hE2⟩
          have hF3 : FrX (stP 68) s1 s3 := hF1.trans hF2
          have hR3 : RX s3 o 68 (gK q) := hR1.fr (fun c j hc => hE2 c j (by omega)) (fun j => by rw [hr2])
          have W3 := (hI.copyd (hr2.trans hr1) hF3).te (T' := comesT (gT q) f k) rfl rfl hTc
          refine r_ild3 (pc := 107) dX0_stranger_107 ?_
          refine r_cV (pc := 108) dX0_stranger_108 cv_X0_243 (hS.k (c := 68) (st_ow isS_68) (st_kd isS_68)) (ct_X5_years W3 isS_68 hN2 hR3 hBc (by omega) (by show yr (gS q) + m ≤ 2000; omega)) rfl rfl (Nat.le_of_ble_eq_true rfl) (by first | decide | omega) ?_
          rintro _ _ ⟨s4, rfl, rfl, hQ⟩
          have hI4 := tryYears hI hG hF3 hQ
          have hX := hQ.1.X
          refine x_getRN (c := 68) hS (st_ow isS_68) (st_kd isS_68) (pc := 111) dX0_stranger_111 (fn_X0_174 hg) (fs_4 hX isS_68) ?_
          refine r_ald0 (pc := 114) dX0_stranger_114 ?_
          refine r_cV (pc := 115) dX0_stranger_115 cv_X0_158 (hS.k (c := 0) ow_0 kd_0) (ct_X0_people hI4.W hI4.So) rfl rfl (Nat.le_of_ble_eq_true rfl) (by first | decide | omega) ?_
          rintro _ _ ⟨rfl, rfl⟩
          refine x_iald (c := (68 + 2)) hS (st_ow2 isS_68) (st_kd2 isS_68) (st_ln2 isS_68) (pc := 118) dX0_stranger_118 (by omega) (by omega) ?_
          refine Bd.eqI (hQ.2.1.2.2.2.1 (tn (gT q)) (by show tn (gT q) < tn (gT q) + 1; omega)) ?_
          rw [show lk (yearsS (comesT (gT q) f k) m (comesS (tn (gT q)) (gS q) h f)).1 (tn (gT q)) = strN (gT q) (gS q) f k m h from rfl]
          generalize strN (gT q) (gS q) f k m h = z at hl hs0 ⊢
          refine r_ist8 (pc := 119) dX0_stranger_119 ?_
          cases x with
          | none =>
            refine r_ild8 (pc := 121) dX0_stranger_121 ?_
            refine r_ild6 (pc := 123) dX0_stranger_123 ?_
            refine r_icmp_gt (pc := 125) (tgt := 131) dX0_stranger_125 (by decide) (fun _ => ?_) (fun h125 => ?_)
            · refine r_ild8 (pc := 131) dX0_stranger_131 ?_
              refine r_ist6 (pc := 133) dX0_stranger_133 ?_
              refine r_ild7 (pc := 135) dX0_stranger_135 ?_
              refine r_ist5 (pc := 137) dX0_stranger_137 ?_
              refine r_iinc7N (j := 1) (pc := 139) dX0_stranger_139 rfl ?_
              refine r_goto (pc := 142) (tgt := 61) dX0_stranger_142 (by decide) ?_
              exact hK (some (h, z)) hs0 (fun w hw => by cases hw; exact hl) s4 _ hI4
            · exfalso
              exact h125 (by show (-1 : Int32) < nI z; rw [Int32.lt_iff_toInt_lt, nI_toInt (by omega)]; show (-1 : Int) < z; omega)
          | some u =>
            have hu := hx u rfl
            refine r_ild8 (pc := 121) dX0_stranger_121 ?_
            refine r_ild6 (pc := 123) dX0_stranger_123 ?_
            refine Bd.eqI (x' := nI u.2) rfl ?_
            refine r_icmp_gtN (pc := 125) (tgt := 131) dX0_stranger_125 (by decide) (by omega) (by omega) (fun h125 => ?_) (fun h125 => ?_)
            · refine r_ild8 (pc := 131) dX0_stranger_131 ?_
              refine r_ist6 (pc := 133) dX0_stranger_133 ?_
              refine r_ild7 (pc := 135) dX0_stranger_135 ?_
              refine r_ist5 (pc := 137) dX0_stranger_137 ?_
              refine r_iinc7N (j := 1) (pc := 139) dX0_stranger_139 rfl ?_
              refine r_goto (pc := 142) (tgt := 61) dX0_stranger_142 (by decide) ?_
              exact hK (some (h, z)) (hs0.trans (if_pos (by omega))) (fun w hw => by cases hw; exact hl) s4 _ hI4
            · refine r_goto (pc := 128) (tgt := 139) dX0_stranger_128 (by decide) ?_
              refine r_iinc7N (j := 1) (pc := 139) dX0_stranger_139 rfl ?_
              refine r_goto (pc := 142) (tgt := 61) dX0_stranger_142 (by decide) ?_
              exact hK (some u) (hs0.trans (if_neg (by omega))) hx s4 _ hI4
        · skip
          exact absurd rfl h83
theorem xstrEnd {f k m v : Nat} {a b c : Int32} {x7 x8 : Option Value} (hI : IX g M o P ta s q) (hv : v < 2) (hc : (if v = 0 then a else b) = c) : Bd g yX0_stranger cX0_stranger 9 (some Jvm.ClassFile.FieldType.int) [] 434 0 0 (putX M o s) 145 [some (.ref o), some (.int (nI f)), some (.int (nI k)), some (.int (nI m)), some (.int (nI v)), some (.int a), some (.int b), x7, x8] [] (QI g M o P ta q (.int c)) noX := by
  refine r_ild4 (pc := 145) dX0_stranger_145 ?_
  refine r_if_neN (pc := 147) (tgt := 155) dX0_stranger_147 (by decide) (by omega) (fun h147 => ?_) (fun h147 => ?_)
  · skip
    refine r_ild6 (pc := 155) dX0_stranger_155 ?_
    refine r_iret (pc := 157) dX0_stranger_157 ?_
    exact ⟨s, rfl, by first | rw [← hc, if_pos h147] | rw [← hc, if_neg h147], hI⟩
  · skip
    refine r_ild5 (pc := 150) dX0_stranger_150 ?_
    refine r_goto (pc := 152) (tgt := 157) dX0_stranger_152 (by decide) ?_
    refine r_iret (pc := 157) dX0_stranger_157 ?_
    exact ⟨s, rfl, by first | rw [← hc, if_pos h147] | rw [← hc, if_neg h147], hI⟩
theorem px_stranger {x y z w : Int32} (hI : IX g M o P ta s q) (hG : GI q) : Ct g yX0_stranger cX0_stranger 9 (some Jvm.ClassFile.FieldType.int) 434 0 0 [.ref o, .int x, .int y, .int z, .int w] (putX M o s) (QI g M o P ta q (.int (strangerQ q x y z w))) noX := by
  have W := hI.W
  have S := hI.So
  have hg := W.gx
  have hS := W.S
  have hX := W.X
  have hTB := W.B
  have hn8 := hTB.1
  have hH9 := hTB.2.1
  have hN := hI.nw.1
  have hR := hI.nw.2
  have hB : SB (tn (gT q)) (gS q) := hG.2.2.2.2.2.1.1
  have hy0 : yr (gS q) ≤ 999 := hG.2.2.2.2.2.1.2.1
  have hno : ∀ (hbad : (tn (gT q) = 8 ∨ pidx x 10 = none ∨ pidx y 10 = none ∨ ahd (gS q) z 1 20 = none ∨ pidx w 2 = none) ∨ tH (gT q) = 0), strangerQ q x y z w = -1 := by
    intro hbad
    unfold strangerQ
    by_cases h8 : tn (gT q) = 8
    · rw [if_pos h8]
    · rw [if_neg h8]
      cases hx : pidx x 10 with
      | none => rfl
      | some f =>
        cases hy : pidx y 10 with
        | none => rfl
        | some k =>
          cases hz : ahd (gS q) z 1 20 with
          | none => rfl
          | some m =>
            cases hw : pidx w 2 with
            | none => rfl
            | some v =>
              rw [hx, hy, hz, hw] at hbad
              have hH : tH (gT q) = 0 := by
                rcases hbad with (h | h | h | h | h) | h
                · exact absurd h h8
                · cases h
                · cases h
                · cases h
                · cases h
                · exact h
              show strR v (strsS (gT q) (gS q) f k m (tH (gT q)) 0 none) = -1
              rw [hH]; rfl
  refine Ct.of (by decide) (Nat.le_of_ble_eq_true rfl) rfl ?_
  by_cases hbad : (tn (gT q) = 8 ∨ pidx x 10 = none ∨ pidx y 10 = none ∨ ahd (gS q) z 1 20 = none ∨ pidx w 2 = none) ∨ tH (gT q) = 0
  · rw [hno hbad]
    refine r_ild1 (pc := 0) dX0_stranger_0 ?_
    refine r_iconst (v := nI 0) (pc := 1) dX0_stranger_1 (by decide) ?_
    refine r_bipush (v := nI 9) (pc := 2) dX0_stranger_2 (by decide) ?_
    refine r_cS (pc := 4) dX0_stranger_4 cs_X0_190 (ct_X0_is (v := x) (a := nI 0) (b := nI 9)) rfl rfl (Nat.le_of_ble_eq_true rfl) (by first | decide | omega) ?_
    rintro _ _ ⟨rfl, rfl⟩
    rw [nI_toInt (n := 0) (by decide), nI_toInt (n := 9) (by decide)]
    first | refine r_if_eqZ (pc := 7) (tgt := 50) dX0_stranger_7 (by decide) (fun h7 => ?_) (fun h7 => ?_) | refine r_if_eqN (pc := 7) (tgt := 50) dX0_stranger_7 (by decide) (by omega) (fun h7 => ?_) (fun h7 => ?_) | refine r_if_eq (pc := 7) (tgt := 50) dX0_stranger_7 (by decide) (fun h7 => ?_) (fun h7 => ?_)
    · skip
      refine r_iconst (v := -1) (pc := 50) dX0_stranger_50 (by decide) ?_
      refine r_iret (pc := 51) dX0_stranger_51 ?_
      exact ⟨s, rfl, rfl, hI⟩
    · skip
      refine r_ild2 (pc := 10) dX0_stranger_10 ?_
      refine r_iconst (v := nI 0) (pc := 11) dX0_stranger_11 (by decide) ?_
      refine r_bipush (v := nI 9) (pc := 12) dX0_stranger_12 (by decide) ?_
      refine r_cS (pc := 14) dX0_stranger_14 cs_X0_190 (ct_X0_is (v := y) (a := nI 0) (b := nI 9)) rfl rfl (Nat.le_of_ble_eq_true rfl) (by first | decide | omega) ?_
      rintro _ _ ⟨rfl, rfl⟩
      rw [nI_toInt (n := 0) (by decide), nI_toInt (n := 9) (by decide)]
      first | refine r_if_eqZ (pc := 17) (tgt := 50) dX0_stranger_17 (by decide) (fun h17 => ?_) (fun h17 => ?_) | refine r_if_eqN (pc := 17) (tgt := 50) dX0_stranger_17 (by decide) (by omega) (fun h17 => ?_) (fun h17 => ?_) | refine r_if_eq (pc := 17) (tgt := 50) dX0_stranger_17 (by decide) (fun h17 => ?_) (fun h17 => ?_)
      · skip
        refine r_iconst (v := -1) (pc := 50) dX0_stranger_50 (by decide) ?_
        refine r_iret (pc := 51) dX0_stranger_51 ?_
        exact ⟨s, rfl, rfl, hI⟩
      · skip
        refine r_ald0 (pc := 20) dX0_stranger_20 ?_
        refine r_ild3 (pc := 21) dX0_stranger_21 ?_
        refine r_iconst (v := nI 1) (pc := 22) dX0_stranger_22 (by decide) ?_
        refine r_bipush (v := nI 20) (pc := 23) dX0_stranger_23 (by decide) ?_
        refine r_cV (pc := 25) dX0_stranger_25 cv_X0_236 (hS.k (c := 0) ow_0 kd_0) (ct_X0_isAhead W hN.1 hB.1 (by decide) (by decide)) rfl rfl (Nat.le_of_ble_eq_true rfl) (by first | decide | omega) ?_
        rintro _ _ ⟨rfl, rfl⟩
        first | refine r_if_eqZ (pc := 28) (tgt := 50) dX0_stranger_28 (by decide) (fun h28 => ?_) (fun h28 => ?_) | refine r_if_eqN (pc := 28) (tgt := 50) dX0_stranger_28 (by decide) (by omega) (fun h28 => ?_) (fun h28 => ?_) | refine r_if_eq (pc := 28) (tgt := 50) dX0_stranger_28 (by decide) (fun h28 => ?_) (fun h28 => ?_)
        · skip
          refine r_iconst (v := -1) (pc := 50) dX0_stranger_50 (by decide) ?_
          refine r_iret (pc := 51) dX0_stranger_51 ?_
          exact ⟨s, rfl, rfl, hI⟩
        · skip
          refine r_ild4 (pc := 31) dX0_stranger_31 ?_
          refine r_iconst (v := nI 0) (pc := 33) dX0_stranger_33 (by decide) ?_
          refine r_iconst (v := nI 1) (pc := 34) dX0_stranger_34 (by decide) ?_
          refine r_cS (pc := 35) dX0_stranger_35 cs_X0_190 (ct_X0_is (v := w) (a := nI 0) (b := nI 1)) rfl rfl (Nat.le_of_ble_eq_true rfl) (by first | decide | omega) ?_
          rintro _ _ ⟨rfl, rfl⟩
          rw [nI_toInt (n := 0) (by decide), nI_toInt (n := 1) (by decide)]
          first | refine r_if_eqZ (pc := 38) (tgt := 50) dX0_stranger_38 (by decide) (fun h38 => ?_) (fun h38 => ?_) | refine r_if_eqN (pc := 38) (tgt := 50) dX0_stranger_38 (by decide) (by omega) (fun h38 => ?_) (fun h38 => ?_) | refine r_if_eq (pc := 38) (tgt := 50) dX0_stranger_38 (by decide) (fun h38 => ?_) (fun h38 => ?_)
          · skip
            refine r_iconst (v := -1) (pc := 50) dX0_stranger_50 (by decide) ?_
            refine r_iret (pc := 51) dX0_stranger_51 ?_
            exact ⟨s, rfl, rfl, hI⟩
          · skip
            refine r_ald0 (pc := 41) dX0_stranger_41 ?_
            refine r_cV (pc := 42) dX0_stranger_42 cv_X0_158 (hS.k (c := 0) ow_0 kd_0) (ct_X0_people W S) rfl rfl (Nat.le_of_ble_eq_true rfl) (by first | decide | omega) ?_
            rintro _ _ ⟨rfl, rfl⟩
            refine r_bipush (v := nI 8) (pc := 45) dX0_stranger_45 (by decide) ?_
            first | refine r_icmp_neN (pc := 47) (tgt := 52) dX0_stranger_47 (by decide) (by omega) (by omega) (fun h47 => ?_) (fun h47 => ?_) | refine r_icmp_ne (pc := 47) (tgt := 52) dX0_stranger_47 (by decide) (fun h47 => ?_) (fun h47 => ?_)
            · skip
              exfalso
              rcases hbad with (h | h | h | h | h) | h
              · exact h47 h
              · exact absurd (by omega) (pidx_none h)
              · exact absurd (by omega) (pidx_none h)
              · exact absurd (by omega) (ahd_none h)
              · exact absurd (by omega) (pidx_none h)
              · omega
            · skip
              refine r_iconst (v := -1) (pc := 50) dX0_stranger_50 (by decide) ?_
              refine r_iret (pc := 51) dX0_stranger_51 ?_
              exact ⟨s, rfl, rfl, hI⟩
  · have h8 : tn (gT q) ≠ 8 := fun h => hbad (Or.inl (Or.inl h))
    have hH : 0 < tH (gT q) := Nat.pos_of_ne_zero (fun h => hbad (Or.inr h))
    unfold strangerQ
    rw [if_neg h8]
    cases hx : pidx x 10 with
    | none => exact absurd (Or.inl (Or.inr (Or.inl hx))) hbad
    | some f =>
      cases hy : pidx y 10 with
      | none => exact absurd (Or.inl (Or.inr (Or.inr (Or.inl hy)))) hbad
      | some k =>
        cases hz : ahd (gS q) z 1 20 with
        | none => exact absurd (Or.inl (Or.inr (Or.inr (Or.inr (Or.inl hz))))) hbad
        | some m =>
          cases hw : pidx w 2 with
          | none => exact absurd (Or.inl (Or.inr (Or.inr (Or.inr (Or.inr hw))))) hbad
          | some v =>
            obtain ⟨f1, rfl⟩ := pidx_some hx
            obtain ⟨k1, rfl⟩ := pidx_some hy
            obtain ⟨m1, m2, m3, rfl⟩ := ahd_some hz
            obtain ⟨v1, rfl⟩ := pidx_some hw
            clear hno hbad
            show Bd g yX0_stranger cX0_stranger 9 (some Jvm.ClassFile.FieldType.int) [] 434 0 0 _ 0 _ [] (QI g M o P ta q (.int (strR v (strsS (gT q) (gS q) f k m (tH (gT q)) 0 none)))) noX
            refine r_ild1 (pc := 0) dX0_stranger_0 ?_
            refine r_iconst (v := nI 0) (pc := 1) dX0_stranger_1 (by decide) ?_
            refine r_bipush (v := nI 9) (pc := 2) dX0_stranger_2 (by decide) ?_
            refine r_cS (pc := 4) dX0_stranger_4 cs_X0_190 (ct_X0_is (v := nI f) (a := nI 0) (b := nI 9)) rfl rfl (Nat.le_of_ble_eq_true rfl) (by first | decide | omega) ?_
            rintro _ _ ⟨rfl, rfl⟩
            rw [nI_toInt (n := 0) (by decide), nI_toInt (n := 9) (by decide), nI_toInt (n := f) (by omega)]
            first | refine r_if_eqZ (pc := 7) (tgt := 50) dX0_stranger_7 (by decide) (fun h7 => ?_) (fun h7 => ?_) | refine r_if_eqN (pc := 7) (tgt := 50) dX0_stranger_7 (by decide) (by omega) (fun h7 => ?_) (fun h7 => ?_) | refine r_if_eq (pc := 7) (tgt := 50) dX0_stranger_7 (by decide) (fun h7 => ?_) (fun h7 => ?_)
            · skip
              exact absurd (by omega) h7
            · skip
              refine r_ild2 (pc := 10) dX0_stranger_10 ?_
              refine r_iconst (v := nI 0) (pc := 11) dX0_stranger_11 (by decide) ?_
              refine r_bipush (v := nI 9) (pc := 12) dX0_stranger_12 (by decide) ?_
              refine r_cS (pc := 14) dX0_stranger_14 cs_X0_190 (ct_X0_is (v := nI k) (a := nI 0) (b := nI 9)) rfl rfl (Nat.le_of_ble_eq_true rfl) (by first | decide | omega) ?_
              rintro _ _ ⟨rfl, rfl⟩
              rw [nI_toInt (n := 0) (by decide), nI_toInt (n := 9) (by decide), nI_toInt (n := k) (by omega)]
              first | refine r_if_eqZ (pc := 17) (tgt := 50) dX0_stranger_17 (by decide) (fun h17 => ?_) (fun h17 => ?_) | refine r_if_eqN (pc := 17) (tgt := 50) dX0_stranger_17 (by decide) (by omega) (fun h17 => ?_) (fun h17 => ?_) | refine r_if_eq (pc := 17) (tgt := 50) dX0_stranger_17 (by decide) (fun h17 => ?_) (fun h17 => ?_)
              · skip
                exact absurd (by omega) h17
              · skip
                refine r_ald0 (pc := 20) dX0_stranger_20 ?_
                refine r_ild3 (pc := 21) dX0_stranger_21 ?_
                refine r_iconst (v := nI 1) (pc := 22) dX0_stranger_22 (by decide) ?_
                refine r_bipush (v := nI 20) (pc := 23) dX0_stranger_23 (by decide) ?_
                refine r_cV (pc := 25) dX0_stranger_25 cv_X0_236 (hS.k (c := 0) ow_0 kd_0) (ct_X0_isAhead W hN.1 hB.1 (by decide) (by decide)) rfl rfl (Nat.le_of_ble_eq_true rfl) (by first | decide | omega) ?_
                rintro _ _ ⟨rfl, rfl⟩
                first | refine r_if_eqZ (pc := 28) (tgt := 50) dX0_stranger_28 (by decide) (fun h28 => ?_) (fun h28 => ?_) | refine r_if_eqN (pc := 28) (tgt := 50) dX0_stranger_28 (by decide) (by omega) (fun h28 => ?_) (fun h28 => ?_) | refine r_if_eq (pc := 28) (tgt := 50) dX0_stranger_28 (by decide) (fun h28 => ?_) (fun h28 => ?_)
                · skip
                  exact absurd (by rw [nI_toInt (by omega)]; omega) h28
                · skip
                  refine r_ild4 (pc := 31) dX0_stranger_31 ?_
                  refine r_iconst (v := nI 0) (pc := 33) dX0_stranger_33 (by decide) ?_
                  refine r_iconst (v := nI 1) (pc := 34) dX0_stranger_34 (by decide) ?_
                  refine r_cS (pc := 35) dX0_stranger_35 cs_X0_190 (ct_X0_is (v := nI v) (a := nI 0) (b := nI 1)) rfl rfl (Nat.le_of_ble_eq_true rfl) (by first | decide | omega) ?_
                  rintro _ _ ⟨rfl, rfl⟩
                  rw [nI_toInt (n := 0) (by decide), nI_toInt (n := 1) (by decide), nI_toInt (n := v) (by omega)]
                  first | refine r_if_eqZ (pc := 38) (tgt := 50) dX0_stranger_38 (by decide) (fun h38 => ?_) (fun h38 => ?_) | refine r_if_eqN (pc := 38) (tgt := 50) dX0_stranger_38 (by decide) (by omega) (fun h38 => ?_) (fun h38 => ?_) | refine r_if_eq (pc := 38) (tgt := 50) dX0_stranger_38 (by decide) (fun h38 => ?_) (fun h38 => ?_)
                  · skip
                    exact absurd (by omega) h38
                  · skip
                    refine r_ald0 (pc := 41) dX0_stranger_41 ?_
                    refine r_cV (pc := 42) dX0_stranger_42 cv_X0_158 (hS.k (c := 0) ow_0 kd_0) (ct_X0_people W S) rfl rfl (Nat.le_of_ble_eq_true rfl) (by first | decide | omega) ?_
                    rintro _ _ ⟨rfl, rfl⟩
                    refine r_bipush (v := nI 8) (pc := 45) dX0_stranger_45 (by decide) ?_
                    first | refine r_icmp_neN (pc := 47) (tgt := 52) dX0_stranger_47 (by decide) (by omega) (by omega) (fun h47 => ?_) (fun h47 => ?_) | refine r_icmp_ne (pc := 47) (tgt := 52) dX0_stranger_47 (by decide) (fun h47 => ?_) (fun h47 => ?_)
                    · skip
                      refine r_iconst (v := -1) (pc := 52) dX0_stranger_52 (by decide) ?_
                      refine r_ist5 (pc := 53) dX0_stranger_53 ?_
                      refine r_iconst (v := -1) (pc := 55) dX0_stranger_55 (by decide) ?_
                      refine r_ist6 (pc := 56) dX0_stranger_56 ?_
                      refine r_iconst (v := nI 0) (pc := 58) dX0_stranger_58 (by decide) ?_
                      refine r_ist7 (pc := 59) dX0_stranger_59 ?_
                      refine xstrLoop hG m2 hy0 (by omega) (by omega) (by omega) (tH (gT q)) 0 s none none (by omega) (fun z h => by cases h) hI (fun s2 x7 x8 hI2 => ?_)
                      generalize strsS (gT q) (gS q) f k m (tH (gT q)) 0 none = r
                      cases r with
                      | none =>
                        show Bd g yX0_stranger cX0_stranger 9 (some Jvm.ClassFile.FieldType.int) [] 434 0 0 (putX M o s2) 145 [some (.ref o), some (.int (nI f)), some (.int (nI k)), some (.int (nI m)), some (.int (nI v)), some (.int (-1)), some (.int (-1)), x7, x8] [] (QI g M o P ta q (.int (-1))) noX
                        exact xstrEnd hI2 (by omega) (by split <;> rfl)
                      | some r =>
                        show Bd g yX0_stranger cX0_stranger 9 (some Jvm.ClassFile.FieldType.int) [] 434 0 0 (putX M o s2) 145 [some (.ref o), some (.int (nI f)), some (.int (nI k)), some (.int (nI m)), some (.int (nI v)), some (.int (nI r.1)), some (.int (nI r.2)), x7, x8] [] (QI g M o P ta q (.int (if v = 0 then nI r.1 else nI r.2))) noX
                        exact xstrEnd hI2 (by omega) rfl
                    · skip
                      exact absurd h47 h8
end X26
