set_option maxRecDepth 100000
/-! THE OTHER SIDE: one who comes -/
section X4
variable {g : GC} {M : MM} {o b n : Nat} {s : XS} {F K : Nat → Nat} {t : St}
/-- thoughts of and about n are 5, up to i -/
def cmX (s : XS) (b n i : Nat) : XS := ((fun c j => if (c = b + (7 + n) ∧ j < i) ∨ (b + 7 ≤ c ∧ c < b + 7 + i ∧ j = n) then nI 5 else iX s c j), lX s, rX s)
theorem cmX_step {i : Nat} : uI (uI (cmX s b n i) (b + (7 + n)) i (nI 5)) (b + (7 + i)) n (nI 5) = cmX s b n (i + 1) := by
  refine Prod.ext ?_ rfl
  funext c j
  show (if c = b + (7 + i) ∧ j = n then nI 5 else if c = b + (7 + n) ∧ j = i then nI 5 else if (c = b + (7 + n) ∧ j < i) ∨ (b + 7 ≤ c ∧ c < b + 7 + i ∧ j = n) then nI 5 else iX s c j) = if (c = b + (7 + n) ∧ j < i + 1) ∨ (b + 7 ≤ c ∧ c < b + 7 + (i + 1) ∧ j = n) then nI 5 else iX s c j
  by_cases h1 : c = b + (7 + i) ∧ j = n
  · rw [if_pos h1, if_pos (by omega)]
  · rw [if_neg h1]
    by_cases h2 : c = b + (7 + n) ∧ j = i
    · rw [if_pos h2, if_pos (by omega)]
    · rw [if_neg h2]
      by_cases h3 : (c = b + (7 + n) ∧ j < i) ∨ (b + 7 ≤ c ∧ c < b + 7 + i ∧ j = n)
      · rw [if_pos h3, if_pos (by omega)]
      · rw [if_neg h3, if_neg (by omega)]
theorem cmX_0 : cmX s b n 0 = s := by
  refine Prod.ext ?_ rfl
  funext c j
  exact if_neg (by omega)
theorem cmX_n {i c j : Nat} (h : c < b + 7 ∨ b + 15 ≤ c) (hn : n ≤ 7) (hi : i ≤ 8) : iX (cmX s b n i) c j = iX s c j := if_neg (by omega)
theorem xcomesLoop {x1 x2 x3 : Int32} {Q : Option Value → MM → Prop} (hS : ShX g M o) (hX : FxX (rX s) o) (hb : isS b) (hn : n ≤ 7)
    (Kk : Bd g yX5_comes cX5_comes 6 (some ((Jvm.ClassFile.FieldType.object "Retouched$State"))) [] 0 0 0 (putX M o (cmX s b n 8)) 87 [some (.ref (o + b)), some (.int x1), some (.int x2), some (.int x3), some (.int (nI n)), some (.int (nI 8))] [] Q noX) : ∀ k i, i + k = 8 →
    Bd g yX5_comes cX5_comes 6 (some ((Jvm.ClassFile.FieldType.object "Retouched$State"))) [] 0 0 0 (putX M o (cmX s b n i)) 52 [some (.ref (o + b)), some (.int x1), some (.int x2), some (.int x3), some (.int (nI n)), some (.int (nI i))] [] Q noX := by
  intro k
  induction k with
  | zero =>
    intro i hi
    obtain rfl : i = 8 := by omega
    refine r_ild5 (pc := 52) dX5_comes_52 ?_
    refine r_bipush (v := nI 8) (pc := 54) dX5_comes_54 (by decide) ?_
    first | refine r_icmp_geN (pc := 56) (tgt := 87) dX5_comes_56 (by decide) (by omega) (by omega) (fun h56 => ?_) (fun h56 => ?_) | refine r_icmp_ge (pc := 56) (tgt := 87) dX5_comes_56 (by decide) (fun h56 => ?_) (fun h56 => ?_)
    · skip
      exact Kk
    · skip
      exact absurd h56 (by omega)
  | succ k ih =>
    intro i hi
    refine r_ild5 (pc := 52) dX5_comes_52 ?_
    refine r_bipush (v := nI 8) (pc := 54) dX5_comes_54 (by decide) ?_
    first | refine r_icmp_geN (pc := 56) (tgt := 87) dX5_comes_56 (by decide) (by omega) (by omega) (fun h56 => ?_) (fun h56 => ?_) | refine r_icmp_ge (pc := 56) (tgt := 87) dX5_comes_56 (by decide) (fun h56 => ?_) (fun h56 => ?_)
    · skip
      exact absurd h56 (by omega)
    · skip
      refine r_ald0 (pc := 59) dX5_comes_59 ?_
      refine x_getR (c := b) hS (st_ow hb) (st_kd hb) (pc := 60) dX5_comes_60 fl_X5_34 (fs_8 hX hb) ?_
      refine r_ild4 (pc := 63) dX5_comes_63 ?_
      refine x_aald (c := (b + 6)) (j := n) hS (st_ow6 hb) (st_kd6 hb) (by decide) (st_ln6 hb) (pc := 65) dX5_comes_65 (by omega) (by omega) (fs_th hX hb (by omega)) ?_
      refine r_ild5 (pc := 66) dX5_comes_66 ?_
      refine r_iconst (v := nI 5) (pc := 68) dX5_comes_68 (by decide) ?_
      refine x_iast (c := (b + (7 + n))) hS (th_ow hb (by omega)) (th_kd hb (by omega)) (th_ln hb (by omega)) (pc := 69) dX5_comes_69 (by omega) (by omega) ?_
      refine r_ald0 (pc := 70) dX5_comes_70 ?_
      refine x_getR (c := b) hS (st_ow hb) (st_kd hb) (pc := 71) dX5_comes_71 fl_X5_34 (fs_8 hX hb) ?_
      refine r_ild5 (pc := 74) dX5_comes_74 ?_
      refine x_aald (c := (b + 6)) (j := i) hS (st_ow6 hb) (st_kd6 hb) (by decide) (st_ln6 hb) (pc := 76) dX5_comes_76 (by omega) (by omega) (fs_th hX hb (by omega)) ?_
      refine r_ild4 (pc := 77) dX5_comes_77 ?_
      refine r_iconst (v := nI 5) (pc := 79) dX5_comes_79 (by decide) ?_
      refine x_iast (c := (b + (7 + i))) hS (th_ow hb (by omega)) (th_kd hb (by omega)) (th_ln hb (by omega)) (pc := 80) dX5_comes_80 (by omega) (by omega) ?_
      rw [cmX_step]
      first | refine r_iinc5N (j := 1) (pc := 81) dX5_comes_81 rfl ?_ | refine r_iinc5 (pc := 81) dX5_comes_81 ?_
      refine r_goto (pc := 84) (tgt := 52) dX5_comes_84 (by decide) ?_
      exact ih (i + 1) (by omega)
def cmB (s : XS) (b n h f k : Nat) : XS := uI (uI (uI (uI (uI s (b + 1) n (nI h)) (b + 3) n (nI f)) (b + 4) n (nI k)) (b + 2) n (nI (10 * f))) (b + 5) n (vp_nar .boolean (nI 0))
theorem cmB_n {h f k c j : Nat} (hc : c < b + 1 ∨ b + 6 ≤ c) : iX (cmB s b n h f k) c j = iX s c j := by
  unfold cmB
  rw [iX_c (by omega), iX_c (by omega), iX_c (by omega), iX_c (by omega), iX_c (by omega)]
theorem cmB_SX {h f k : Nat} (hN : SX s b n F K t) (hn : n ≤ 7) : SX (uI (cmX (cmB s b n h f k) b n 8) b 1 (nI (n + 1))) b (n + 1) (va_up F n f) (va_up K n k) (comesS n t h f) := by
  obtain ⟨h1, h2, h3, h4, h5, h6, h7, h8⟩ := hN
  refine ⟨?_, iX_s, fun q hq => ?_, fun q hq => ?_, fun q hq => ?_, fun q hq => ?_, fun q hq => ?_, fun q hq r hr => ?_⟩
  · rw [iX_j (by decide), cmX_n (by omega) hn (by decide), cmB_n (by omega)]; exact h1
  · rw [iX_c (by omega), cmX_n (by omega) hn (by decide)]
    show _ = nI (va_up (hs t) n h q)
    unfold cmB
    rw [iX_c (by omega), iX_c (by omega), iX_c (by omega), iX_c (by omega), upN, iX_uI]
    by_cases e : q = n
    · rw [if_pos ⟨rfl, e⟩, if_pos e]
    · rw [if_neg (fun z => e z.2), if_neg e]; exact h3 q (by omega)
  · rw [iX_c (by omega), cmX_n (by omega) hn (by decide)]
    show _ = nI (va_up (lk t) n (10 * f) q)
    unfold cmB
    rw [iX_c (by omega), upN, iX_uI]
    by_cases e : q = n
    · rw [if_pos ⟨rfl, e⟩, if_pos e]
    · rw [if_neg (fun z => e z.2), if_neg e, iX_c (by omega), iX_c (by omega), iX_c (by omega)]; exact h4 q (by omega)
  · rw [iX_c (by omega), cmX_n (by omega) hn (by decide)]
    unfold cmB
    rw [iX_c (by omega), iX_c (by omega), iX_c (by omega), upN, iX_uI]
    by_cases e : q = n
    · rw [if_pos ⟨rfl, e⟩, if_pos e]
    · rw [if_neg (fun z => e z.2), if_neg e, iX_c (by omega)]; exact h5 q (by omega)
  · rw [iX_c (by omega), cmX_n (by omega) hn (by decide)]
    unfold cmB
    rw [iX_c (by omega), iX_c (by omega), upN, iX_uI]
    by_cases e : q = n
    · rw [if_pos ⟨rfl, e⟩, if_pos e]
    · rw [if_neg (fun z => e z.2), if_neg e, iX_c (by omega), iX_c (by omega)]; exact h6 q (by omega)
  · rw [iX_c (by omega), cmX_n (by omega) hn (by decide)]
    show _ = zI (va_up (sp t) n 0 q = 1)
    unfold cmB
    rw [iX_uI]
    unfold va_up
    by_cases e : q = n
    · rw [if_pos ⟨rfl, e⟩, if_pos e, zI_f (by decide)]; rfl
    · rw [if_neg (fun z => e z.2), if_neg e, iX_c (by omega), iX_c (by omega), iX_c (by omega), iX_c (by omega)]; exact h7 q (by omega)
  · rw [iX_c (by omega)]
    show (if _ then nI 5 else _) = nI (if q = n ∨ r = n then 5 else th t q r)
    by_cases e : q = n ∨ r = n
    · rw [if_pos (by omega), if_pos e]
    · rw [if_neg (by omega), if_neg e, cmB_n (by omega)]; exact h8 q (by omega) r (by omega)
theorem xcomes87 {h f k : Nat} {x1 x2 x3 : Int32} (hS : ShX g M o) (hX : FxX (rX s) o) (hb : isS b) (hN : SX s b n F K t) (hn : n ≤ 7) :
    Bd g yX5_comes cX5_comes 6 (some ((Jvm.ClassFile.FieldType.object "Retouched$State"))) [] 0 0 0 (putX M o (cmX (cmB s b n h f k) b n 8)) 87 [some (.ref (o + b)), some (.int x1), some (.int x2), some (.int x3), some (.int (nI n)), some (.int (nI 8))] [] (QX M o (fun v s' => v = some (.ref (o + b)) ∧ SX s' b (n + 1) (va_up F n f) (va_up K n k) (comesS n t h f) ∧ rX s' = rX s ∧ FrX (stP b) s s' ∧ ∀ c j, (b + 15 ≤ c ∨ (c = b ∧ j ≠ 1)) → iX s' c j = iX s c j)) noX := by
  have e1 : iX (cmX (cmB s b n h f k) b n 8) b 1 = nI n := by rw [cmX_n (by omega) hn (by decide), cmB_n (by omega)]; exact hN.2.1
  refine r_ald0 (pc := 87) dX5_comes_87 ?_
  refine r_dup (pc := 88) dX5_comes_88 rfl ?_
  refine x_getI (c := b) hS (st_ow hb) (st_kd hb) (pc := 89) dX5_comes_89 fl_X5_51 ?_
  refine Bd.eqI e1 ?_
  refine r_iconst (v := nI 1) (pc := 92) dX5_comes_92 (by decide) ?_
  first | refine r_iaddN (pc := 93) dX5_comes_93 ?_ | refine r_iaddJ (pc := 93) dX5_comes_93 ?_ | refine r_iadd (pc := 93) dX5_comes_93 ?_
  refine x_putI (c := b) hS (st_ow hb) (st_kd hb) (pc := 94) dX5_comes_94 fl_X5_51 fw_X5_1 rfl rfl ?_
  refine r_ald0 (pc := 97) dX5_comes_97 ?_
  refine r_aretR (pc := 98) dX5_comes_98 ?_
  refine ⟨_, rfl, rfl, cmB_SX hN hn, rfl, ⟨fun c hc => ?_, fun _ _ => rfl, fun _ _ => rfl⟩, fun c j hc => ?_⟩
  · unfold stP at hc
    funext j
    rw [iX_c (by omega), cmX_n (by omega) hn (by decide), cmB_n (by omega)]
  · rw [iX_uI, if_neg (by omega), cmX_n (by omega) hn (by decide), cmB_n (by omega)]
theorem ct_X5_comes {h f k : Nat} (hS : ShX g M o) (hX : FxX (rX s) o) (hb : isS b) (hN : SX s b n F K t) (hn : n ≤ 7) (hf : f ≤ 9) :
    Ct g yX5_comes cX5_comes 6 (some ((Jvm.ClassFile.FieldType.object "Retouched$State"))) 0 0 0 [.ref (o + b), .int (nI h), .int (nI f), .int (nI k)] (putX M o s) (QX M o (fun v s' => v = some (.ref (o + b)) ∧ SX s' b (n + 1) (va_up F n f) (va_up K n k) (comesS n t h f) ∧ rX s' = rX s ∧ FrX (stP b) s s' ∧ ∀ c j, (b + 15 ≤ c ∨ (c = b ∧ j ≠ 1)) → iX s' c j = iX s c j)) noX := by
  obtain ⟨h1, h2, h3, h4, h5, h6, h7, h8⟩ := hN
  refine Ct.of (by decide) (Nat.le_of_ble_eq_true rfl) rfl ?_
  refine r_ald0 (pc := 0) dX5_comes_0 ?_
  refine x_getI (c := b) hS (st_ow hb) (st_kd hb) (pc := 1) dX5_comes_1 fl_X5_51 ?_
  rw [h2]
  refine r_ist4 (pc := 4) dX5_comes_4 ?_
  refine r_ald0 (pc := 6) dX5_comes_6 ?_
  refine x_getR (c := b) hS (st_ow hb) (st_kd hb) (pc := 7) dX5_comes_7 fl_X5_15 (fs_3 hX hb) ?_
  refine r_ild4 (pc := 10) dX5_comes_10 ?_
  refine r_ild1 (pc := 12) dX5_comes_12 ?_
  refine x_iast (c := (b + 1)) hS (st_ow1 hb) (st_kd1 hb) (st_ln1 hb) (pc := 13) dX5_comes_13 (by omega) (by omega) ?_
  refine r_ald0 (pc := 14) dX5_comes_14 ?_
  refine x_getR (c := b) hS (st_ow hb) (st_kd hb) (pc := 15) dX5_comes_15 fl_X5_22 (fs_5 hX hb) ?_
  refine r_ild4 (pc := 18) dX5_comes_18 ?_
  refine r_ild2 (pc := 20) dX5_comes_20 ?_
  refine x_iast (c := (b + 3)) hS (st_ow3 hb) (st_kd3 hb) (st_ln3 hb) (pc := 21) dX5_comes_21 (by omega) (by omega) ?_
  refine r_ald0 (pc := 22) dX5_comes_22 ?_
  refine x_getR (c := b) hS (st_ow hb) (st_kd hb) (pc := 23) dX5_comes_23 fl_X5_25 (fs_6 hX hb) ?_
  refine r_ild4 (pc := 26) dX5_comes_26 ?_
  refine r_ild3 (pc := 28) dX5_comes_28 ?_
  refine x_iast (c := (b + 4)) hS (st_ow4 hb) (st_kd4 hb) (st_ln4 hb) (pc := 29) dX5_comes_29 (by omega) (by omega) ?_
  refine r_ald0 (pc := 30) dX5_comes_30 ?_
  refine x_getR (c := b) hS (st_ow hb) (st_kd hb) (pc := 31) dX5_comes_31 fl_X5_19 (fs_4 hX hb) ?_
  refine r_ild4 (pc := 34) dX5_comes_34 ?_
  refine r_bipush (v := nI 10) (pc := 36) dX5_comes_36 (by decide) ?_
  refine r_ild2 (pc := 38) dX5_comes_38 ?_
  first | refine r_imulN (pc := 39) dX5_comes_39 ?_ | refine r_imulJ (pc := 39) dX5_comes_39 ?_ | refine r_imul (pc := 39) dX5_comes_39 ?_
  refine x_iast (c := (b + 2)) hS (st_ow2 hb) (st_kd2 hb) (st_ln2 hb) (pc := 40) dX5_comes_40 (by omega) (by omega) ?_
  refine r_ald0 (pc := 41) dX5_comes_41 ?_
  refine x_getR (c := b) hS (st_ow hb) (st_kd hb) (pc := 42) dX5_comes_42 fl_X5_28 (fs_7 hX hb) ?_
  refine r_ild4 (pc := 45) dX5_comes_45 ?_
  refine r_iconst (v := nI 0) (pc := 47) dX5_comes_47 (by decide) ?_
  refine x_zast (c := (b + 5)) hS (st_ow5 hb) (st_kd5 hb) (st_ln5 hb) (pc := 48) dX5_comes_48 (by omega) (by omega) ?_
  refine r_iconst (v := nI 0) (pc := 49) dX5_comes_49 (by decide) ?_
  refine r_ist5 (pc := 50) dX5_comes_50 ?_
  refine Bd.eqM (congrArg (putX M o) (cmX_0 (b := b) (n := n)).symm) ?_
  refine xcomesLoop (s := cmB s b n h f k) hS hX hb hn ?_ 8 0 (by decide)
  exact xcomes87 hS hX hb ⟨h1, h2, h3, h4, h5, h6, h7, h8⟩ hn
end X4
