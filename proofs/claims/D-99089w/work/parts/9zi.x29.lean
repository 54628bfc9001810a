set_option maxRecDepth 100000
/-! RETOUCHED: tells, see, letter -/
theorem shr_all2 : ∀ x, x < 1024 → ∀ p, p < 10 → (nI x >>> (nI p &&& 31)) &&& nI 1 = nI (hb x p) := by decide +kernel
theorem setS_hb (f : Nat → Bool) : ∀ n p, p < n → hb (setS f n) p = if f p = true then 1 else 0
  | 0, p, h => absurd h (Nat.not_lt_zero p)
  | n + 1, p, h => by
    have hl := setS_lt f n
    show hb (setS f n + if f n = true then 2 ^ n else 0) p = _
    by_cases e : p = n
    · subst e
      by_cases hf : f p = true
      · rw [if_pos hf, if_pos hf]
        unfold hb
        rw [Nat.add_div_right _ (Nat.two_pow_pos p), Nat.div_eq_of_lt hl]
      · rw [if_neg hf, if_neg hf]
        unfold hb
        rw [Nat.add_zero, Nat.div_eq_of_lt hl]
    · have ih := setS_hb f n p (by omega)
      rw [← ih]
      by_cases hf : f n = true
      · rw [if_pos hf]
        unfold hb
        obtain ⟨d, hd⟩ : ∃ d, n = p + (d + 1) := ⟨n - p - 1, by omega⟩
        rw [hd, Nat.pow_add, Nat.add_mul_div_left _ _ (Nat.two_pow_pos p), Nat.pow_succ, Nat.mul_comm (2 ^ d) 2, Nat.add_mul_mod_self_left]
      · rw [if_neg hf, Nat.add_zero]
theorem setS_cnt (f : Nat → Bool) : ∀ n, setS f n = 0 ↔ cnt f n = 0
  | 0 => ⟨fun _ => rfl, fun _ => rfl⟩
  | n + 1 => by
    have ih := setS_cnt f n
    have hp := Nat.two_pow_pos n
    show (setS f n + if f n = true then 2 ^ n else 0) = 0 ↔ (cnt f n + if f n = true then 1 else 0) = 0
    by_cases h : f n = true
    · rw [if_pos h, if_pos h]; omega
    · rw [if_neg h, if_neg h]; omega
section X29
variable {g : GC} {M : MM} {o ta : Nat} {P : Nat → Prop} {s : XS} {q : Sg}
theorem ct_X0_has10 {x p : Nat} (hx : x < 1024) (hp : p < 10) : Ct g yX0_has cX0_has 2 (some Jvm.ClassFile.FieldType.boolean) 0 0 0 [.int (nI x), .int (nI p)] M (PQ M (.int (zI (hb x p = 1)))) noX := by
  have h2 : hb x p < 2 := Nat.mod_lt _ (by decide)
  refine Ct.of (by decide) (Nat.le_of_ble_eq_true rfl) rfl ?_
  refine r_ild0 (pc := 0) dX0_has_0 ?_
  refine r_ild1 (pc := 1) dX0_has_1 ?_
  refine r_ishr (pc := 2) dX0_has_2 ?_
  refine r_iconst (v := nI 1) (pc := 3) dX0_has_3 (by decide) ?_
  refine r_iand (pc := 4) dX0_has_4 ?_
  refine Bd.eqI (shr_all2 x hx p hp) ?_
  refine r_iconst (v := nI 1) (pc := 5) dX0_has_5 (by decide) ?_
  first | refine r_icmp_neN (pc := 6) (tgt := 13) dX0_has_6 (by decide) (by omega) (by omega) (fun h6 => ?_) (fun h6 => ?_) | refine r_icmp_ne (pc := 6) (tgt := 13) dX0_has_6 (by decide) (fun h6 => ?_) (fun h6 => ?_)
  · skip
    refine r_iconst (v := nI 0) (pc := 13) dX0_has_13 (by decide) ?_
    refine r_zret (pc := 14) dX0_has_14 (by first | rfl | exact zI_nar | assumption) ?_
    exact ⟨by first | (rw [zI_t h6]; rfl) | (rw [zI_f h6]; rfl), rfl⟩
  · skip
    refine r_iconst (v := nI 1) (pc := 9) dX0_has_9 (by decide) ?_
    refine r_goto (pc := 10) (tgt := 14) dX0_has_10 (by decide) ?_
    refine r_zret (pc := 14) dX0_has_14 (by first | rfl | exact zI_nar | assumption) ?_
    exact ⟨by first | (rw [zI_t h6]; rfl) | (rw [zI_f h6]; rfl), rfl⟩
theorem ct_J12_max {a b : Nat} (ha : a < 2147483648) (hb : b < 2147483648) : Ct g yJ12_max cJ12_max 2 (some Jvm.ClassFile.FieldType.int) 0 0 0 [.int (nI a), .int (nI b)] M (PQ M (.int (nI (if b ≤ a then a else b)))) noX := by
  refine Ct.ofF pf_J12_max (Nat.le_of_ble_eq_true rfl) rfl ?_
  refine r_ild0 (pc := 0) dJ12_max_0 ?_
  refine r_ild1 (pc := 1) dJ12_max_1 ?_
  first | refine r_icmp_ltN (pc := 2) (tgt := 9) dJ12_max_2 (by decide) (by omega) (by omega) (fun h2 => ?_) (fun h2 => ?_) | refine r_icmp_lt (pc := 2) (tgt := 9) dJ12_max_2 (by decide) (fun h2 => ?_) (fun h2 => ?_)
  · skip
    refine r_ild1 (pc := 9) dJ12_max_9 ?_
    refine r_iret (pc := 10) dJ12_max_10 ?_
    exact ⟨by first | rw [if_pos (by omega)] | rw [if_neg (by omega)], rfl⟩
  · skip
    refine r_ild0 (pc := 5) dJ12_max_5 ?_
    refine r_goto (pc := 6) (tgt := 10) dJ12_max_6 (by decide) ?_
    refine r_iret (pc := 10) dJ12_max_10 ?_
    exact ⟨by first | rw [if_pos (by omega)] | rw [if_neg (by omega)], rfl⟩
theorem hasF {f : Nat → Bool} {v : Nat} (hv : v < 10) : hb (setS f 10) v = 1 ↔ f v = true := by
  rw [setS_hb f 10 v hv]
  by_cases h : f v = true <;> simp [h]
theorem xtlO {p f w y a mo : Nat} {F : Nat → Bool} {G : Nat → Nat → Nat} {x5 x6 : Int32} {Q : Option Value → MM → Prop} (hI : IX g M o P ta s q) (hF : setS F 10 < 1024) (ha : a < 10) (hy : y < 31) (hG : ∀ v, v < 10 → iX s (385 + v) y = nI (G v y) ∧ G v y ≤ 99) (K : ∀ x11, Bd g yX0_tells cX0_tells 12 (some Jvm.ClassFile.FieldType.int) [] 435 0 0 (putX M o s) 132 [some (.ref o), some (.int (nI p)), some (.int (nI f)), some (.int (nI w)), some (.int (nI (setS F 10))), some (.int x5), some (.int x6), some (.int (nI y)), some (.int (nI mo)), some (.int (nI a)), some (.int (nI (if F a = true then alikeS F G y a else 0))), x11] [] Q noX) : ∀ k i, i + k = 10 →
    Bd g yX0_tells cX0_tells 12 (some Jvm.ClassFile.FieldType.int) [] 435 0 0 (putX M o s) 66 [some (.ref o), some (.int (nI p)), some (.int (nI f)), some (.int (nI w)), some (.int (nI (setS F 10))), some (.int x5), some (.int x6), some (.int (nI y)), some (.int (nI mo)), some (.int (nI a)), some (.int (nI (if F a = true then cnt (fun b => F b && G a y == G b y) i else 0))), some (.int (nI i))] [] Q noX := by
  have W := hI.W
  have hg := W.gx
  have hS := W.S
  have hX := W.X
  intro k
  induction k with
  | zero =>
    intro i hi
    obtain rfl : i = 10 := by omega
    refine r_ild11 (pc := 66) dX0_tells_66 ?_
    refine r_bipush (v := nI 10) (pc := 68) dX0_tells_68 (by decide) ?_
    first | refine r_icmp_geN (pc := 70) (tgt := 132) dX0_tells_70 (by decide) (by omega) (by omega) (fun h70 => ?_) (fun h70 => ?_) | refine r_icmp_ge (pc := 70) (tgt := 132) dX0_tells_70 (by decide) (fun h70 => ?_) (fun h70 => ?_)
    · skip
      exact K _
    · skip
      exact absurd h70 (by decide)
  | succ k ih =>
    intro i hi
    obtain ⟨g1, g2⟩ := hG a ha
    obtain ⟨g3, g4⟩ := hG i (by omega)
    have hstep : (if F a = true then cnt (fun b => F b && G a y == G b y) (i + 1) else 0) = (if F a = true then cnt (fun b => F b && G a y == G b y) i else 0) + (if F a = true ∧ F i = true ∧ G a y = G i y then 1 else 0) := by
      by_cases h1 : F a = true
      · simp only [h1, if_true, true_and]
        show cnt _ i + (if (F i && G a y == G i y) = true then 1 else 0) = _
        congr 1
        by_cases h2 : F i = true <;> by_cases h3 : G a y = G i y <;> simp [h2, h3]
      · simp [h1]
    have hgo : ∀ d, (if F a = true ∧ F i = true ∧ G a y = G i y then 1 else 0) = d → Bd g yX0_tells cX0_tells 12 (some Jvm.ClassFile.FieldType.int) [] 435 0 0 (putX M o s) 66 [some (.ref o), some (.int (nI p)), some (.int (nI f)), some (.int (nI w)), some (.int (nI (setS F 10))), some (.int x5), some (.int x6), some (.int (nI y)), some (.int (nI mo)), some (.int (nI a)), some (.int (nI ((if F a = true then cnt (fun b => F b && G a y == G b y) i else 0) + d))), some (.int (nI (i + 1)))] [] Q noX := by
      intro d hd
      have := ih (i + 1) (by omega)
      rw [hstep, hd] at this
      exact this
    clear ih
    refine r_ild11 (pc := 66) dX0_tells_66 ?_
    refine r_bipush (v := nI 10) (pc := 68) dX0_tells_68 (by decide) ?_
    first | refine r_icmp_geN (pc := 70) (tgt := 132) dX0_tells_70 (by decide) (by omega) (by omega) (fun h70 => ?_) (fun h70 => ?_) | refine r_icmp_ge (pc := 70) (tgt := 132) dX0_tells_70 (by decide) (fun h70 => ?_) (fun h70 => ?_)
    · skip
      exact absurd h70 (by omega)
    · skip
      refine r_ild10 (pc := 73) dX0_tells_73 ?_
      refine r_ild4 (pc := 75) dX0_tells_75 ?_
      refine r_ild9 (pc := 77) dX0_tells_77 ?_
      refine r_cS (pc := 79) dX0_tells_79 cs_X0_258 (ct_X0_has10 hF ha) rfl rfl (Nat.le_of_ble_eq_true rfl) (by first | decide | omega) ?_
      rintro _ _ ⟨rfl, rfl⟩
      refine r_if_eqZ (pc := 82) (tgt := 122) dX0_tells_82 (by decide) (fun h82 => ?_) (fun h82 => ?_)
      · skip
        rw [hasF ha] at h82
        refine r_iconst (v := nI 0) (pc := 122) dX0_tells_122 (by decide) ?_
        first | refine r_iaddN (pc := 123) dX0_tells_123 ?_ | refine r_iaddJ (pc := 123) dX0_tells_123 ?_ | refine r_iadd (pc := 123) dX0_tells_123 ?_
        refine r_ist10 (pc := 124) dX0_tells_124 ?_
        first | refine r_iinc11N (j := 1) (pc := 126) dX0_tells_126 rfl ?_ | refine r_iinc11 (pc := 126) dX0_tells_126 ?_
        refine r_goto (pc := 129) (tgt := 66) dX0_tells_129 (by decide) ?_
        first | exact hgo 0 (if_neg (fun z => h82 z.1)) | exact hgo 0 (if_neg (fun z => h92 z.2.1)) | exact hgo 0 (if_neg (fun z => h115 z.2.2)) | exact hgo 1 (if_pos ⟨h82, h92, h115⟩)
      · skip
        rw [hasF ha] at h82
        refine r_ild4 (pc := 85) dX0_tells_85 ?_
        refine r_ild11 (pc := 87) dX0_tells_87 ?_
        refine r_cS (pc := 89) dX0_tells_89 cs_X0_258 (ct_X0_has10 hF (p := i) (by omega)) rfl rfl (Nat.le_of_ble_eq_true rfl) (by first | decide | omega) ?_
        rintro _ _ ⟨rfl, rfl⟩
        refine r_if_eqZ (pc := 92) (tgt := 122) dX0_tells_92 (by decide) (fun h92 => ?_) (fun h92 => ?_)
        · skip
          rw [hasF (by omega)] at h92
          refine r_iconst (v := nI 0) (pc := 122) dX0_tells_122 (by decide) ?_
          first | refine r_iaddN (pc := 123) dX0_tells_123 ?_ | refine r_iaddJ (pc := 123) dX0_tells_123 ?_ | refine r_iadd (pc := 123) dX0_tells_123 ?_
          refine r_ist10 (pc := 124) dX0_tells_124 ?_
          first | refine r_iinc11N (j := 1) (pc := 126) dX0_tells_126 rfl ?_ | refine r_iinc11 (pc := 126) dX0_tells_126 ?_
          refine r_goto (pc := 129) (tgt := 66) dX0_tells_129 (by decide) ?_
          first | exact hgo 0 (if_neg (fun z => h82 z.1)) | exact hgo 0 (if_neg (fun z => h92 z.2.1)) | exact hgo 0 (if_neg (fun z => h115 z.2.2)) | exact hgo 1 (if_pos ⟨h82, h92, h115⟩)
        · skip
          rw [hasF (by omega)] at h92
          refine r_ald0 (pc := 95) dX0_tells_95 ?_
          refine x_getR (c := 0) hS ow_0 kd_0 (pc := 96) dX0_tells_96 fl_X0_90 (fx_0_16 hX) ?_
          refine r_ild9 (pc := 99) dX0_tells_99 ?_
          refine x_aald (c := 384) (j := a) hS ow_384 kd_384 (by decide) ln_384 (pc := 101) dX0_tells_101 (by omega) (by omega) (fx_lo hX (by omega)) ?_
          refine r_ild7 (pc := 102) dX0_tells_102 ?_
          refine x_iald (c := (385 + a)) hS (lo_ow (by omega)) (lo_kd (by omega)) (lo_ln (by omega)) (pc := 104) dX0_tells_104 (by omega) (by omega) ?_
          refine Bd.eqI g1 ?_
          refine r_ald0 (pc := 105) dX0_tells_105 ?_
          refine x_getR (c := 0) hS ow_0 kd_0 (pc := 106) dX0_tells_106 fl_X0_90 (fx_0_16 hX) ?_
          refine r_ild11 (pc := 109) dX0_tells_109 ?_
          refine x_aald (c := 384) (j := i) hS ow_384 kd_384 (by decide) ln_384 (pc := 111) dX0_tells_111 (by omega) (by omega) (fx_lo hX (by omega)) ?_
          refine r_ild7 (pc := 112) dX0_tells_112 ?_
          refine x_iald (c := (385 + i)) hS (lo_ow (by omega)) (lo_kd (by omega)) (lo_ln (by omega)) (pc := 114) dX0_tells_114 (by omega) (by omega) ?_
          refine Bd.eqI g3 ?_
          first | refine r_icmp_neN (pc := 115) (tgt := 122) dX0_tells_115 (by decide) (by omega) (by omega) (fun h115 => ?_) (fun h115 => ?_) | refine r_icmp_ne (pc := 115) (tgt := 122) dX0_tells_115 (by decide) (fun h115 => ?_) (fun h115 => ?_)
          · skip
            refine r_iconst (v := nI 0) (pc := 122) dX0_tells_122 (by decide) ?_
            first | refine r_iaddN (pc := 123) dX0_tells_123 ?_ | refine r_iaddJ (pc := 123) dX0_tells_123 ?_ | refine r_iadd (pc := 123) dX0_tells_123 ?_
            refine r_ist10 (pc := 124) dX0_tells_124 ?_
            first | refine r_iinc11N (j := 1) (pc := 126) dX0_tells_126 rfl ?_ | refine r_iinc11 (pc := 126) dX0_tells_126 ?_
            refine r_goto (pc := 129) (tgt := 66) dX0_tells_129 (by decide) ?_
            first | exact hgo 0 (if_neg (fun z => h82 z.1)) | exact hgo 0 (if_neg (fun z => h92 z.2.1)) | exact hgo 0 (if_neg (fun z => h115 z.2.2)) | exact hgo 1 (if_pos ⟨h82, h92, h115⟩)
          · skip
            refine r_iconst (v := nI 1) (pc := 118) dX0_tells_118 (by decide) ?_
            refine r_goto (pc := 119) (tgt := 123) dX0_tells_119 (by decide) ?_
            first | refine r_iaddN (pc := 123) dX0_tells_123 ?_ | refine r_iaddJ (pc := 123) dX0_tells_123 ?_ | refine r_iadd (pc := 123) dX0_tells_123 ?_
            refine r_ist10 (pc := 124) dX0_tells_124 ?_
            first | refine r_iinc11N (j := 1) (pc := 126) dX0_tells_126 rfl ?_ | refine r_iinc11 (pc := 126) dX0_tells_126 ?_
            refine r_goto (pc := 129) (tgt := 66) dX0_tells_129 (by decide) ?_
            first | exact hgo 0 (if_neg (fun z => h82 z.1)) | exact hgo 0 (if_neg (fun z => h92 z.2.1)) | exact hgo 0 (if_neg (fun z => h115 z.2.2)) | exact hgo 1 (if_pos ⟨h82, h92, h115⟩)
theorem xtlV {p f w y : Nat} {F : Nat → Bool} {G : Nat → Nat → Nat} {x5 x6 : Int32} {Q : Option Value → MM → Prop} (hI : IX g M o P ta s q) (hF : setS F 10 < 1024) (hy : y < 31) (hG : ∀ v, v < 10 → iX s (385 + v) y = nI (G v y) ∧ G v y ≤ 99) (K : ∀ x9 x10 x11, Bd g yX0_tells cX0_tells 12 (some Jvm.ClassFile.FieldType.int) [] 435 0 0 (putX M o s) 147 [some (.ref o), some (.int (nI p)), some (.int (nI f)), some (.int (nI w)), some (.int (nI (setS F 10))), some (.int x5), some (.int x6), some (.int (nI y)), some (.int (nI (mostS F G y 10))), x9, x10, x11] [] Q noX) : ∀ k a, a + k = 10 → ∀ x10 x11,
    Bd g yX0_tells cX0_tells 12 (some Jvm.ClassFile.FieldType.int) [] 435 0 0 (putX M o s) 53 [some (.ref o), some (.int (nI p)), some (.int (nI f)), some (.int (nI w)), some (.int (nI (setS F 10))), some (.int x5), some (.int x6), some (.int (nI y)), some (.int (nI (mostS F G y a))), some (.int (nI a)), x10, x11] [] Q noX := by
  have W := hI.W
  have hg := W.gx
  have hS := W.S
  have hX := W.X
  intro k
  induction k with
  | zero =>
    intro a ha x10 x11
    obtain rfl : a = 10 := by omega
    refine r_ild9 (pc := 53) dX0_tells_53 ?_
    refine r_bipush (v := nI 10) (pc := 55) dX0_tells_55 (by decide) ?_
    first | refine r_icmp_geN (pc := 57) (tgt := 147) dX0_tells_57 (by decide) (by omega) (by omega) (fun h57 => ?_) (fun h57 => ?_) | refine r_icmp_ge (pc := 57) (tgt := 147) dX0_tells_57 (by decide) (fun h57 => ?_) (fun h57 => ?_)
    · skip
      exact K _ _ _
    · skip
      exact absurd h57 (by decide)
  | succ k ih =>
    intro a ha x10 x11
    have hm := mostS_le (f := F) (w := G) (y := y) a
    have hal : alikeS F G y a ≤ 10 := cnt_le _ 10
    have h0 : (if F a = true then cnt (fun b => F b && G a y == G b y) 0 else 0) = 0 := by split <;> rfl
    have hmx : (if (if F a = true then alikeS F G y a else 0) ≤ mostS F G y a then mostS F G y a else (if F a = true then alikeS F G y a else 0)) = mostS F G y (a + 1) := by
      show _ = if F a = true ∧ mostS F G y a < alikeS F G y a then alikeS F G y a else mostS F G y a
      by_cases h1 : F a = true
      · simp only [h1, if_true, true_and]
        by_cases h2 : mostS F G y a < alikeS F G y a
        · rw [if_pos h2, if_neg (by omega)]
        · rw [if_neg h2, if_pos (by omega)]
      · simp [h1]
    have hle : (if F a = true then alikeS F G y a else 0) ≤ 10 := by split <;> omega
    have hin := xtlO (p := p) (f := f) (w := w) (mo := mostS F G y a) (x5 := x5) (x6 := x6) (Q := Q) hI hF (show a < 10 by omega) hy hG (fun x11 => ?_) 10 0 (by omega)
    · rw [h0] at hin
      refine r_ild9 (pc := 53) dX0_tells_53 ?_
      refine r_bipush (v := nI 10) (pc := 55) dX0_tells_55 (by decide) ?_
      first | refine r_icmp_geN (pc := 57) (tgt := 147) dX0_tells_57 (by decide) (by omega) (by omega) (fun h57 => ?_) (fun h57 => ?_) | refine r_icmp_ge (pc := 57) (tgt := 147) dX0_tells_57 (by decide) (fun h57 => ?_) (fun h57 => ?_)
      · skip
        exact absurd h57 (by omega)
      · skip
        refine r_iconst (v := nI 0) (pc := 60) dX0_tells_60 (by decide) ?_
        refine r_ist10 (pc := 61) dX0_tells_61 ?_
        refine r_iconst (v := nI 0) (pc := 63) dX0_tells_63 (by decide) ?_
        refine r_ist11 (pc := 64) dX0_tells_64 ?_
        exact hin
    · skip
      refine r_ild8 (pc := 132) dX0_tells_132 ?_
      refine r_ild10 (pc := 134) dX0_tells_134 ?_
      refine r_cS (pc := 136) dX0_tells_136 cs_X0_285 (ct_J12_max (by omega) (by omega)) rfl rfl (Nat.le_of_ble_eq_true rfl) (by first | decide | omega) ?_
      rintro _ _ ⟨rfl, rfl⟩
      rw [hmx]
      refine r_ist8 (pc := 139) dX0_tells_139 ?_
      first | refine r_iinc9N (j := 1) (pc := 141) dX0_tells_141 rfl ?_ | refine r_iinc9 (pc := 141) dX0_tells_141 ?_
      refine r_goto (pc := 144) (tgt := 53) dX0_tells_144 (by decide) ?_
      exact ih (a + 1) (by omega) _ _
/-- the least so far -/
def oLs : Option (Nat × Nat) → Int32
  | none => nI 100000000
  | some z => nI z.2
def tlJ (y v : Nat) : Option (Nat × Nat) → Option (Nat × Nat)
  | none => some (y, v)
  | some z => if v < z.2 then some (y, v) else some z
theorem tellS_s {m : Nat → Nat} {k y : Nat} {x : Option (Nat × Nat)} : tellS m (k + 1) y x = tellS m k (y + 1) (tlJ y (m y) x) := by cases x <;> rfl
theorem xtlY {p f w : Nat} {F : Nat → Bool} {G : Nat → Nat → Nat} {Q : Option Value → MM → Prop} (hI : IX g M o P ta s q) (hGI : GI q) (hH : 0 < tH (gT q)) (hF : setS F 10 < 1024) (hG : ∀ v, v < 10 → ∀ y, y < min 31 (1000 - yr (gS q)) → iX s (385 + v) y = nI (G v y) ∧ G v y ≤ 99) : ∀ k y x x8 x9 x10 x11, y + k = min 30 (999 - yr (gS q)) + 1 → 1 ≤ y → (∀ z, x = some z → z.2 ≤ 10) →
    (∀ x7 x8 x9 x10 x11, Bd g yX0_tells cX0_tells 12 (some Jvm.ClassFile.FieldType.int) [] 435 0 0 (putX M o s) 171 [some (.ref o), some (.int (nI p)), some (.int (nI f)), some (.int (nI w)), some (.int (nI (setS F 10))), some (.int (oS1 (tellS (fun y => mostS F G y 10) k y x))), some (.int (oLs (tellS (fun y => mostS F G y 10) k y x))), x7, x8, x9, x10, x11] [] Q noX) →
    Bd g yX0_tells cX0_tells 12 (some Jvm.ClassFile.FieldType.int) [] 435 0 0 (putX M o s) 35 [some (.ref o), some (.int (nI p)), some (.int (nI f)), some (.int (nI w)), some (.int (nI (setS F 10))), some (.int (oS1 x)), some (.int (oLs x)), some (.int (nI y)), x8, x9, x10, x11] [] Q noX := by
  have W := hI.W
  have hg := W.gx
  have hS := W.S
  have hX := W.X
  have hy9 : yr (gS q) ≤ 999 := hGI.2.2.2.2.2.1.2.1
  intro k
  induction k with
  | zero =>
    intro y x x8 x9 x10 x11 hk h1 hx K
    refine r_ald0 (pc := 35) dX0_tells_35 ?_
    refine r_ild7 (pc := 36) dX0_tells_36 ?_
    refine r_iconst (v := nI 1) (pc := 38) dX0_tells_38 (by decide) ?_
    refine r_bipush (v := nI 30) (pc := 39) dX0_tells_39 (by decide) ?_
    refine r_cV (pc := 41) dX0_tells_41 cv_X0_236 (hS.k (c := 0) ow_0 kd_0) (ct_X0_isAhead W hI.nw.1.1 (by omega) (by decide) (by decide)) rfl rfl (Nat.le_of_ble_eq_true rfl) (by first | decide | omega) ?_
    rintro _ _ ⟨rfl, rfl⟩
    first | refine r_if_eqZ (pc := 44) (tgt := 171) dX0_tells_44 (by decide) (fun h44 => ?_) (fun h44 => ?_) | refine r_if_eqN (pc := 44) (tgt := 171) dX0_tells_44 (by decide) (by omega) (fun h44 => ?_) (fun h44 => ?_) | refine r_if_eq (pc := 44) (tgt := 171) dX0_tells_44 (by decide) (fun h44 => ?_) (fun h44 => ?_)
    · skip
      exact K _ _ _ _ _
    · skip
      exfalso
      rw [nI_toInt (by omega)] at h44
      omega
  | succ k ih =>
    intro y x x8 x9 x10 x11 hk h1 hx K
    have hm := mostS_le (f := F) (w := G) (y := y) 10
    have hgo : ∀ x', tlJ y (mostS F G y 10) x = x' → (∀ z, x' = some z → z.2 ≤ 10) → ∀ x8 x9 x10 x11, Bd g yX0_tells cX0_tells 12 (some Jvm.ClassFile.FieldType.int) [] 435 0 0 (putX M o s) 35 [some (.ref o), some (.int (nI p)), some (.int (nI f)), some (.int (nI w)), some (.int (nI (setS F 10))), some (.int (oS1 x')), some (.int (oLs x')), some (.int (nI (y + 1))), x8, x9, x10, x11] [] Q noX := by
      intro x' hx' hle x8 x9 x10 x11
      refine ih (y + 1) x' x8 x9 x10 x11 (by omega) (by omega) hle (fun a b c d e => ?_)
      have := K a b c d e
      rw [tellS_s, hx'] at this
      exact this
    clear ih
    have hin := xtlV (p := p) (f := f) (w := w) (x5 := oS1 x) (x6 := oLs x) (Q := Q) hI hF (show y < 31 by omega) (fun v hv => hG v hv y (by omega)) (fun x9 x10 x11 => ?_) 10 0 (by omega) x10 x11
    · skip
      refine r_ald0 (pc := 35) dX0_tells_35 ?_
      refine r_ild7 (pc := 36) dX0_tells_36 ?_
      refine r_iconst (v := nI 1) (pc := 38) dX0_tells_38 (by decide) ?_
      refine r_bipush (v := nI 30) (pc := 39) dX0_tells_39 (by decide) ?_
      refine r_cV (pc := 41) dX0_tells_41 cv_X0_236 (hS.k (c := 0) ow_0 kd_0) (ct_X0_isAhead W hI.nw.1.1 (by omega) (by decide) (by decide)) rfl rfl (Nat.le_of_ble_eq_true rfl) (by first | decide | omega) ?_
      rintro _ _ ⟨rfl, rfl⟩
      first | refine r_if_eqZ (pc := 44) (tgt := 171) dX0_tells_44 (by decide) (fun h44 => ?_) (fun h44 => ?_) | refine r_if_eqN (pc := 44) (tgt := 171) dX0_tells_44 (by decide) (by omega) (fun h44 => ?_) (fun h44 => ?_) | refine r_if_eq (pc := 44) (tgt := 171) dX0_tells_44 (by decide) (fun h44 => ?_) (fun h44 => ?_)
      · skip
        exfalso
        rw [nI_toInt (by omega)] at h44
        omega
      · skip
        refine r_iconst (v := nI 0) (pc := 47) dX0_tells_47 (by decide) ?_
        refine r_ist8 (pc := 48) dX0_tells_48 ?_
        refine r_iconst (v := nI 0) (pc := 50) dX0_tells_50 (by decide) ?_
        refine r_ist9 (pc := 51) dX0_tells_51 ?_
        exact hin
    · cases x with
      | none =>
        refine r_ild8 (pc := 147) dX0_tells_147 ?_
        refine r_ild6 (pc := 149) dX0_tells_149 ?_
        refine Bd.eqI (x' := nI 100000000) rfl ?_
        first | refine r_icmp_ltN (pc := 151) (tgt := 157) dX0_tells_151 (by decide) (by omega) (by omega) (fun h151 => ?_) (fun h151 => ?_) | refine r_icmp_lt (pc := 151) (tgt := 157) dX0_tells_151 (by decide) (fun h151 => ?_) (fun h151 => ?_)
        · skip
          refine r_ild8 (pc := 157) dX0_tells_157 ?_
          refine r_ist6 (pc := 159) dX0_tells_159 ?_
          refine r_ild7 (pc := 161) dX0_tells_161 ?_
          refine r_ist5 (pc := 163) dX0_tells_163 ?_
          first | refine r_iinc7N (j := 1) (pc := 165) dX0_tells_165 rfl ?_ | refine r_iinc7 (pc := 165) dX0_tells_165 ?_
          refine r_goto (pc := 168) (tgt := 35) dX0_tells_168 (by decide) ?_
          exact hgo (some (y, mostS F G y 10)) rfl (fun z hz => by cases hz; exact hm) _ _ _ _
        · skip
          exact absurd (by omega) h151
      | some z =>
        have hz := hx z rfl
        refine r_ild8 (pc := 147) dX0_tells_147 ?_
        refine r_ild6 (pc := 149) dX0_tells_149 ?_
        refine Bd.eqI (x' := nI z.2) rfl ?_
        first | refine r_icmp_ltN (pc := 151) (tgt := 157) dX0_tells_151 (by decide) (by omega) (by omega) (fun h151 => ?_) (fun h151 => ?_) | refine r_icmp_lt (pc := 151) (tgt := 157) dX0_tells_151 (by decide) (fun h151 => ?_) (fun h151 => ?_)
        · skip
          refine r_ild8 (pc := 157) dX0_tells_157 ?_
          refine r_ist6 (pc := 159) dX0_tells_159 ?_
          refine r_ild7 (pc := 161) dX0_tells_161 ?_
          refine r_ist5 (pc := 163) dX0_tells_163 ?_
          first | refine r_iinc7N (j := 1) (pc := 165) dX0_tells_165 rfl ?_ | refine r_iinc7 (pc := 165) dX0_tells_165 ?_
          refine r_goto (pc := 168) (tgt := 35) dX0_tells_168 (by decide) ?_
          first | exact hgo (some (y, mostS F G y 10)) (if_pos h151) (fun u hu => by cases hu; exact hm) _ _ _ _ | exact hgo (some z) (if_neg h151) hx _ _ _ _
        · skip
          refine r_goto (pc := 154) (tgt := 165) dX0_tells_154 (by decide) ?_
          first | refine r_iinc7N (j := 1) (pc := 165) dX0_tells_165 rfl ?_ | refine r_iinc7 (pc := 165) dX0_tells_165 ?_
          refine r_goto (pc := 168) (tgt := 35) dX0_tells_168 (by decide) ?_
          first | exact hgo (some (y, mostS F G y 10)) (if_pos h151) (fun u hu => by cases hu; exact hm) _ _ _ _ | exact hgo (some z) (if_neg h151) hx _ _ _ _
theorem thoughtsQ_le {x y : Int32} (hI : IX g M o P ta s q) : thoughtsQ q x y = -1 ∨ ∃ v, v < 1024 ∧ thoughtsQ q x y = nI v := by
  unfold thoughtsQ
  cases twoS (tn (gT q)) x y with
  | none => exact Or.inl rfl
  | some z => exact Or.inr ⟨_, by have := setS_lt (thF q z.1 z.2) 10; exact this, rfl⟩
theorem tellS_ok {m : Nat → Nat} : ∀ k y x, (∀ z : Nat × Nat, x = some z → z.1 < y) → ∀ z, tellS m k y x = some z → z.1 < y + k
  | 0, _, _, h => h
  | k + 1, y, x, h => by
    intro z hz
    have := tellS_ok (m := m) k (y + 1) _ (fun u hu => ?_) z hz
    · omega
    · cases x with
      | none => cases hu; exact Nat.lt_succ_self y
      | some v =>
        have hv := h v rfl
        have hu : (if m y < v.2 then some (y, m y) else some v) = some u := hu
        split at hu
        · cases hu; exact Nat.lt_succ_self y
        · cases hu; omega
theorem xtlEnd {p f w : Nat} {st : Int32} {r : Option (Nat × Nat)} {x7 x8 x9 x10 x11 : Option Value} (hI : IX g M o P ta s q) (hw : w < 2) (hr : ∀ z, r = some z → z.1 < 100) : Bd g yX0_tells cX0_tells 12 (some Jvm.ClassFile.FieldType.int) [] 435 0 0 (putX M o s) 171 [some (.ref o), some (.int (nI p)), some (.int (nI f)), some (.int (nI w)), some (.int st), some (.int (oS1 r)), some (.int (oLs r)), x7, x8, x9, x10, x11] [] (QI g M o P ta q (.int (strR w r))) noX := by
  cases r with
  | none =>
    show Bd g yX0_tells cX0_tells 12 (some Jvm.ClassFile.FieldType.int) [] 435 0 0 (putX M o s) 171 [some (.ref o), some (.int (nI p)), some (.int (nI f)), some (.int (nI w)), some (.int st), some (.int (-1)), some (.int (nI 100000000)), x7, x8, x9, x10, x11] [] (QI g M o P ta q (.int (-1))) noX
    refine r_ild5 (pc := 171) dX0_tells_171 ?_
    refine r_iconst (v := -1) (pc := 173) dX0_tells_173 (by decide) ?_
    refine r_icmp_eq (pc := 174) (tgt := 181) dX0_tells_174 (by decide) (fun h174 => ?_) (fun h174 => ?_)
    · skip
      refine r_ild5 (pc := 181) dX0_tells_181 ?_
      refine r_goto (pc := 183) (tgt := 188) dX0_tells_183 (by decide) ?_
      refine r_iret (pc := 188) dX0_tells_188 ?_
      exact ⟨s, rfl, rfl, hI⟩
    · skip
      exact absurd rfl h174
  | some z =>
    have hz := hr z rfl
    show Bd g yX0_tells cX0_tells 12 (some Jvm.ClassFile.FieldType.int) [] 435 0 0 (putX M o s) 171 [some (.ref o), some (.int (nI p)), some (.int (nI f)), some (.int (nI w)), some (.int st), some (.int (nI z.1)), some (.int (nI z.2)), x7, x8, x9, x10, x11] [] (QI g M o P ta q (.int (if w = 0 then nI z.1 else nI z.2))) noX
    refine r_ild5 (pc := 171) dX0_tells_171 ?_
    refine r_iconst (v := -1) (pc := 173) dX0_tells_173 (by decide) ?_
    refine r_icmp_eq (pc := 174) (tgt := 181) dX0_tells_174 (by decide) (fun h174 => ?_) (fun h174 => ?_)
    · skip
      exact absurd h174 (nI_m1 (by omega))
    · skip
      refine r_ild3 (pc := 177) dX0_tells_177 ?_
      refine r_if_neN (pc := 178) (tgt := 186) dX0_tells_178 (by decide) (by omega) (fun h178 => ?_) (fun h178 => ?_)
      · skip
        refine r_ild6 (pc := 186) dX0_tells_186 ?_
        refine r_iret (pc := 188) dX0_tells_188 ?_
        exact ⟨s, rfl, by first | rw [if_pos h178] | rw [if_neg h178], hI⟩
      · skip
        refine r_ild5 (pc := 181) dX0_tells_181 ?_
        refine r_goto (pc := 183) (tgt := 188) dX0_tells_183 (by decide) ?_
        refine r_iret (pc := 188) dX0_tells_188 ?_
        exact ⟨s, rfl, by first | rw [if_pos h178] | rw [if_neg h178], hI⟩
theorem px_tells {x y z : Int32} (hI : IX g M o P ta s q) (hG : GI q) : Ct g yX0_tells cX0_tells 12 (some Jvm.ClassFile.FieldType.int) 435 0 0 [.ref o, .int x, .int y, .int z] (putX M o s) (QI g M o P ta q (.int (tellsQ q x y z))) noX := by
  have W := hI.W
  have S := hI.So
  have hg := W.gx
  have hS := W.S
  have hX := W.X
  have hTB := W.B
  have hn8 := hTB.1
  have hH9 := hTB.2.1
  have hN := hI.nw.1
  have hR := hI.nw.2
  have hB : SB (tn (gT q)) (gS q) := hG.2.2.2.2.2.1.1
  have hy9 : yr (gS q) ≤ 999 := hG.2.2.2.2.2.1.2.1
  have hr : ∀ e ∈ gRw q, e.1 ≤ 30 := fun e he => (hG.2.2.2.2.2.2.2.2.2.1 e he).1
  refine Ct.of (by decide) (Nat.le_of_ble_eq_true rfl) rfl ?_
  unfold tellsQ
  cases hp : twoS (tn (gT q)) x y with
  | none =>
    have ht : thoughtsQ q x y = -1 := by unfold thoughtsQ; rw [hp]
    refine r_ald0 (pc := 0) dX0_tells_0 ?_
    refine r_ild1 (pc := 1) dX0_tells_1 ?_
    refine r_ild2 (pc := 2) dX0_tells_2 ?_
    refine r_cV (pc := 3) dX0_tells_3 cv_X0_281 (hS.k (c := 0) ow_0 kd_0) (px_thoughts hI hG) rfl rfl (Nat.le_of_ble_eq_true rfl) (by first | decide | omega) ?_
    rintro _ _ ⟨s1, rfl, rfl, hI1⟩
    rw [ht]
    refine r_ist4 (pc := 6) dX0_tells_6 ?_
    refine r_ild4 (pc := 8) dX0_tells_8 ?_
    refine r_if_le (pc := 10) (tgt := 22) dX0_tells_10 (by decide) (fun h10 => ?_) (fun h10 => ?_)
    · skip
      refine r_iconst (v := -1) (pc := 22) dX0_tells_22 (by decide) ?_
      refine r_iret (pc := 23) dX0_tells_23 ?_
      exact ⟨s1, rfl, rfl, hI1⟩
    · skip
      exact absurd (by decide) h10
  | some u =>
    obtain ⟨h1, h2, h3, h4, h5⟩ := twoS_some hp
    subst h4
    subst h5
    obtain ⟨p, f⟩ := u
    have h1 : p < tn (gT q) := h1
    have h2 : f < tn (gT q) := h2
    have h3 : p ≠ f := h3
    show Bd g yX0_tells cX0_tells 12 (some Jvm.ClassFile.FieldType.int) [] 435 0 0 (putX M o s) 0 (lvo 12 [.ref o, .int (nI p), .int (nI f), .int z]) [] (QI g M o P ta q (.int (match some (p, f), pidx z 2 with | some z, some v => tellsN q z.1 z.2 v | _, _ => -1))) noX
    have hH : 0 < tH (gT q) := by have := hG.2.2.2.2.2.1.2.2.1 p h1; omega
    have hsl : setS (thF q p f) 10 < 1024 := setS_lt (thF q p f) 10
    have hsc := setS_cnt (thF q p f) 10
    cases hk : pidx z 2 with
    | none =>
      have hk := pidx_none hk
      refine r_ald0 (pc := 0) dX0_tells_0 ?_
      refine r_ild1 (pc := 1) dX0_tells_1 ?_
      refine r_ild2 (pc := 2) dX0_tells_2 ?_
      refine r_cV (pc := 3) dX0_tells_3 cv_X0_281 (hS.k (c := 0) ow_0 kd_0) (ct_X0_thoughts hI hG hr h1 h2 h3) rfl rfl (Nat.le_of_ble_eq_true rfl) (by first | decide | omega) ?_
      rintro _ _ ⟨s1, rfl, rfl, hI1, -⟩
      refine r_ist4 (pc := 6) dX0_tells_6 ?_
      refine r_ild4 (pc := 8) dX0_tells_8 ?_
      refine r_if_leN (pc := 10) (tgt := 22) dX0_tells_10 (by decide) (by omega) (fun h10 => ?_) (fun h10 => ?_)
      · skip
        refine r_iconst (v := -1) (pc := 22) dX0_tells_22 (by decide) ?_
        refine r_iret (pc := 23) dX0_tells_23 ?_
        exact ⟨s1, rfl, rfl, hI1⟩
      · skip
        refine r_ild3 (pc := 13) dX0_tells_13 ?_
        refine r_iconst (v := nI 0) (pc := 14) dX0_tells_14 (by decide) ?_
        refine r_iconst (v := nI 1) (pc := 15) dX0_tells_15 (by decide) ?_
        refine r_cS (pc := 16) dX0_tells_16 cs_X0_190 (ct_X0_is (v := z) (a := nI 0) (b := nI 1)) rfl rfl (Nat.le_of_ble_eq_true rfl) (by first | decide | omega) ?_
        rintro _ _ ⟨rfl, rfl⟩
        rw [nI_toInt (n := 0) (by decide), nI_toInt (n := 1) (by decide)]
        first | refine r_if_neZ (pc := 19) (tgt := 24) dX0_tells_19 (by decide) (fun h19 => ?_) (fun h19 => ?_) | refine r_if_neN (pc := 19) (tgt := 24) dX0_tells_19 (by decide) (by omega) (fun h19 => ?_) (fun h19 => ?_) | refine r_if_ne (pc := 19) (tgt := 24) dX0_tells_19 (by decide) (fun h19 => ?_) (fun h19 => ?_)
        · skip
          exact absurd h19 (by omega)
        · skip
          refine r_iconst (v := -1) (pc := 22) dX0_tells_22 (by decide) ?_
          refine r_iret (pc := 23) dX0_tells_23 ?_
          exact ⟨s1, rfl, rfl, hI1⟩
    | some w =>
      obtain ⟨hw, rfl⟩ := pidx_some hk
      show Bd g yX0_tells cX0_tells 12 (some Jvm.ClassFile.FieldType.int) [] 435 0 0 (putX M o s) 0 (lvo 12 [.ref o, .int (nI p), .int (nI f), .int (nI w)]) [] (QI g M o P ta q (.int (tellsN q p f w))) noX
      unfold tellsN
      by_cases hc : cnt (thF q p f) 10 = 0
      · rw [if_pos hc]
        have hs0 := hsc.mpr hc
        refine r_ald0 (pc := 0) dX0_tells_0 ?_
        refine r_ild1 (pc := 1) dX0_tells_1 ?_
        refine r_ild2 (pc := 2) dX0_tells_2 ?_
        refine r_cV (pc := 3) dX0_tells_3 cv_X0_281 (hS.k (c := 0) ow_0 kd_0) (ct_X0_thoughts hI hG hr h1 h2 h3) rfl rfl (Nat.le_of_ble_eq_true rfl) (by first | decide | omega) ?_
        rintro _ _ ⟨s1, rfl, rfl, hI1, -⟩
        refine r_ist4 (pc := 6) dX0_tells_6 ?_
        refine r_ild4 (pc := 8) dX0_tells_8 ?_
        refine r_if_leN (pc := 10) (tgt := 22) dX0_tells_10 (by decide) (by omega) (fun h10 => ?_) (fun h10 => ?_)
        · skip
          refine r_iconst (v := -1) (pc := 22) dX0_tells_22 (by decide) ?_
          refine r_iret (pc := 23) dX0_tells_23 ?_
          exact ⟨s1, rfl, rfl, hI1⟩
        · skip
          exact absurd h10 (by omega)
      · rw [if_neg hc]
        have hs0 : setS (thF q p f) 10 ≠ 0 := fun z => hc (hsc.mp z)
        refine r_ald0 (pc := 0) dX0_tells_0 ?_
        refine r_ild1 (pc := 1) dX0_tells_1 ?_
        refine r_ild2 (pc := 2) dX0_tells_2 ?_
        refine r_cV (pc := 3) dX0_tells_3 cv_X0_281 (hS.k (c := 0) ow_0 kd_0) (ct_X0_thoughts hI hG hr h1 h2 h3) rfl rfl (Nat.le_of_ble_eq_true rfl) (by first | decide | omega) ?_
        rintro _ _ ⟨s1, rfl, rfl, hI1, hW1⟩
        refine r_ist4 (pc := 6) dX0_tells_6 ?_
        refine r_ild4 (pc := 8) dX0_tells_8 ?_
        refine r_if_leN (pc := 10) (tgt := 22) dX0_tells_10 (by decide) (by omega) (fun h10 => ?_) (fun h10 => ?_)
        · skip
          exact absurd h10 (by omega)
        · skip
          refine r_ild3 (pc := 13) dX0_tells_13 ?_
          refine r_iconst (v := nI 0) (pc := 14) dX0_tells_14 (by decide) ?_
          refine r_iconst (v := nI 1) (pc := 15) dX0_tells_15 (by decide) ?_
          refine r_cS (pc := 16) dX0_tells_16 cs_X0_190 (ct_X0_is (v := nI w) (a := nI 0) (b := nI 1)) rfl rfl (Nat.le_of_ble_eq_true rfl) (by first | decide | omega) ?_
          rintro _ _ ⟨rfl, rfl⟩
          rw [nI_toInt (n := 0) (by decide), nI_toInt (n := 1) (by decide), nI_toInt (n := w) (by omega)]
          first | refine r_if_neZ (pc := 19) (tgt := 24) dX0_tells_19 (by decide) (fun h19 => ?_) (fun h19 => ?_) | refine r_if_neN (pc := 19) (tgt := 24) dX0_tells_19 (by decide) (by omega) (fun h19 => ?_) (fun h19 => ?_) | refine r_if_ne (pc := 19) (tgt := 24) dX0_tells_19 (by decide) (fun h19 => ?_) (fun h19 => ?_)
          · skip
            refine r_iconst (v := -1) (pc := 24) dX0_tells_24 (by decide) ?_
            refine r_ist5 (pc := 25) dX0_tells_25 ?_
            refine r_ldcw (pc := 27) dX0_tells_27 q1483 ?_
            refine r_ist6 (pc := 30) dX0_tells_30 ?_
            refine r_iconst (v := nI 1) (pc := 32) dX0_tells_32 (by decide) ?_
            refine r_ist7 (pc := 33) dX0_tells_33 ?_
            refine xtlY (G := thW q p f) hI1 hG hH hsl (fun v hv y hy => ⟨hW1 v hv y hy, ?_⟩) (min 30 (999 - yr (gS q))) 1 none none none none none (by omega) (by decide) (fun z hz => by cases hz) (fun x7 x8 x9 x10 x11 => ?_)
            · have hBt := sTh_SB' (p := p) (r := f) (v := v) hB (by omega)
              exact ((yearsS_SB y (gT q) (sTh (gS q) p f v) hBt (by show yr (gS q) + y ≤ 2000; omega)).2 f h2).2.1
            · have htl := tellS_ok (m := fun y => mostS (thF q p f) (thW q p f) y 10) (min 30 (999 - yr (gS q))) 1 none (fun z hz => by cases hz)
              generalize tellS (fun y => mostS (thF q p f) (thW q p f) y 10) (min 30 (999 - yr (gS q))) 1 none = r at htl ⊢
              exact xtlEnd hI1 hw (fun z hz => by have := htl z hz; omega)
          · skip
            exact absurd (by omega) h19
end X29
