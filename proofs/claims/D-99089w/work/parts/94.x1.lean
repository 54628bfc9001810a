set_option maxRecDepth 100000
/-! THE OTHER SIDE: a state's small readers -/
section X1
variable {g : GC} {M : MM} {o b : Nat} {s : XS}
theorem xwhoLoop {n : Nat} {h : Int32} (hS : ShX g M o) (hX : FxX (rX s) o) (hb : isS b) (hn : iX s b 1 = nI n) (hn8 : n ≤ 8) : ∀ k i, i + k = n →
    Bd g yX5_who cX5_who 3 (some Jvm.ClassFile.FieldType.int) [] 0 0 0 (putX M o s) 2 [some (.ref (o + b)), some (.int h), some (.int (nI i))] [] (PQ (putX M o s) (.int (oI (ff (fun p => iX s (b + 1) p == h) k i)))) noX := by
  intro k
  induction k with
  | zero =>
    intro i hi
    refine r_ild2 (pc := 2) dX5_who_2 ?_
    refine r_ald0 (pc := 3) dX5_who_3 ?_
    refine x_getI (c := b) hS (st_ow hb) (st_kd hb) (pc := 4) dX5_who_4 fl_X5_51 ?_
    rw [hn]
    first | refine r_icmp_geN (pc := 7) (tgt := 28) dX5_who_7 (by decide) (by omega) (by omega) (fun h7 => ?_) (fun h7 => ?_) | refine r_icmp_ge (pc := 7) (tgt := 28) dX5_who_7 (by decide) (fun h7 => ?_) (fun h7 => ?_)
    · skip
      skip
      refine r_iconst (v := -1) (pc := 28) dX5_who_28 (by decide) ?_
      refine r_iret (pc := 29) dX5_who_29 ?_
      exact ⟨rfl, rfl⟩
    · skip
      exact absurd h7 (by omega)
  | succ k ih =>
    intro i hi
    refine r_ild2 (pc := 2) dX5_who_2 ?_
    refine r_ald0 (pc := 3) dX5_who_3 ?_
    refine x_getI (c := b) hS (st_ow hb) (st_kd hb) (pc := 4) dX5_who_4 fl_X5_51 ?_
    rw [hn]
    first | refine r_icmp_geN (pc := 7) (tgt := 28) dX5_who_7 (by decide) (by omega) (by omega) (fun h7 => ?_) (fun h7 => ?_) | refine r_icmp_ge (pc := 7) (tgt := 28) dX5_who_7 (by decide) (fun h7 => ?_) (fun h7 => ?_)
    · skip
      exact absurd h7 (by omega)
    · skip
      refine r_ald0 (pc := 10) dX5_who_10 ?_
      refine x_getR (c := b) hS (st_ow hb) (st_kd hb) (pc := 11) dX5_who_11 fl_X5_15 (fs_3 hX hb) ?_
      refine r_ild2 (pc := 14) dX5_who_14 ?_
      refine x_iald (c := (b + 1)) hS (st_ow1 hb) (st_kd1 hb) (st_ln1 hb) (pc := 15) dX5_who_15 (by omega) (by omega) ?_
      refine r_ild1 (pc := 16) dX5_who_16 ?_
      first | refine r_icmp_neN (pc := 17) (tgt := 22) dX5_who_17 (by decide) (by omega) (by omega) (fun h17 => ?_) (fun h17 => ?_) | refine r_icmp_ne (pc := 17) (tgt := 22) dX5_who_17 (by decide) (fun h17 => ?_) (fun h17 => ?_)
      · skip
        rw [show ff (fun p => iX s (b + 1) p == h) (k + 1) i = ff (fun p => iX s (b + 1) p == h) k (i + 1) by simp [ff, h17]]
        first | refine r_iinc2N (j := 1) (pc := 22) dX5_who_22 rfl ?_ | refine r_iinc2 (pc := 22) dX5_who_22 ?_
        refine r_goto (pc := 25) (tgt := 2) dX5_who_25 (by decide) ?_
        exact ih (i + 1) (by omega)
      · skip
        refine r_ild2 (pc := 20) dX5_who_20 ?_
        refine r_iret (pc := 21) dX5_who_21 ?_
        exact ⟨by simp [ff, h17, oI], rfl⟩
theorem ct_X5_who0 {n : Nat} {h : Int32} (hS : ShX g M o) (hX : FxX (rX s) o) (hb : isS b) (hn : iX s b 1 = nI n) (hn8 : n ≤ 8) : Ct g yX5_who cX5_who 3 (some Jvm.ClassFile.FieldType.int) 0 0 0 [.ref (o + b), .int h] (putX M o s) (PQ (putX M o s) (.int (oI (ff (fun p => iX s (b + 1) p == h) n 0)))) noX := by
  refine Ct.of (by decide) (Nat.le_of_ble_eq_true rfl) rfl ?_
  refine r_iconst (v := nI 0) (pc := 0) dX5_who_0 (by decide) ?_
  refine r_ist2 (pc := 1) dX5_who_1 ?_
  exact xwhoLoop hS hX hb hn hn8 n 0 (by omega)
theorem ct_X5_who {n h : Nat} {F K : Nat → Nat} {t : St} (hS : ShX g M o) (hX : FxX (rX s) o) (hb : isS b) (hN : SX s b n F K t) (hB : SB n t) (hn8 : n ≤ 8) (hh : h < 100) : Ct g yX5_who cX5_who 3 (some Jvm.ClassFile.FieldType.int) 0 0 0 [.ref (o + b), .int (nI h)] (putX M o s) (PQ (putX M o s) (.int (oI (who t n h)))) noX := by
  have := ct_X5_who0 (s := s) (h := nI h) hS hX hb hN.2.1 hn8
  rw [ff_congr (f' := fun p => hs t p == h) n 0 (fun j _ hj => ?_)] at this
  · exact this
  · rw [hN.2.2.1 j (by omega)]
    have hb := (hB.2 j (by omega)).1
    by_cases e : hs t j = h
    · simp [e]
    · rw [beq_eq_false_iff_ne.mpr (fun q => e ((nI_eq (by omega) (by omega)).mp q)), beq_eq_false_iff_ne.mpr e]
theorem ct_X5_beside {n p side : Nat} {F K : Nat → Nat} {t : St} (hS : ShX g M o) (hX : FxX (rX s) o) (hb : isS b) (hN : SX s b n F K t) (hB : SB n t) (hn8 : n ≤ 8) (hp : p < n) (hs2 : side < 2) : Ct g yX5_beside cX5_beside 3 (some Jvm.ClassFile.FieldType.int) 1 0 0 [.ref (o + b), .int (nI p), .int (nI side)] (putX M o s) (PQ (putX M o s) (.int (oI (nb t n p side)))) noX := by
  have hbb := (hB.2 p hp).1
  refine Ct.of (by decide) (Nat.le_of_ble_eq_true rfl) rfl ?_
  refine r_ald0 (pc := 0) dX5_beside_0 ?_
  refine r_ald0 (pc := 1) dX5_beside_1 ?_
  refine x_getR (c := b) hS (st_ow hb) (st_kd hb) (pc := 2) dX5_beside_2 fl_X5_15 (fs_3 hX hb) ?_
  refine r_ild1 (pc := 5) dX5_beside_5 ?_
  refine x_iald (c := (b + 1)) hS (st_ow1 hb) (st_kd1 hb) (st_ln1 hb) (pc := 6) dX5_beside_6 (by omega) (by omega) ?_
  rw [hN.2.2.1 p hp]
  refine r_ild2 (pc := 7) dX5_beside_7 ?_
  first | refine r_if_neZ (pc := 8) (tgt := 15) dX5_beside_8 (by decide) (fun h8 => ?_) (fun h8 => ?_) | refine r_if_neN (pc := 8) (tgt := 15) dX5_beside_8 (by decide) (by omega) (fun h8 => ?_) (fun h8 => ?_) | refine r_if_ne (pc := 8) (tgt := 15) dX5_beside_8 (by decide) (fun h8 => ?_) (fun h8 => ?_)
  · skip
    rw [show nb t n p side = who t n (hs t p + 1) from if_neg h8]
    refine r_iconst (v := nI 1) (pc := 15) dX5_beside_15 (by decide) ?_
    first | refine r_iaddN (pc := 16) dX5_beside_16 ?_ | refine r_iaddJ (pc := 16) dX5_beside_16 ?_ | refine r_iadd (pc := 16) dX5_beside_16 ?_
    refine r_cV (pc := 17) dX5_beside_17 cv_X5_68 (hS.k (c := b) (st_ow hb) (st_kd hb)) (ct_X5_who hS hX hb hN hB hn8 (by omega)) rfl rfl (Nat.le_of_ble_eq_true rfl) (by decide) ?_
    rintro _ _ ⟨rfl, rfl⟩
    refine r_iret (pc := 20) dX5_beside_20 ?_
    exact ⟨rfl, rfl⟩
  · skip
    have h8' : nb t n p side = if hs t p = 0 then none else who t n (hs t p - 1) := if_pos h8
    refine r_iconst (v := -1) (pc := 11) dX5_beside_11 (by decide) ?_
    refine r_goto (pc := 12) (tgt := 16) dX5_beside_12 (by decide) ?_
    refine r_iadd (pc := 16) dX5_beside_16 ?_
    rw [h8']
    by_cases h0 : hs t p = 0
    · rw [if_pos h0, h0]
      refine Bd.eqI (x' := -1) (by decide) ?_
      refine r_cV (pc := 17) dX5_beside_17 cv_X5_68 (hS.k (c := b) (st_ow hb) (st_kd hb)) (ct_X5_who0 hS hX hb hN.2.1 hn8) rfl rfl (Nat.le_of_ble_eq_true rfl) (by decide) ?_
      rw [ff_none n 0 (fun j _ hj => ?_)]
      · rintro _ _ ⟨rfl, rfl⟩
        exact r_iret (pc := 20) dX5_beside_20 ⟨rfl, rfl⟩
      · rw [hN.2.2.1 j (by omega)]
        have hb := (hB.2 j (by omega)).1
        exact beq_eq_false_iff_ne.mpr (nI_m1 (by omega))
    · rw [if_neg h0]
      refine Bd.eqI (x' := nI (hs t p - 1)) (sb_m1 (by omega)) ?_
      refine r_cV (pc := 17) dX5_beside_17 cv_X5_68 (hS.k (c := b) (st_ow hb) (st_kd hb)) (ct_X5_who hS hX hb hN hB hn8 (by omega)) rfl rfl (Nat.le_of_ble_eq_true rfl) (by decide) ?_
      rintro _ _ ⟨rfl, rfl⟩
      exact r_iret (pc := 20) dX5_beside_20 ⟨rfl, rfl⟩
theorem xlooksLoop {n : Nat} {F K : Nat → Nat} {t : St} (hS : ShX g M o) (hX : FxX (rX s) o) (hb : isS b) (hN : SX s b n F K t) (hn8 : n ≤ 8) : ∀ k i, i + k = n →
    Bd g yX5_looks cX5_looks 3 (some Jvm.ClassFile.FieldType.int) [] 0 0 0 (putX M o s) 4 [some (.ref (o + b)), some (.int (nI (sumN (lk t) i))), some (.int (nI i))] [] (PQ (putX M o s) (.int (nI (sumN (lk t) n)))) noX := by
  intro k
  induction k with
  | zero =>
    intro i hi
    obtain rfl : i = n := by omega
    refine r_ild2 (pc := 4) dX5_looks_4 ?_
    refine r_ald0 (pc := 5) dX5_looks_5 ?_
    refine x_getI (c := b) hS (st_ow hb) (st_kd hb) (pc := 6) dX5_looks_6 fl_X5_51 ?_
    rw [hN.2.1]
    first | refine r_icmp_geN (pc := 9) (tgt := 27) dX5_looks_9 (by decide) (by omega) (by omega) (fun h9 => ?_) (fun h9 => ?_) | refine r_icmp_ge (pc := 9) (tgt := 27) dX5_looks_9 (by decide) (fun h9 => ?_) (fun h9 => ?_)
    · skip
      refine r_ild1 (pc := 27) dX5_looks_27 ?_
      refine r_iret (pc := 28) dX5_looks_28 ?_
      exact ⟨rfl, rfl⟩
    · skip
      exact absurd h9 (by omega)
  | succ k ih =>
    intro i hi
    refine r_ild2 (pc := 4) dX5_looks_4 ?_
    refine r_ald0 (pc := 5) dX5_looks_5 ?_
    refine x_getI (c := b) hS (st_ow hb) (st_kd hb) (pc := 6) dX5_looks_6 fl_X5_51 ?_
    rw [hN.2.1]
    first | refine r_icmp_geN (pc := 9) (tgt := 27) dX5_looks_9 (by decide) (by omega) (by omega) (fun h9 => ?_) (fun h9 => ?_) | refine r_icmp_ge (pc := 9) (tgt := 27) dX5_looks_9 (by decide) (fun h9 => ?_) (fun h9 => ?_)
    · skip
      exact absurd h9 (by omega)
    · skip
      refine r_ild1 (pc := 12) dX5_looks_12 ?_
      refine r_ald0 (pc := 13) dX5_looks_13 ?_
      refine x_getR (c := b) hS (st_ow hb) (st_kd hb) (pc := 14) dX5_looks_14 fl_X5_19 (fs_4 hX hb) ?_
      refine r_ild2 (pc := 17) dX5_looks_17 ?_
      refine x_iald (c := (b + 2)) hS (st_ow2 hb) (st_kd2 hb) (st_ln2 hb) (pc := 18) dX5_looks_18 (by omega) (by omega) ?_
      rw [hN.2.2.2.1 i (by omega)]
      first | refine r_iaddN (pc := 19) dX5_looks_19 ?_ | refine r_iaddJ (pc := 19) dX5_looks_19 ?_ | refine r_iadd (pc := 19) dX5_looks_19 ?_
      refine r_ist1 (pc := 20) dX5_looks_20 ?_
      first | refine r_iinc2N (j := 1) (pc := 21) dX5_looks_21 rfl ?_ | refine r_iinc2 (pc := 21) dX5_looks_21 ?_
      refine r_goto (pc := 24) (tgt := 4) dX5_looks_24 (by decide) ?_
      exact ih (i + 1) (by omega)
theorem ct_X5_looks {n : Nat} {F K : Nat → Nat} {t : St} (hS : ShX g M o) (hX : FxX (rX s) o) (hb : isS b) (hN : SX s b n F K t) (hn8 : n ≤ 8) : Ct g yX5_looks cX5_looks 3 (some Jvm.ClassFile.FieldType.int) 0 0 0 [.ref (o + b)] (putX M o s) (PQ (putX M o s) (.int (nI (sumN (lk t) n)))) noX := by
  refine Ct.of (by decide) (Nat.le_of_ble_eq_true rfl) rfl ?_
  refine r_iconst (v := nI 0) (pc := 0) dX5_looks_0 (by decide) ?_
  refine r_ist1 (pc := 1) dX5_looks_1 ?_
  refine r_iconst (v := nI 0) (pc := 2) dX5_looks_2 (by decide) ?_
  refine r_ist2 (pc := 3) dX5_looks_3 ?_
  exact xlooksLoop hS hX hb hN hn8 n 0 (by omega)
/-- the parts that are asked for of two people -/
def askX (s : XS) (a b c d : Int) : XS := uL (uL (uL (uL s 8 0 (lI a)) 8 1 (lI b)) 8 2 (lI c)) 8 3 (lI d)
theorem ct_X5_asks {n p q r u : Nat} {F K : Nat → Nat} {t : St} (hg : GX g) (hS : ShX g M o) (hX : FxX (rX s) o) (hb : isS b) (hN : SX s b n F K t) (hB : SB n t) (hF : ∀ p, p < n → F p ≤ 9 ∧ K p ≤ 9) (hn8 : n ≤ 8) (hp : p < n) (hq : q < n) (hr : r < n) (hu : u < n) : Ct g yX5_asks cX5_asks 5 none 0 0 0 [.ref (o + b), .int (nI p), .int (nI q), .int (nI r), .int (nI u)] (putX M o s) (fun v M' => v = none ∧ M' = putX M o (askX s (F p) (K q) (th t r u) (yr t))) noX := by
  have h1 := hF p hp
  have h2 := hF q hq
  have h3 := (hB.2 r hr).2.2.2 u hu
  have h4 := hB.1
  refine Ct.of (by decide) (Nat.le_of_ble_eq_true rfl) rfl ?_
  refine r_ald0 (pc := 0) dX5_asks_0 ?_
  refine x_getR (c := b) hS (st_ow hb) (st_kd hb) (pc := 1) dX5_asks_1 fl_X5_3 (fs_10 hX hb) ?_
  refine x_getRN (c := 0) hS ow_0 kd_0 (pc := 4) dX5_asks_4 (fn_X5_72 hg) (fx_0_6 hX) ?_
  refine x_getRN (c := 7) hS ow_7 kd_7 (pc := 7) dX5_asks_7 (fn_X5_76 hg) (fx_7_0 hX) ?_
  refine r_iconst (v := nI 0) (pc := 10) dX5_asks_10 (by decide) ?_
  refine r_ald0 (pc := 11) dX5_asks_11 ?_
  refine x_getR (c := b) hS (st_ow hb) (st_kd hb) (pc := 12) dX5_asks_12 fl_X5_22 (fs_5 hX hb) ?_
  refine r_ild1 (pc := 15) dX5_asks_15 ?_
  refine x_iald (c := (b + 3)) hS (st_ow3 hb) (st_kd3 hb) (st_ln3 hb) (pc := 16) dX5_asks_16 (by omega) (by omega) ?_
  rw [hN.2.2.2.2.1 p hp]
  first | refine r_i2lM (pc := 17) dX5_asks_17 (by omega) ?_ | refine r_i2lI (pc := 17) dX5_asks_17 (by constructor <;> omega) ?_ | refine r_i2lT (pc := 17) dX5_asks_17 ?_
  refine x_last (c := 8) hS ow_8 kd_8 ln_8 (pc := 18) dX5_asks_18 (by omega) (by omega) ?_
  refine r_ald0 (pc := 19) dX5_asks_19 ?_
  refine x_getR (c := b) hS (st_ow hb) (st_kd hb) (pc := 20) dX5_asks_20 fl_X5_3 (fs_10 hX hb) ?_
  refine x_getRN (c := 0) hS ow_0 kd_0 (pc := 23) dX5_asks_23 (fn_X5_72 hg) (fx_0_6 hX) ?_
  refine x_getRN (c := 7) hS ow_7 kd_7 (pc := 26) dX5_asks_26 (fn_X5_76 hg) (fx_7_0 hX) ?_
  refine r_iconst (v := nI 1) (pc := 29) dX5_asks_29 (by decide) ?_
  refine r_ald0 (pc := 30) dX5_asks_30 ?_
  refine x_getR (c := b) hS (st_ow hb) (st_kd hb) (pc := 31) dX5_asks_31 fl_X5_25 (fs_6 hX hb) ?_
  refine r_ild2 (pc := 34) dX5_asks_34 ?_
  refine x_iald (c := (b + 4)) hS (st_ow4 hb) (st_kd4 hb) (st_ln4 hb) (pc := 35) dX5_asks_35 (by omega) (by omega) ?_
  refine Bd.eqI (hN.2.2.2.2.2.1 q hq) ?_
  first | refine r_i2lM (pc := 36) dX5_asks_36 (by omega) ?_ | refine r_i2lI (pc := 36) dX5_asks_36 (by constructor <;> omega) ?_ | refine r_i2lT (pc := 36) dX5_asks_36 ?_
  refine x_last (c := 8) hS ow_8 kd_8 ln_8 (pc := 37) dX5_asks_37 (by omega) (by omega) ?_
  refine r_ald0 (pc := 38) dX5_asks_38 ?_
  refine x_getR (c := b) hS (st_ow hb) (st_kd hb) (pc := 39) dX5_asks_39 fl_X5_3 (fs_10 hX hb) ?_
  refine x_getRN (c := 0) hS ow_0 kd_0 (pc := 42) dX5_asks_42 (fn_X5_72 hg) (fx_0_6 hX) ?_
  refine x_getRN (c := 7) hS ow_7 kd_7 (pc := 45) dX5_asks_45 (fn_X5_76 hg) (fx_7_0 hX) ?_
  refine r_iconst (v := nI 2) (pc := 48) dX5_asks_48 (by decide) ?_
  refine r_ald0 (pc := 49) dX5_asks_49 ?_
  refine x_getR (c := b) hS (st_ow hb) (st_kd hb) (pc := 50) dX5_asks_50 fl_X5_34 (fs_8 hX hb) ?_
  refine r_ild3 (pc := 53) dX5_asks_53 ?_
  refine x_aald (c := (b + 6)) (j := r) hS (st_ow6 hb) (st_kd6 hb) (by decide) (st_ln6 hb) (pc := 54) dX5_asks_54 (by omega) (by omega) (fs_th hX hb (by omega)) ?_
  refine r_ild4 (pc := 55) dX5_asks_55 ?_
  refine x_iald (c := (b + (7 + r))) hS (th_ow hb (by omega)) (th_kd hb (by omega)) (th_ln hb (by omega)) (pc := 57) dX5_asks_57 (by omega) (by omega) ?_
  refine Bd.eqI (hN.2.2.2.2.2.2.2 r hr u hu) ?_
  first | refine r_i2lM (pc := 58) dX5_asks_58 (by omega) ?_ | refine r_i2lI (pc := 58) dX5_asks_58 (by constructor <;> omega) ?_ | refine r_i2lT (pc := 58) dX5_asks_58 ?_
  refine x_last (c := 8) hS ow_8 kd_8 ln_8 (pc := 59) dX5_asks_59 (by omega) (by omega) ?_
  refine r_ald0 (pc := 60) dX5_asks_60 ?_
  refine x_getR (c := b) hS (st_ow hb) (st_kd hb) (pc := 61) dX5_asks_61 fl_X5_3 (fs_10 hX hb) ?_
  refine x_getRN (c := 0) hS ow_0 kd_0 (pc := 64) dX5_asks_64 (fn_X5_72 hg) (fx_0_6 hX) ?_
  refine x_getRN (c := 7) hS ow_7 kd_7 (pc := 67) dX5_asks_67 (fn_X5_76 hg) (fx_7_0 hX) ?_
  refine r_iconst (v := nI 3) (pc := 70) dX5_asks_70 (by decide) ?_
  refine r_ald0 (pc := 71) dX5_asks_71 ?_
  refine x_getI (c := b) hS (st_ow hb) (st_kd hb) (pc := 72) dX5_asks_72 fl_X5_40 ?_
  refine Bd.eqI hN.1 ?_
  first | refine r_i2lM (pc := 75) dX5_asks_75 (by omega) ?_ | refine r_i2lI (pc := 75) dX5_asks_75 (by constructor <;> omega) ?_ | refine r_i2lT (pc := 75) dX5_asks_75 ?_
  refine x_last (c := 8) hS ow_8 kd_8 ln_8 (pc := 76) dX5_asks_76 (by omega) (by omega) ?_
  refine r_vret (pc := 77) dX5_asks_77 ?_
  exact ⟨rfl, rfl⟩
end X1
