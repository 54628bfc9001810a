set_option maxRecDepth 100000
/-! THE MODEL: conditions and counts -/
section M8
variable {g : GC} {M : MM} {o : Nat} {s : MS} {M1 : MM} {T : Te} {t : St} {K : List (Nat × Nat × Nat)} {tb : Bool}
theorem ct_X6_isInI {v a b : Int} (hv : b62 v) (ha : b62 a) (hb : b62 b) : Ct g yX6_isIn cX6_isIn 6 (some Jvm.ClassFile.FieldType.boolean) 0 0 0 [.long (lI v), .long (lI a), .long (lI b)] M1 (PQ M1 (.int (zI (a ≤ v ∧ v ≤ b)))) noX := by
  obtain ⟨hv1, hv2⟩ := hv
  obtain ⟨ha1, ha2⟩ := ha
  obtain ⟨hb1, hb2⟩ := hb
  refine Ct.of (by decide) (Nat.le_of_ble_eq_true rfl) rfl ?_
  refine r_lld0 (pc := 0) dX6_isIn_0 ?_
  refine r_lld2 (pc := 1) dX6_isIn_1 ?_
  refine r_lcmp (pc := 2) dX6_isIn_2 ?_
  first | refine r_if_ltCI (pc := 3) (tgt := 17) dX6_isIn_3 (by decide) (by constructor <;> omega) (by constructor <;> omega) (fun h3 => ?_) (fun h3 => ?_) | refine r_if_ltC (pc := 3) (tgt := 17) dX6_isIn_3 (by decide) (fun h3 => ?_) (fun h3 => ?_)
  · skip
    refine r_iconst (v := nI 0) (pc := 17) dX6_isIn_17 (by decide) ?_
    refine r_zret (pc := 18) dX6_isIn_18 (by first | rfl | exact zI_nar | assumption) ?_
    exact ⟨by first | rw [zI_t ⟨by omega, by omega⟩]; rfl | rw [zI_f (by omega)]; rfl, rfl⟩
  · skip
    refine r_lld0 (pc := 6) dX6_isIn_6 ?_
    refine r_lld4 (pc := 7) dX6_isIn_7 ?_
    refine r_lcmp (pc := 9) dX6_isIn_9 ?_
    first | refine r_if_gtCI (pc := 10) (tgt := 17) dX6_isIn_10 (by decide) (by constructor <;> omega) (by constructor <;> omega) (fun h10 => ?_) (fun h10 => ?_) | refine r_if_gtC (pc := 10) (tgt := 17) dX6_isIn_10 (by decide) (fun h10 => ?_) (fun h10 => ?_)
    · skip
      refine r_iconst (v := nI 0) (pc := 17) dX6_isIn_17 (by decide) ?_
      refine r_zret (pc := 18) dX6_isIn_18 (by first | rfl | exact zI_nar | assumption) ?_
      exact ⟨by first | rw [zI_t ⟨by omega, by omega⟩]; rfl | rw [zI_f (by omega)]; rfl, rfl⟩
    · skip
      refine r_iconst (v := nI 1) (pc := 13) dX6_isIn_13 (by decide) ?_
      refine r_goto (pc := 14) (tgt := 18) dX6_isIn_14 (by decide) ?_
      refine r_zret (pc := 18) dX6_isIn_18 (by first | rfl | exact zI_nar | assumption) ?_
      exact ⟨by first | rw [zI_t ⟨by omega, by omega⟩]; rfl | rw [zI_f (by omega)]; rfl, rfl⟩
theorem ct_X6_isPerson {v : Int} {n : Nat} (hS : ShM g M o) (hn : mF s 40 = nI n) (hn8 : n ≤ 8) (hv : b62 v) : Ct g yX6_isPerson cX6_isPerson 3 (some Jvm.ClassFile.FieldType.boolean) 1 0 0 [.ref o, .long (lI v)] (putM M o s) (PQ (putM M o s) (.int (zI (0 ≤ v ∧ v < (n : Int))))) noX := by
  refine Ct.of (by decide) (Nat.le_of_ble_eq_true rfl) rfl ?_
  refine r_lld1 (pc := 0) dX6_isPerson_0 ?_
  refine r_lconst (v := lI 0) (pc := 1) dX6_isPerson_1 rfl ?_
  refine r_ald0 (pc := 2) dX6_isPerson_2 ?_
  refine m_getI hS (pc := 3) dX6_isPerson_3 fl_X6_382 ?_
  refine Bd.eqI hn ?_
  refine r_iconst (v := nI 1) (pc := 6) dX6_isPerson_6 (by decide) ?_
  refine r_isubM (pc := 7) dX6_isPerson_7 ?_
  refine r_i2lI (pc := 8) dX6_isPerson_8 (by constructor <;> omega) ?_
  refine r_cS (pc := 9) dX6_isPerson_9 cs_X6_280 (ct_X6_isInI hv (by constructor <;> omega) (by constructor <;> omega)) rfl rfl (Nat.le_of_ble_eq_true rfl) (by decide) ?_
  rintro _ _ ⟨rfl, rfl⟩
  refine r_zret (pc := 12) dX6_isPerson_12 (by first | rfl | exact zI_nar | assumption) ?_
  exact ⟨by rw [zI_congr (show (0 ≤ v ∧ v ≤ (n : Int) - ((1 : Nat) : Int)) ↔ (0 ≤ v ∧ v < (n : Int)) by omega)], rfl⟩
theorem ct_X6_isOther {p : Int} {v : Int} {n : Nat} (hS : ShM g M o) (hn : mF s 40 = nI n) (hn8 : n ≤ 8) (hp : b31 p) (hv : b62 v) : Ct g yX6_isOther cX6_isOther 4 (some Jvm.ClassFile.FieldType.boolean) 2 0 0 [.ref o, .int (iI p), .long (lI v)] (putM M o s) (PQ (putM M o s) (.int (zI ((0 ≤ v ∧ v < (n : Int)) ∧ v ≠ p)))) noX := by
  obtain ⟨hv1, hv2⟩ := hv
  obtain ⟨hp1, hp2⟩ := hp
  refine Ct.of (by decide) (Nat.le_of_ble_eq_true rfl) rfl ?_
  refine r_ald0 (pc := 0) dX6_isOther_0 ?_
  refine r_lld2 (pc := 1) dX6_isOther_1 ?_
  refine r_cV (pc := 2) dX6_isOther_2 cv_X6_394 hS.k (ct_X6_isPerson hS hn hn8 (by constructor <;> omega)) rfl rfl (Nat.le_of_ble_eq_true rfl) (by decide) ?_
  rintro _ _ ⟨rfl, rfl⟩
  first | refine r_if_eqZ (pc := 5) (tgt := 19) dX6_isOther_5 (by decide) (fun h5 => ?_) (fun h5 => ?_) | refine r_if_eqN (pc := 5) (tgt := 19) dX6_isOther_5 (by decide) (by omega) (fun h5 => ?_) (fun h5 => ?_) | refine r_if_eq (pc := 5) (tgt := 19) dX6_isOther_5 (by decide) (fun h5 => ?_) (fun h5 => ?_)
  · skip
    refine r_iconst (v := nI 0) (pc := 19) dX6_isOther_19 (by decide) ?_
    refine r_zret (pc := 20) dX6_isOther_20 (by first | rfl | exact zI_nar | assumption) ?_
    exact ⟨by first | rw [zI_t ⟨by omega, by omega⟩]; rfl | rw [zI_f (by omega)]; rfl, rfl⟩
  · skip
    refine r_lld2 (pc := 8) dX6_isOther_8 ?_
    refine r_ild1 (pc := 9) dX6_isOther_9 ?_
    first | refine r_i2lM (pc := 10) dX6_isOther_10 (by omega) ?_ | refine r_i2lI (pc := 10) dX6_isOther_10 (by constructor <;> omega) ?_ | refine r_i2lT (pc := 10) dX6_isOther_10 ?_
    refine r_lcmp (pc := 11) dX6_isOther_11 ?_
    first | refine r_if_eqCI (pc := 12) (tgt := 19) dX6_isOther_12 (by decide) (by constructor <;> omega) (by constructor <;> omega) (fun h12 => ?_) (fun h12 => ?_) | refine r_if_eqC (pc := 12) (tgt := 19) dX6_isOther_12 (by decide) (fun h12 => ?_) (fun h12 => ?_)
    · skip
      refine r_iconst (v := nI 0) (pc := 19) dX6_isOther_19 (by decide) ?_
      refine r_zret (pc := 20) dX6_isOther_20 (by first | rfl | exact zI_nar | assumption) ?_
      exact ⟨by first | rw [zI_t ⟨by omega, by omega⟩]; rfl | rw [zI_f (by omega)]; rfl, rfl⟩
    · skip
      refine r_iconst (v := nI 1) (pc := 15) dX6_isOther_15 (by decide) ?_
      refine r_goto (pc := 16) (tgt := 20) dX6_isOther_16 (by decide) ?_
      refine r_zret (pc := 20) dX6_isOther_20 (by first | rfl | exact zI_nar | assumption) ?_
      exact ⟨by first | rw [zI_t ⟨by omega, by omega⟩]; rfl | rw [zI_f (by omega)]; rfl, rfl⟩
theorem ct_X6_areTwo {a b : Int32} {n : Nat} (hS : ShM g M o) (hn : mF s 40 = nI n) (hn8 : n ≤ 8) : Ct g yX6_areTwo cX6_areTwo 3 (some Jvm.ClassFile.FieldType.boolean) 3 0 0 [.ref o, .int a, .int b] (putM M o s) (PQ (putM M o s) (.int (zI ((0 ≤ a.toInt ∧ a.toInt < (n : Int)) ∧ (0 ≤ b.toInt ∧ b.toInt < (n : Int)) ∧ b.toInt ≠ a.toInt)))) noX := by
  obtain ⟨ha1, ha2⟩ := b31_of a
  obtain ⟨hb1, hb2⟩ := b31_of b
  refine Ct.of (by decide) (Nat.le_of_ble_eq_true rfl) rfl ?_
  refine r_ald0 (pc := 0) dX6_areTwo_0 ?_
  refine r_ild1 (pc := 1) dX6_areTwo_1 ?_
  refine r_i2lT (pc := 2) dX6_areTwo_2 ?_
  refine r_cV (pc := 3) dX6_areTwo_3 cv_X6_394 hS.k (ct_X6_isPerson hS hn hn8 (by constructor <;> omega)) rfl rfl (Nat.le_of_ble_eq_true rfl) (by decide) ?_
  rintro _ _ ⟨rfl, rfl⟩
  first | refine r_if_eqZ (pc := 6) (tgt := 23) dX6_areTwo_6 (by decide) (fun h6 => ?_) (fun h6 => ?_) | refine r_if_eqN (pc := 6) (tgt := 23) dX6_areTwo_6 (by decide) (by omega) (fun h6 => ?_) (fun h6 => ?_) | refine r_if_eq (pc := 6) (tgt := 23) dX6_areTwo_6 (by decide) (fun h6 => ?_) (fun h6 => ?_)
  · skip
    refine r_iconst (v := nI 0) (pc := 23) dX6_areTwo_23 (by decide) ?_
    refine r_zret (pc := 24) dX6_areTwo_24 (by first | rfl | exact zI_nar | assumption) ?_
    exact ⟨by first | rw [zI_t (by omega)]; rfl | rw [zI_f (by omega)]; rfl, rfl⟩
  · skip
    refine r_ald0 (pc := 9) dX6_areTwo_9 ?_
    refine r_ild1 (pc := 10) dX6_areTwo_10 ?_
    refine Bd.eqI (iI_of a) ?_
    refine r_ild2 (pc := 11) dX6_areTwo_11 ?_
    refine r_i2lT (pc := 12) dX6_areTwo_12 ?_
    refine r_cV (pc := 13) dX6_areTwo_13 cv_X6_398 hS.k (ct_X6_isOther hS hn hn8 (b31_of a) (by constructor <;> omega)) rfl rfl (Nat.le_of_ble_eq_true rfl) (by decide) ?_
    rintro _ _ ⟨rfl, rfl⟩
    first | refine r_if_eqZ (pc := 16) (tgt := 23) dX6_areTwo_16 (by decide) (fun h16 => ?_) (fun h16 => ?_) | refine r_if_eqN (pc := 16) (tgt := 23) dX6_areTwo_16 (by decide) (by omega) (fun h16 => ?_) (fun h16 => ?_) | refine r_if_eq (pc := 16) (tgt := 23) dX6_areTwo_16 (by decide) (fun h16 => ?_) (fun h16 => ?_)
    · skip
      refine r_iconst (v := nI 0) (pc := 23) dX6_areTwo_23 (by decide) ?_
      refine r_zret (pc := 24) dX6_areTwo_24 (by first | rfl | exact zI_nar | assumption) ?_
      exact ⟨by first | rw [zI_t (by omega)]; rfl | rw [zI_f (by omega)]; rfl, rfl⟩
    · skip
      refine r_iconst (v := nI 1) (pc := 19) dX6_areTwo_19 (by decide) ?_
      refine r_goto (pc := 20) (tgt := 24) dX6_areTwo_20 (by decide) ?_
      refine r_zret (pc := 24) dX6_areTwo_24 (by first | rfl | exact zI_nar | assumption) ?_
      exact ⟨by first | rw [zI_t (by omega)]; rfl | rw [zI_f (by omega)]; rfl, rfl⟩
theorem ct_X6_isHouse {x : Int32} {H : Nat} {it : Bool} (hS : ShM g M o) (hH : mF s 38 = nI H) (hH9 : H ≤ 9) (hi : mF s 53 = zI (it = true)) (hi0 : it = false → H = 0) : Ct g yX6_isHouse cX6_isHouse 2 (some Jvm.ClassFile.FieldType.boolean) 1 0 0 [.ref o, .int x] (putM M o s) (PQ (putM M o s) (.int (zI (0 ≤ x.toInt ∧ x.toInt < (H : Int))))) noX := by
  obtain ⟨ha1, ha2⟩ := b31_of x
  refine Ct.of (by decide) (Nat.le_of_ble_eq_true rfl) rfl ?_
  cases it with
  | false =>
    have := hi0 rfl
    subst this
    refine r_ald0 (pc := 0) dX6_isHouse_0 ?_
    refine m_getI hS (pc := 1) dX6_isHouse_1 fl_X6_375 ?_
    refine Bd.eqI hi ?_
    first | refine r_if_eqZ (pc := 4) (tgt := 27) dX6_isHouse_4 (by decide) (fun h4 => ?_) (fun h4 => ?_) | refine r_if_eqN (pc := 4) (tgt := 27) dX6_isHouse_4 (by decide) (by omega) (fun h4 => ?_) (fun h4 => ?_) | refine r_if_eq (pc := 4) (tgt := 27) dX6_isHouse_4 (by decide) (fun h4 => ?_) (fun h4 => ?_)
    · skip
      refine r_iconst (v := nI 0) (pc := 27) dX6_isHouse_27 (by decide) ?_
      refine r_zret (pc := 28) dX6_isHouse_28 (by first | rfl | exact zI_nar | assumption) ?_
      exact ⟨by rw [zI_f (by omega)]; rfl, rfl⟩
    · skip
      exact absurd h4 (by decide)
  | true =>
    refine r_ald0 (pc := 0) dX6_isHouse_0 ?_
    refine m_getI hS (pc := 1) dX6_isHouse_1 fl_X6_375 ?_
    refine Bd.eqI hi ?_
    first | refine r_if_eqZ (pc := 4) (tgt := 27) dX6_isHouse_4 (by decide) (fun h4 => ?_) (fun h4 => ?_) | refine r_if_eqN (pc := 4) (tgt := 27) dX6_isHouse_4 (by decide) (by omega) (fun h4 => ?_) (fun h4 => ?_) | refine r_if_eq (pc := 4) (tgt := 27) dX6_isHouse_4 (by decide) (fun h4 => ?_) (fun h4 => ?_)
    · skip
      exact absurd rfl h4
    · skip
      refine r_ild1 (pc := 7) dX6_isHouse_7 ?_
      refine r_i2lT (pc := 8) dX6_isHouse_8 ?_
      refine r_lconst (v := lI 0) (pc := 9) dX6_isHouse_9 rfl ?_
      refine r_ald0 (pc := 10) dX6_isHouse_10 ?_
      refine m_getI hS (pc := 11) dX6_isHouse_11 fl_X6_379 ?_
      refine Bd.eqI hH ?_
      refine r_iconst (v := nI 1) (pc := 14) dX6_isHouse_14 (by decide) ?_
      refine r_isubM (pc := 15) dX6_isHouse_15 ?_
      refine r_i2lI (pc := 16) dX6_isHouse_16 (by constructor <;> omega) ?_
      refine r_cS (pc := 17) dX6_isHouse_17 cs_X6_280 (ct_X6_isInI (by constructor <;> omega) (by constructor <;> omega) (by constructor <;> omega)) rfl rfl (Nat.le_of_ble_eq_true rfl) (by decide) ?_
      rintro _ _ ⟨rfl, rfl⟩
      first | refine r_if_eqZ (pc := 20) (tgt := 27) dX6_isHouse_20 (by decide) (fun h20 => ?_) (fun h20 => ?_) | refine r_if_eqN (pc := 20) (tgt := 27) dX6_isHouse_20 (by decide) (by omega) (fun h20 => ?_) (fun h20 => ?_) | refine r_if_eq (pc := 20) (tgt := 27) dX6_isHouse_20 (by decide) (fun h20 => ?_) (fun h20 => ?_)
      · skip
        refine r_iconst (v := nI 0) (pc := 27) dX6_isHouse_27 (by decide) ?_
        refine r_zret (pc := 28) dX6_isHouse_28 (by first | rfl | exact zI_nar | assumption) ?_
        exact ⟨by first | rw [zI_t (by omega)]; rfl | rw [zI_f (by omega)]; rfl, rfl⟩
      · skip
        refine r_iconst (v := nI 1) (pc := 23) dX6_isHouse_23 (by decide) ?_
        refine r_goto (pc := 24) (tgt := 28) dX6_isHouse_24 (by decide) ?_
        refine r_zret (pc := 28) dX6_isHouse_28 (by first | rfl | exact zI_nar | assumption) ?_
        exact ⟨by first | rw [zI_t (by omega)]; rfl | rw [zI_f (by omega)]; rfl, rfl⟩
theorem ct_X6_isAhead {x : Int32} {lo hi y : Nat} (hS : ShM g M o) (hy : mA s 55 0 = nI y) (hy2 : y ≤ 2000) (hl : lo ≤ 1000) (hh : hi ≤ 1000) : Ct g yX6_isAhead cX6_isAhead 4 (some Jvm.ClassFile.FieldType.boolean) 1 0 0 [.ref o, .int x, .int (nI lo), .int (nI hi)] (putM M o s) (PQ (putM M o s) (.int (zI ((lo : Int) ≤ x.toInt ∧ x.toInt ≤ (hi : Int) ∧ (y : Int) + x.toInt ≤ 999)))) noX := by
  obtain ⟨ha1, ha2⟩ := b31_of x
  refine Ct.of (by decide) (Nat.le_of_ble_eq_true rfl) rfl ?_
  refine r_ild1 (pc := 0) dX6_isAhead_0 ?_
  refine r_i2lT (pc := 1) dX6_isAhead_1 ?_
  refine r_ild2 (pc := 2) dX6_isAhead_2 ?_
  first | refine r_i2lM (pc := 3) dX6_isAhead_3 (by omega) ?_ | refine r_i2lI (pc := 3) dX6_isAhead_3 (by constructor <;> omega) ?_ | refine r_i2lT (pc := 3) dX6_isAhead_3 ?_
  refine r_ild3 (pc := 4) dX6_isAhead_4 ?_
  first | refine r_i2lM (pc := 5) dX6_isAhead_5 (by omega) ?_ | refine r_i2lI (pc := 5) dX6_isAhead_5 (by constructor <;> omega) ?_ | refine r_i2lT (pc := 5) dX6_isAhead_5 ?_
  refine r_cS (pc := 6) dX6_isAhead_6 cs_X6_280 (ct_X6_isInI (by constructor <;> omega) (by constructor <;> omega) (by constructor <;> omega)) rfl rfl (Nat.le_of_ble_eq_true rfl) (by decide) ?_
  rintro _ _ ⟨rfl, rfl⟩
  first | refine r_if_eqZ (pc := 9) (tgt := 30) dX6_isAhead_9 (by decide) (fun h9 => ?_) (fun h9 => ?_) | refine r_if_eqN (pc := 9) (tgt := 30) dX6_isAhead_9 (by decide) (by omega) (fun h9 => ?_) (fun h9 => ?_) | refine r_if_eq (pc := 9) (tgt := 30) dX6_isAhead_9 (by decide) (fun h9 => ?_) (fun h9 => ?_)
  · skip
    refine r_iconst (v := nI 0) (pc := 30) dX6_isAhead_30 (by decide) ?_
    refine r_zret (pc := 31) dX6_isAhead_31 (by first | rfl | exact zI_nar | assumption) ?_
    exact ⟨by first | rw [zI_t (by omega)]; rfl | rw [zI_f (by omega)]; rfl, rfl⟩
  · skip
    refine r_ald0 (pc := 12) dX6_isAhead_12 ?_
    refine m_getR hS (pc := 13) dX6_isAhead_13 fl_X6_121 ar55 ?_
    refine r_iconst (v := nI 0) (pc := 16) dX6_isAhead_16 (by decide) ?_
    refine m_iald hS (pc := 17) dX6_isAhead_17 ar55 (by omega) (by omega) ?_
    refine Bd.eqI (x' := iI y) (hy.trans (nI_iI y)) ?_
    refine r_ild1 (pc := 18) dX6_isAhead_18 ?_
    refine Bd.eqI (iI_of x) ?_
    first | refine r_iaddN (pc := 19) dX6_isAhead_19 ?_ | refine r_iaddJ (pc := 19) dX6_isAhead_19 ?_ | refine r_iadd (pc := 19) dX6_isAhead_19 ?_
    refine r_sipush (v := iI 999) (pc := 20) dX6_isAhead_20 (by decide) ?_
    refine r_icmp_gt (pc := 23) (tgt := 30) dX6_isAhead_23 (by decide) (fun h23 => ?_) (fun h23 => ?_)
    · skip
      have h23 : (999 : Int) < (y : Int) + x.toInt := (iI_lt (by constructor <;> decide) (by constructor <;> omega)).mp h23
      refine r_iconst (v := nI 0) (pc := 30) dX6_isAhead_30 (by decide) ?_
      refine r_zret (pc := 31) dX6_isAhead_31 (by first | rfl | exact zI_nar | assumption) ?_
      exact ⟨by first | rw [zI_t (by omega)]; rfl | rw [zI_f (by omega)]; rfl, rfl⟩
    · skip
      have h23 : ¬ (999 : Int) < (y : Int) + x.toInt := fun q => h23 ((iI_lt (by constructor <;> decide) (by constructor <;> omega)).mpr q)
      refine r_iconst (v := nI 1) (pc := 26) dX6_isAhead_26 (by decide) ?_
      refine r_goto (pc := 27) (tgt := 31) dX6_isAhead_27 (by decide) ?_
      refine r_zret (pc := 31) dX6_isAhead_31 (by first | rfl | exact zI_nar | assumption) ?_
      exact ⟨by first | rw [zI_t (by omega)]; rfl | rw [zI_f (by omega)]; rfl, rfl⟩
theorem lookLoop {n : Nat} (hS : ShM g M o) (hn : mF s 40 = nI n) (hn8 : n ≤ 8) (hN : RN s n t) : ∀ k i, i + k = n → Bd g yX6_lookAll cX6_lookAll 3 (some Jvm.ClassFile.FieldType.int) [] 1 0 0 (putM M o s) 4 [some (.ref o), some (.int (nI (sumN (lk t) i))), some (.int (nI i))] [] (PQ (putM M o s) (.int (nI (sumN (lk t) n)))) noX := by
  intro k
  induction k with
  | zero =>
    intro i hi
    have hi : i = n := hi
    subst hi
    refine r_ild2 (pc := 4) dX6_lookAll_4 ?_
    refine r_ald0 (pc := 5) dX6_lookAll_5 ?_
    refine m_getI hS (pc := 6) dX6_lookAll_6 fl_X6_382 ?_
    refine Bd.eqI hn ?_
    first | refine r_icmp_geN (pc := 9) (tgt := 26) dX6_lookAll_9 (by decide) (by omega) (by omega) (fun h9 => ?_) (fun h9 => ?_) | refine r_icmp_ge (pc := 9) (tgt := 26) dX6_lookAll_9 (by decide) (fun h9 => ?_) (fun h9 => ?_)
    · skip
      refine r_ild1 (pc := 26) dX6_lookAll_26 ?_
      refine r_iret (pc := 27) dX6_lookAll_27 ?_
      exact ⟨rfl, rfl⟩
    · skip
      exact absurd h9 (by omega)
  | succ k ih =>
    intro i hi
    refine r_ild2 (pc := 4) dX6_lookAll_4 ?_
    refine r_ald0 (pc := 5) dX6_lookAll_5 ?_
    refine m_getI hS (pc := 6) dX6_lookAll_6 fl_X6_382 ?_
    refine Bd.eqI hn ?_
    first | refine r_icmp_geN (pc := 9) (tgt := 26) dX6_lookAll_9 (by decide) (by omega) (by omega) (fun h9 => ?_) (fun h9 => ?_) | refine r_icmp_ge (pc := 9) (tgt := 26) dX6_lookAll_9 (by decide) (fun h9 => ?_) (fun h9 => ?_)
    · skip
      exact absurd h9 (by omega)
    · skip
      refine r_ild1 (pc := 12) dX6_lookAll_12 ?_
      refine r_ald0 (pc := 13) dX6_lookAll_13 ?_
      refine r_ild2 (pc := 14) dX6_lookAll_14 ?_
      refine r_cV (pc := 15) dX6_lookAll_15 cv_X6_423 hS.k (ct_X6_lookOf hS (by omega)) rfl rfl (Nat.le_of_ble_eq_true rfl) (by decide) ?_
      rintro _ _ ⟨rfl, rfl⟩
      refine Bd.eqI (hN.2.2.1 i (by omega)) ?_
      first | refine r_iaddN (pc := 18) dX6_lookAll_18 ?_ | refine r_iaddJ (pc := 18) dX6_lookAll_18 ?_ | refine r_iadd (pc := 18) dX6_lookAll_18 ?_
      refine r_ist1 (pc := 19) dX6_lookAll_19 ?_
      first | refine r_iinc2N (j := 1) (pc := 20) dX6_lookAll_20 rfl ?_ | refine r_iinc2 (pc := 20) dX6_lookAll_20 ?_
      refine r_goto (pc := 23) (tgt := 4) dX6_lookAll_23 (by decide) ?_
      exact ih (i + 1) (by omega)
theorem ct_X6_lookAll {n : Nat} (hS : ShM g M o) (hn : mF s 40 = nI n) (hn8 : n ≤ 8) (hN : RN s n t) : Ct g yX6_lookAll cX6_lookAll 3 (some Jvm.ClassFile.FieldType.int) 1 0 0 [.ref o] (putM M o s) (PQ (putM M o s) (.int (nI (sumN (lk t) n)))) noX := by
  refine Ct.of (by decide) (Nat.le_of_ble_eq_true rfl) rfl ?_
  refine r_iconst (v := nI 0) (pc := 0) dX6_lookAll_0 (by decide) ?_
  refine r_ist1 (pc := 1) dX6_lookAll_1 ?_
  refine r_iconst (v := nI 0) (pc := 2) dX6_lookAll_2 (by decide) ?_
  refine r_ist2 (pc := 3) dX6_lookAll_3 ?_
  exact lookLoop hS hn hn8 hN n 0 (by omega)
theorem curtLoop {n : Nat} (hS : ShM g M o) (hn : mF s 40 = nI n) (hn8 : n ≤ 8) (hN : RN s n t) (hB : SB n t) : ∀ k i, i + k = n → Bd g yX6_curtainsNow cX6_curtainsNow 3 (some Jvm.ClassFile.FieldType.int) [] 1 0 0 (putM M o s) 4 [some (.ref o), some (.int (nI (cnt (fun p => lk t p == 0) i))), some (.int (nI i))] [] (PQ (putM M o s) (.int (nI (cnt (fun p => lk t p == 0) n)))) noX := by
  intro k
  induction k with
  | zero =>
    intro i hi
    have hi : i = n := hi
    subst hi
    refine r_ild2 (pc := 4) dX6_curtainsNow_4 ?_
    refine r_ald0 (pc := 5) dX6_curtainsNow_5 ?_
    refine m_getI hS (pc := 6) dX6_curtainsNow_6 fl_X6_382 ?_
    refine Bd.eqI hn ?_
    first | refine r_icmp_geN (pc := 9) (tgt := 29) dX6_curtainsNow_9 (by decide) (by omega) (by omega) (fun h9 => ?_) (fun h9 => ?_) | refine r_icmp_ge (pc := 9) (tgt := 29) dX6_curtainsNow_9 (by decide) (fun h9 => ?_) (fun h9 => ?_)
    · skip
      refine r_ild1 (pc := 29) dX6_curtainsNow_29 ?_
      refine r_iret (pc := 30) dX6_curtainsNow_30 ?_
      exact ⟨rfl, rfl⟩
    · skip
      exact absurd h9 (by omega)
  | succ k ih =>
    intro i hi
    have hb := (hB.2 i (by omega)).2.1
    refine r_ild2 (pc := 4) dX6_curtainsNow_4 ?_
    refine r_ald0 (pc := 5) dX6_curtainsNow_5 ?_
    refine m_getI hS (pc := 6) dX6_curtainsNow_6 fl_X6_382 ?_
    refine Bd.eqI hn ?_
    first | refine r_icmp_geN (pc := 9) (tgt := 29) dX6_curtainsNow_9 (by decide) (by omega) (by omega) (fun h9 => ?_) (fun h9 => ?_) | refine r_icmp_ge (pc := 9) (tgt := 29) dX6_curtainsNow_9 (by decide) (fun h9 => ?_) (fun h9 => ?_)
    · skip
      exact absurd h9 (by omega)
    · skip
      refine r_ald0 (pc := 12) dX6_curtainsNow_12 ?_
      refine r_ild2 (pc := 13) dX6_curtainsNow_13 ?_
      refine r_cV (pc := 14) dX6_curtainsNow_14 cv_X6_423 hS.k (ct_X6_lookOf hS (by omega)) rfl rfl (Nat.le_of_ble_eq_true rfl) (by decide) ?_
      rintro _ _ ⟨rfl, rfl⟩
      refine Bd.eqI (hN.2.2.1 i (by omega)) ?_
      first | refine r_if_neZ (pc := 17) (tgt := 23) dX6_curtainsNow_17 (by decide) (fun h17 => ?_) (fun h17 => ?_) | refine r_if_neN (pc := 17) (tgt := 23) dX6_curtainsNow_17 (by decide) (by omega) (fun h17 => ?_) (fun h17 => ?_) | refine r_if_ne (pc := 17) (tgt := 23) dX6_curtainsNow_17 (by decide) (fun h17 => ?_) (fun h17 => ?_)
      · skip
        have hc : cnt (fun p => lk t p == 0) (i + 1) = cnt (fun p => lk t p == 0) i := by show _ + _ = _; simp [h17]
        first | refine r_iinc2N (j := 1) (pc := 23) dX6_curtainsNow_23 rfl ?_ | refine r_iinc2 (pc := 23) dX6_curtainsNow_23 ?_
        refine r_goto (pc := 26) (tgt := 4) dX6_curtainsNow_26 (by decide) ?_
        have := ih (i + 1) (by omega)
        rw [hc] at this
        exact this
      · skip
        have hc : cnt (fun p => lk t p == 0) (i + 1) = cnt (fun p => lk t p == 0) i + 1 := by show _ + _ = _; simp [h17]
        first | refine r_iinc1N (j := 1) (pc := 20) dX6_curtainsNow_20 rfl ?_ | refine r_iinc1 (pc := 20) dX6_curtainsNow_20 ?_
        first | refine r_iinc2N (j := 1) (pc := 23) dX6_curtainsNow_23 rfl ?_ | refine r_iinc2 (pc := 23) dX6_curtainsNow_23 ?_
        refine r_goto (pc := 26) (tgt := 4) dX6_curtainsNow_26 (by decide) ?_
        have := ih (i + 1) (by omega)
        rw [hc] at this
        exact this
theorem ct_X6_curtainsNow {n : Nat} (hS : ShM g M o) (hn : mF s 40 = nI n) (hn8 : n ≤ 8) (hN : RN s n t) (hB : SB n t) : Ct g yX6_curtainsNow cX6_curtainsNow 3 (some Jvm.ClassFile.FieldType.int) 1 0 0 [.ref o] (putM M o s) (PQ (putM M o s) (.int (nI (cnt (fun p => lk t p == 0) n)))) noX := by
  refine Ct.of (by decide) (Nat.le_of_ble_eq_true rfl) rfl ?_
  refine r_iconst (v := nI 0) (pc := 0) dX6_curtainsNow_0 (by decide) ?_
  refine r_ist1 (pc := 1) dX6_curtainsNow_1 ?_
  refine r_iconst (v := nI 0) (pc := 2) dX6_curtainsNow_2 (by decide) ?_
  refine r_ist2 (pc := 3) dX6_curtainsNow_3 ?_
  exact curtLoop hS hn hn8 hN hB n 0 (by omega)
theorem spareLoop {n : Nat} (hS : ShM g M o) (hn : mF s 40 = nI n) (hn8 : n ≤ 8) (hN : RN s n t) (hB : SB n t) : ∀ k i, i + k = n → Bd g yX6_spareMany cX6_spareMany 3 (some Jvm.ClassFile.FieldType.int) [] 1 0 0 (putM M o s) 4 [some (.ref o), some (.int (nI (cnt (fun p => sp t p == 1) i))), some (.int (nI i))] [] (PQ (putM M o s) (.int (nI (cnt (fun p => sp t p == 1) n)))) noX := by
  intro k
  induction k with
  | zero =>
    intro i hi
    have hi : i = n := hi
    subst hi
    refine r_ild2 (pc := 4) dX6_spareMany_4 ?_
    refine r_ald0 (pc := 5) dX6_spareMany_5 ?_
    refine m_getI hS (pc := 6) dX6_spareMany_6 fl_X6_382 ?_
    refine Bd.eqI hn ?_
    first | refine r_icmp_geN (pc := 9) (tgt := 29) dX6_spareMany_9 (by decide) (by omega) (by omega) (fun h9 => ?_) (fun h9 => ?_) | refine r_icmp_ge (pc := 9) (tgt := 29) dX6_spareMany_9 (by decide) (fun h9 => ?_) (fun h9 => ?_)
    · skip
      refine r_ild1 (pc := 29) dX6_spareMany_29 ?_
      refine r_iret (pc := 30) dX6_spareMany_30 ?_
      exact ⟨rfl, rfl⟩
    · skip
      exact absurd h9 (by omega)
  | succ k ih =>
    intro i hi
    have hb := (hB.2 i (by omega)).2.2.1
    refine r_ild2 (pc := 4) dX6_spareMany_4 ?_
    refine r_ald0 (pc := 5) dX6_spareMany_5 ?_
    refine m_getI hS (pc := 6) dX6_spareMany_6 fl_X6_382 ?_
    refine Bd.eqI hn ?_
    first | refine r_icmp_geN (pc := 9) (tgt := 29) dX6_spareMany_9 (by decide) (by omega) (by omega) (fun h9 => ?_) (fun h9 => ?_) | refine r_icmp_ge (pc := 9) (tgt := 29) dX6_spareMany_9 (by decide) (fun h9 => ?_) (fun h9 => ?_)
    · skip
      exact absurd h9 (by omega)
    · skip
      refine r_ald0 (pc := 12) dX6_spareMany_12 ?_
      refine r_ild2 (pc := 13) dX6_spareMany_13 ?_
      refine r_cV (pc := 14) dX6_spareMany_14 cv_X6_470 hS.k (ct_X6_doesSpare hS (by omega)) rfl rfl (Nat.le_of_ble_eq_true rfl) (by decide) ?_
      rintro _ _ ⟨rfl, rfl⟩
      refine Bd.eqI (x' := zI (sp t i = 1)) (zI_congr (by rw [hN.2.2.2.1 i (by omega)]; exact nI_eq (a := sp t i) (b := 1) (by omega) (by decide))) ?_
      first | refine r_if_eqZ (pc := 17) (tgt := 23) dX6_spareMany_17 (by decide) (fun h17 => ?_) (fun h17 => ?_) | refine r_if_eqN (pc := 17) (tgt := 23) dX6_spareMany_17 (by decide) (by omega) (fun h17 => ?_) (fun h17 => ?_) | refine r_if_eq (pc := 17) (tgt := 23) dX6_spareMany_17 (by decide) (fun h17 => ?_) (fun h17 => ?_)
      · skip
        have hc : cnt (fun p => sp t p == 1) (i + 1) = cnt (fun p => sp t p == 1) i := by show _ + _ = _; simp [h17]
        first | refine r_iinc2N (j := 1) (pc := 23) dX6_spareMany_23 rfl ?_ | refine r_iinc2 (pc := 23) dX6_spareMany_23 ?_
        refine r_goto (pc := 26) (tgt := 4) dX6_spareMany_26 (by decide) ?_
        have := ih (i + 1) (by omega)
        rw [hc] at this
        exact this
      · skip
        have hc : cnt (fun p => sp t p == 1) (i + 1) = cnt (fun p => sp t p == 1) i + 1 := by show _ + _ = _; simp [h17]
        first | refine r_iinc1N (j := 1) (pc := 20) dX6_spareMany_20 rfl ?_ | refine r_iinc1 (pc := 20) dX6_spareMany_20 ?_
        first | refine r_iinc2N (j := 1) (pc := 23) dX6_spareMany_23 rfl ?_ | refine r_iinc2 (pc := 23) dX6_spareMany_23 ?_
        refine r_goto (pc := 26) (tgt := 4) dX6_spareMany_26 (by decide) ?_
        have := ih (i + 1) (by omega)
        rw [hc] at this
        exact this
theorem ct_X6_spareMany {n : Nat} (hS : ShM g M o) (hn : mF s 40 = nI n) (hn8 : n ≤ 8) (hN : RN s n t) (hB : SB n t) : Ct g yX6_spareMany cX6_spareMany 3 (some Jvm.ClassFile.FieldType.int) 1 0 0 [.ref o] (putM M o s) (PQ (putM M o s) (.int (nI (cnt (fun p => sp t p == 1) n)))) noX := by
  refine Ct.of (by decide) (Nat.le_of_ble_eq_true rfl) rfl ?_
  refine r_iconst (v := nI 0) (pc := 0) dX6_spareMany_0 (by decide) ?_
  refine r_ist1 (pc := 1) dX6_spareMany_1 ?_
  refine r_iconst (v := nI 0) (pc := 2) dX6_spareMany_2 (by decide) ?_
  refine r_ist2 (pc := 3) dX6_spareMany_3 ?_
  exact spareLoop hS hn hn8 hN hB n 0 (by omega)
theorem ct_X6_feudAt {h : Nat} (hS : ShM g M o) (hT : RT s T) (hTB : TB T) (hN : RN s (tn T) t) (hB : SB (tn T) t) (hh : h < 20) : Ct g yX6_feudAt cX6_feudAt 4 (some Jvm.ClassFile.FieldType.int) 4 0 0 [.ref o, .int (nI h)] (putM M o s) (QM M o (fun r s' => r = some (.int (fI (feudAtS T t h))) ∧ Fr cdF [] [] [107] s s')) noX := by
  have hn8 := hTB.1
  refine Ct.of (by decide) (Nat.le_of_ble_eq_true rfl) rfl ?_
  cases ha : who t (tn T) h with
  | none =>
    have hf : feudAtS T t h = none := by unfold feudAtS; rw [ha]
    rw [hf]
    refine r_ald0 (pc := 0) dX6_feudAt_0 ?_
    refine r_ild1 (pc := 1) dX6_feudAt_1 ?_
    refine r_cV (pc := 2) dX6_feudAt_2 cv_X6_406 hS.k (ct_X6_whoIn hS hT.2.1 hn8 hN hB (by omega)) rfl rfl (Nat.le_of_ble_eq_true rfl) (by decide) ?_
    rintro _ _ ⟨rfl, rfl⟩
    refine Bd.eqI (x' := -1) (by rw [ha]; rfl) ?_
    refine r_ist2 (pc := 5) dX6_feudAt_5 ?_
    refine r_ald0 (pc := 6) dX6_feudAt_6 ?_
    refine r_ild1 (pc := 7) dX6_feudAt_7 ?_
    refine r_iconst (v := nI 1) (pc := 8) dX6_feudAt_8 (by decide) ?_
    first | refine r_iaddN (pc := 9) dX6_feudAt_9 ?_ | refine r_iaddJ (pc := 9) dX6_feudAt_9 ?_ | refine r_iadd (pc := 9) dX6_feudAt_9 ?_
    refine r_cV (pc := 10) dX6_feudAt_10 cv_X6_406 hS.k (ct_X6_whoIn hS hT.2.1 hn8 hN hB (by omega)) rfl rfl (Nat.le_of_ble_eq_true rfl) (by decide) ?_
    rintro _ _ ⟨rfl, rfl⟩
    refine r_ist3 (pc := 13) dX6_feudAt_13 ?_
    refine r_ild2 (pc := 14) dX6_feudAt_14 ?_
    refine r_iconst (v := -1) (pc := 15) dX6_feudAt_15 (by decide) ?_
    first | refine r_icmp_eqN (pc := 16) (tgt := 24) dX6_feudAt_16 (by decide) (by omega) (by omega) (fun h16 => ?_) (fun h16 => ?_) | refine r_icmp_eq (pc := 16) (tgt := 24) dX6_feudAt_16 (by decide) (fun h16 => ?_) (fun h16 => ?_)
    · skip
      refine r_iconst (v := -1) (pc := 24) dX6_feudAt_24 (by decide) ?_
      refine r_goto (pc := 25) (tgt := 42) dX6_feudAt_25 (by decide) ?_
      refine r_iret (pc := 42) dX6_feudAt_42 ?_
      exact ⟨s, rfl, rfl, Fr.rf⟩
    · skip
      exact absurd rfl h16
  | some a =>
    have han := who_lt ha
    cases hb : who t (tn T) (h + 1) with
    | none =>
      have hf : feudAtS T t h = none := by unfold feudAtS; rw [ha, hb]
      rw [hf]
      refine r_ald0 (pc := 0) dX6_feudAt_0 ?_
      refine r_ild1 (pc := 1) dX6_feudAt_1 ?_
      refine r_cV (pc := 2) dX6_feudAt_2 cv_X6_406 hS.k (ct_X6_whoIn hS hT.2.1 hn8 hN hB (by omega)) rfl rfl (Nat.le_of_ble_eq_true rfl) (by decide) ?_
      rintro _ _ ⟨rfl, rfl⟩
      refine Bd.eqI (x' := nI a) (by rw [ha]; rfl) ?_
      refine r_ist2 (pc := 5) dX6_feudAt_5 ?_
      refine r_ald0 (pc := 6) dX6_feudAt_6 ?_
      refine r_ild1 (pc := 7) dX6_feudAt_7 ?_
      refine r_iconst (v := nI 1) (pc := 8) dX6_feudAt_8 (by decide) ?_
      first | refine r_iaddN (pc := 9) dX6_feudAt_9 ?_ | refine r_iaddJ (pc := 9) dX6_feudAt_9 ?_ | refine r_iadd (pc := 9) dX6_feudAt_9 ?_
      refine r_cV (pc := 10) dX6_feudAt_10 cv_X6_406 hS.k (ct_X6_whoIn hS hT.2.1 hn8 hN hB (by omega)) rfl rfl (Nat.le_of_ble_eq_true rfl) (by decide) ?_
      rintro _ _ ⟨rfl, rfl⟩
      refine Bd.eqI (x' := -1) (by rw [hb]; rfl) ?_
      refine r_ist3 (pc := 13) dX6_feudAt_13 ?_
      refine r_ild2 (pc := 14) dX6_feudAt_14 ?_
      refine r_iconst (v := -1) (pc := 15) dX6_feudAt_15 (by decide) ?_
      first | refine r_icmp_eqN (pc := 16) (tgt := 24) dX6_feudAt_16 (by decide) (by omega) (by omega) (fun h16 => ?_) (fun h16 => ?_) | refine r_icmp_eq (pc := 16) (tgt := 24) dX6_feudAt_16 (by decide) (fun h16 => ?_) (fun h16 => ?_)
      · skip
        exact absurd h16 (nI_m1 (by omega))
      · skip
        refine r_ild3 (pc := 19) dX6_feudAt_19 ?_
        refine r_iconst (v := -1) (pc := 20) dX6_feudAt_20 (by decide) ?_
        first | refine r_icmp_neN (pc := 21) (tgt := 28) dX6_feudAt_21 (by decide) (by omega) (by omega) (fun h21 => ?_) (fun h21 => ?_) | refine r_icmp_ne (pc := 21) (tgt := 28) dX6_feudAt_21 (by decide) (fun h21 => ?_) (fun h21 => ?_)
        · skip
          exact absurd rfl h21
        · skip
          refine r_iconst (v := -1) (pc := 24) dX6_feudAt_24 (by decide) ?_
          refine r_goto (pc := 25) (tgt := 42) dX6_feudAt_25 (by decide) ?_
          refine r_iret (pc := 42) dX6_feudAt_42 ?_
          exact ⟨s, rfl, rfl, Fr.rf⟩
    | some b =>
      have hbn := who_lt hb
      have hf : feudAtS T t h = some (feudS T t a b) := by unfold feudAtS; rw [ha, hb]
      rw [hf]
      refine r_ald0 (pc := 0) dX6_feudAt_0 ?_
      refine r_ild1 (pc := 1) dX6_feudAt_1 ?_
      refine r_cV (pc := 2) dX6_feudAt_2 cv_X6_406 hS.k (ct_X6_whoIn hS hT.2.1 hn8 hN hB (by omega)) rfl rfl (Nat.le_of_ble_eq_true rfl) (by decide) ?_
      rintro _ _ ⟨rfl, rfl⟩
      refine Bd.eqI (x' := nI a) (by rw [ha]; rfl) ?_
      refine r_ist2 (pc := 5) dX6_feudAt_5 ?_
      refine r_ald0 (pc := 6) dX6_feudAt_6 ?_
      refine r_ild1 (pc := 7) dX6_feudAt_7 ?_
      refine r_iconst (v := nI 1) (pc := 8) dX6_feudAt_8 (by decide) ?_
      first | refine r_iaddN (pc := 9) dX6_feudAt_9 ?_ | refine r_iaddJ (pc := 9) dX6_feudAt_9 ?_ | refine r_iadd (pc := 9) dX6_feudAt_9 ?_
      refine r_cV (pc := 10) dX6_feudAt_10 cv_X6_406 hS.k (ct_X6_whoIn hS hT.2.1 hn8 hN hB (by omega)) rfl rfl (Nat.le_of_ble_eq_true rfl) (by decide) ?_
      rintro _ _ ⟨rfl, rfl⟩
      refine Bd.eqI (x' := nI b) (by rw [hb]; rfl) ?_
      refine r_ist3 (pc := 13) dX6_feudAt_13 ?_
      refine r_ild2 (pc := 14) dX6_feudAt_14 ?_
      refine r_iconst (v := -1) (pc := 15) dX6_feudAt_15 (by decide) ?_
      first | refine r_icmp_eqN (pc := 16) (tgt := 24) dX6_feudAt_16 (by decide) (by omega) (by omega) (fun h16 => ?_) (fun h16 => ?_) | refine r_icmp_eq (pc := 16) (tgt := 24) dX6_feudAt_16 (by decide) (fun h16 => ?_) (fun h16 => ?_)
      · skip
        exact absurd h16 (nI_m1 (by omega))
      · skip
        refine r_ild3 (pc := 19) dX6_feudAt_19 ?_
        refine r_iconst (v := -1) (pc := 20) dX6_feudAt_20 (by decide) ?_
        first | refine r_icmp_neN (pc := 21) (tgt := 28) dX6_feudAt_21 (by decide) (by omega) (by omega) (fun h21 => ?_) (fun h21 => ?_) | refine r_icmp_ne (pc := 21) (tgt := 28) dX6_feudAt_21 (by decide) (fun h21 => ?_) (fun h21 => ?_)
        · skip
          refine r_ald0 (pc := 28) dX6_feudAt_28 ?_
          refine r_ild2 (pc := 29) dX6_feudAt_29 ?_
          refine r_ild3 (pc := 30) dX6_feudAt_30 ?_
          refine r_cV (pc := 31) dX6_feudAt_31 cv_X6_495 hS.k (ct_X6_isFeud hS hT hTB hN hB han hbn) rfl rfl (Nat.le_of_ble_eq_true rfl) (by decide) ?_
          rintro _ _ ⟨s1, rfl, rfl, hf1⟩
          first | refine r_if_eqZ (pc := 34) (tgt := 41) dX6_feudAt_34 (by decide) (fun h34 => ?_) (fun h34 => ?_) | refine r_if_eqN (pc := 34) (tgt := 41) dX6_feudAt_34 (by decide) (by omega) (fun h34 => ?_) (fun h34 => ?_) | refine r_if_eq (pc := 34) (tgt := 41) dX6_feudAt_34 (by decide) (fun h34 => ?_) (fun h34 => ?_)
          · skip
            refine r_iconst (v := nI 0) (pc := 41) dX6_feudAt_41 (by decide) ?_
            refine r_iret (pc := 42) dX6_feudAt_42 ?_
            exact ⟨s1, rfl, by first | (rw [h34]; rfl) | (rw [Bool.eq_false_iff.mpr h34]; rfl), hf1⟩
          · skip
            refine r_iconst (v := nI 1) (pc := 37) dX6_feudAt_37 (by decide) ?_
            refine r_goto (pc := 38) (tgt := 42) dX6_feudAt_38 (by decide) ?_
            refine r_iret (pc := 42) dX6_feudAt_42 ?_
            exact ⟨s1, rfl, by first | (rw [h34]; rfl) | (rw [Bool.eq_false_iff.mpr h34]; rfl), hf1⟩
        · skip
          exact absurd h21 (nI_m1 (by omega))
end M8
