set_option maxRecDepth 100000
/-! THE MODEL: small readers -/
section M1
variable {g : GC} {M : MM} {o : Nat} {s : MS}
theorem ct_X6_isIn {v a b : Int64} : Ct g yX6_isIn cX6_isIn 6 (some Jvm.ClassFile.FieldType.boolean) 0 0 0 [.long v, .long a, .long b] (putM M o s) (PQ (putM M o s) (.int (zI (a ≤ v ∧ v ≤ b)))) noX := by
  refine Ct.of (by decide) (Nat.le_of_ble_eq_true rfl) rfl ?_
  refine r_lld0 (pc := 0) dX6_isIn_0 ?_
  refine r_lld2 (pc := 1) dX6_isIn_1 ?_
  refine r_lcmp (pc := 2) dX6_isIn_2 ?_
  refine r_if_ltC (pc := 3) (tgt := 17) dX6_isIn_3 (by decide) (fun h3 => ?_) (fun h3 => ?_)
  · skip
    refine r_iconst (v := nI 0) (pc := 17) dX6_isIn_17 (by decide) ?_
    refine r_zret (pc := 18) dX6_isIn_18 (by first | rfl | exact zI_nar | assumption) ?_
    exact ⟨by first | rw [zI_t ⟨Int64.not_lt.mp h3, Int64.not_lt.mp h10⟩]; rfl | rw [zI_f (fun q => absurd q.1 (Int64.not_le.mpr h3))]; rfl | rw [zI_f (fun q => absurd q.2 (Int64.not_le.mpr h10))]; rfl, rfl⟩
  · skip
    refine r_lld0 (pc := 6) dX6_isIn_6 ?_
    refine r_lld4 (pc := 7) dX6_isIn_7 ?_
    refine r_lcmp (pc := 9) dX6_isIn_9 ?_
    refine r_if_gtC (pc := 10) (tgt := 17) dX6_isIn_10 (by decide) (fun h10 => ?_) (fun h10 => ?_)
    · skip
      refine r_iconst (v := nI 0) (pc := 17) dX6_isIn_17 (by decide) ?_
      refine r_zret (pc := 18) dX6_isIn_18 (by first | rfl | exact zI_nar | assumption) ?_
      exact ⟨by first | rw [zI_t ⟨Int64.not_lt.mp h3, Int64.not_lt.mp h10⟩]; rfl | rw [zI_f (fun q => absurd q.1 (Int64.not_le.mpr h3))]; rfl | rw [zI_f (fun q => absurd q.2 (Int64.not_le.mpr h10))]; rfl, rfl⟩
    · skip
      refine r_iconst (v := nI 1) (pc := 13) dX6_isIn_13 (by decide) ?_
      refine r_goto (pc := 14) (tgt := 18) dX6_isIn_14 (by decide) ?_
      refine r_zret (pc := 18) dX6_isIn_18 (by first | rfl | exact zI_nar | assumption) ?_
      exact ⟨by first | rw [zI_t ⟨Int64.not_lt.mp h3, Int64.not_lt.mp h10⟩]; rfl | rw [zI_f (fun q => absurd q.1 (Int64.not_le.mpr h3))]; rfl | rw [zI_f (fun q => absurd q.2 (Int64.not_le.mpr h10))]; rfl, rfl⟩
theorem ct_X6_lookOf {p : Nat} (hS : ShM g M o) (hp : p < 60) : Ct g yX6_lookOf cX6_lookOf 2 (some Jvm.ClassFile.FieldType.int) 0 0 0 [.ref o, .int (nI p)] (putM M o s) (PQ (putM M o s) (.int (mA s 55 (2 + 3 * p)))) noX := by
  refine Ct.of (by decide) (Nat.le_of_ble_eq_true rfl) rfl ?_
  refine r_ald0 (pc := 0) dX6_lookOf_0 ?_
  refine m_getR hS (pc := 1) dX6_lookOf_1 fl_X6_121 ar55 ?_
  refine r_iconst (v := nI 2) (pc := 4) dX6_lookOf_4 (by decide) ?_
  refine r_iconst (v := nI 3) (pc := 5) dX6_lookOf_5 (by decide) ?_
  refine r_ild1 (pc := 6) dX6_lookOf_6 ?_
  first | refine r_imulN (pc := 7) dX6_lookOf_7 ?_ | refine r_imul (pc := 7) dX6_lookOf_7 ?_
  first | refine r_iaddN (pc := 8) dX6_lookOf_8 ?_ | refine r_iadd (pc := 8) dX6_lookOf_8 ?_
  refine m_iald hS (pc := 9) dX6_lookOf_9 ar55 (by omega) (by omega) ?_
  refine r_iret (pc := 10) dX6_lookOf_10 ?_
  exact ⟨rfl, rfl⟩
theorem ct_X6_houseOf {p : Nat} (hS : ShM g M o) (hp : p < 60) : Ct g yX6_houseOf cX6_houseOf 2 (some Jvm.ClassFile.FieldType.int) 0 0 0 [.ref o, .int (nI p)] (putM M o s) (PQ (putM M o s) (.int (mA s 55 (1 + 3 * p)))) noX := by
  refine Ct.of (by decide) (Nat.le_of_ble_eq_true rfl) rfl ?_
  refine r_ald0 (pc := 0) dX6_houseOf_0 ?_
  refine m_getR hS (pc := 1) dX6_houseOf_1 fl_X6_121 ar55 ?_
  refine r_iconst (v := nI 1) (pc := 4) dX6_houseOf_4 (by decide) ?_
  refine r_iconst (v := nI 3) (pc := 5) dX6_houseOf_5 (by decide) ?_
  refine r_ild1 (pc := 6) dX6_houseOf_6 ?_
  first | refine r_imulN (pc := 7) dX6_houseOf_7 ?_ | refine r_imul (pc := 7) dX6_houseOf_7 ?_
  first | refine r_iaddN (pc := 8) dX6_houseOf_8 ?_ | refine r_iadd (pc := 8) dX6_houseOf_8 ?_
  refine m_iald hS (pc := 9) dX6_houseOf_9 ar55 (by omega) (by omega) ?_
  refine r_iret (pc := 10) dX6_houseOf_10 ?_
  exact ⟨rfl, rfl⟩
theorem ct_X6_doesSpare {p : Nat} (hS : ShM g M o) (hp : p < 60) : Ct g yX6_doesSpare cX6_doesSpare 2 (some Jvm.ClassFile.FieldType.boolean) 0 0 0 [.ref o, .int (nI p)] (putM M o s) (PQ (putM M o s) (.int (zI (mA s 55 (3 + 3 * p) = 1)))) noX := by
  refine Ct.of (by decide) (Nat.le_of_ble_eq_true rfl) rfl ?_
  refine r_ald0 (pc := 0) dX6_doesSpare_0 ?_
  refine m_getR hS (pc := 1) dX6_doesSpare_1 fl_X6_121 ar55 ?_
  refine r_iconst (v := nI 3) (pc := 4) dX6_doesSpare_4 (by decide) ?_
  refine r_iconst (v := nI 3) (pc := 5) dX6_doesSpare_5 (by decide) ?_
  refine r_ild1 (pc := 6) dX6_doesSpare_6 ?_
  first | refine r_imulN (pc := 7) dX6_doesSpare_7 ?_ | refine r_imul (pc := 7) dX6_doesSpare_7 ?_
  first | refine r_iaddN (pc := 8) dX6_doesSpare_8 ?_ | refine r_iadd (pc := 8) dX6_doesSpare_8 ?_
  refine m_iald hS (pc := 9) dX6_doesSpare_9 ar55 (by omega) (by omega) ?_
  refine r_iconst (v := nI 1) (pc := 10) dX6_doesSpare_10 (by decide) ?_
  first | refine r_icmp_neN (pc := 11) (tgt := 18) dX6_doesSpare_11 (by decide) (by omega) (by omega) (fun h11 => ?_) (fun h11 => ?_) | refine r_icmp_ne (pc := 11) (tgt := 18) dX6_doesSpare_11 (by decide) (fun h11 => ?_) (fun h11 => ?_)
  · skip
    refine r_iconst (v := nI 0) (pc := 18) dX6_doesSpare_18 (by decide) ?_
    refine r_zret (pc := 19) dX6_doesSpare_19 (by first | rfl | exact zI_nar | assumption) ?_
    exact ⟨by simp_all [zI, nI], rfl⟩
  · skip
    refine r_iconst (v := nI 1) (pc := 14) dX6_doesSpare_14 (by decide) ?_
    refine r_goto (pc := 15) (tgt := 19) dX6_doesSpare_15 (by decide) ?_
    refine r_zret (pc := 19) dX6_doesSpare_19 (by first | rfl | exact zI_nar | assumption) ?_
    exact ⟨by simp_all [zI, nI], rfl⟩
theorem whoLoop {n : Nat} {h : Int32} (hS : ShM g M o) (hn : mF s 40 = nI n) (hn8 : n ≤ 8) : ∀ k i, i + k = n →
    Bd g yX6_whoIn cX6_whoIn 3 (some Jvm.ClassFile.FieldType.int) [] 1 0 0 (putM M o s) 2 [some (.ref o), some (.int h), some (.int (nI i))] [] (PQ (putM M o s) (.int (oI (ff (fun p => mA s 55 (1 + 3 * p) == h) k i)))) noX := by
  intro k
  induction k with
  | zero =>
    intro i hi
    refine r_ild2 (pc := 2) dX6_whoIn_2 ?_
    refine r_ald0 (pc := 3) dX6_whoIn_3 ?_
    refine m_getI hS (pc := 4) dX6_whoIn_4 fl_X6_382 ?_
    rw [hn]
    first | refine r_icmp_geN (pc := 7) (tgt := 27) dX6_whoIn_7 (by decide) (by omega) (by omega) (fun h7 => ?_) (fun h7 => ?_) | refine r_icmp_ge (pc := 7) (tgt := 27) dX6_whoIn_7 (by decide) (fun h7 => ?_) (fun h7 => ?_)
    · skip
      skip
      refine r_iconst (v := -1) (pc := 27) dX6_whoIn_27 (by decide) ?_
      refine r_iret (pc := 28) dX6_whoIn_28 ?_
      exact ⟨rfl, rfl⟩
    · skip
      exact absurd h7 (by omega)
  | succ k ih =>
    intro i hi
    refine r_ild2 (pc := 2) dX6_whoIn_2 ?_
    refine r_ald0 (pc := 3) dX6_whoIn_3 ?_
    refine m_getI hS (pc := 4) dX6_whoIn_4 fl_X6_382 ?_
    rw [hn]
    first | refine r_icmp_geN (pc := 7) (tgt := 27) dX6_whoIn_7 (by decide) (by omega) (by omega) (fun h7 => ?_) (fun h7 => ?_) | refine r_icmp_ge (pc := 7) (tgt := 27) dX6_whoIn_7 (by decide) (fun h7 => ?_) (fun h7 => ?_)
    · skip
      exact absurd h7 (by omega)
    · skip
      refine r_ald0 (pc := 10) dX6_whoIn_10 ?_
      refine r_ild2 (pc := 11) dX6_whoIn_11 ?_
      refine r_cV (pc := 12) dX6_whoIn_12 cv_X6_402 hS.k (ct_X6_houseOf hS (by omega)) rfl rfl (Nat.le_of_ble_eq_true rfl) (by decide) ?_
      rintro _ _ ⟨rfl, rfl⟩
      refine r_ild1 (pc := 15) dX6_whoIn_15 ?_
      first | refine r_icmp_neN (pc := 16) (tgt := 21) dX6_whoIn_16 (by decide) (by omega) (by omega) (fun h16 => ?_) (fun h16 => ?_) | refine r_icmp_ne (pc := 16) (tgt := 21) dX6_whoIn_16 (by decide) (fun h16 => ?_) (fun h16 => ?_)
      · skip
        rw [show ff (fun p => mA s 55 (1 + 3 * p) == h) (k + 1) i = ff (fun p => mA s 55 (1 + 3 * p) == h) k (i + 1) by simp [ff, h16]]
        first | refine r_iinc2N (j := 1) (pc := 21) dX6_whoIn_21 rfl ?_ | refine r_iinc2 (pc := 21) dX6_whoIn_21 ?_
        refine r_goto (pc := 24) (tgt := 2) dX6_whoIn_24 (by decide) ?_
        exact ih (i + 1) (by omega)
      · skip
        refine r_ild2 (pc := 19) dX6_whoIn_19 ?_
        refine r_iret (pc := 20) dX6_whoIn_20 ?_
        exact ⟨by simp [ff, h16, oI], rfl⟩
end M1
