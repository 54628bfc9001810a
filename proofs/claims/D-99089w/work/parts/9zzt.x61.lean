set_option maxRecDepth 100000
/-! IS A HOUSE FULL -/
/-- does one of k souls from i on live at h -/
def hasH (H : Nat → Nat) (h : Nat) : Nat → Nat → Bool
  | 0, _ => false
  | k + 1, i => if H i = h then true else hasH H h k (i + 1)
section X61
variable {g : GC} {M : MM} {P : Nat → Prop}
theorem lp_full {ta l v h : Nat} {L : List (List Nat)} {H : Nat → Nat} (hg : GX g) (hs : SLS M P ta l v L H) (hh : h < 1000) : ∀ k i, i + k = L.length → Bd g yX1_isFull cX1_isFull 3 (some Jvm.ClassFile.FieldType.boolean) [] 6 0 0 M 2 [some (.ref ta), some (.int (nI h)), some (.int (nI i))] [] (PQ M (.int (zI (hasH H h k i = true)))) noX := by
  obtain ⟨w1, w2, w3, w4, w5⟩ := hs
  intro k
  induction k with
  | zero =>
    intro i hi
    refine r_ild2 (pc := 2) dX1_isFull_2 ?_
    refine r_ald0 (pc := 3) dX1_isFull_3 ?_
    refine r_getR (pc := 4) dX1_isFull_4 fl_X1_14 w1 w2 ?_
    refine r_cF (pc := 7) dX1_isFull_7 (cf_X1_20 hg) w3.1 (ct_J2_size w3) rfl rfl (Nat.le_of_ble_eq_true rfl) (by decide) ?_
    rintro _ M9 ⟨rfl, e9⟩
    rw [e9]
    first | refine r_icmp_geN (pc := 12) (tgt := 43) dX1_isFull_12 (by decide) (by omega) (by omega) (fun h12 => ?_) (fun h12 => ?_) | refine r_icmp_ge (pc := 12) (tgt := 43) dX1_isFull_12 (by decide) (fun h12 => ?_) (fun h12 => ?_)
    · skip
      refine r_iconst (v := nI 0) (pc := 43) dX1_isFull_43 (by decide) ?_
      refine r_zret (pc := 44) dX1_isFull_44 (by first | rfl | exact zI_nar | assumption) ?_
      exact ⟨by rw [zI_f (show ¬ hasH H h 0 i = true from fun q => by cases q)]; rfl, rfl⟩
    · skip
      exact absurd h12 (by omega)
  | succ k ih =>
    intro i hi
    obtain ⟨a, y, y1, y2, y3, y4, y5, y6⟩ := w5 i (by omega)
    refine r_ild2 (pc := 2) dX1_isFull_2 ?_
    refine r_ald0 (pc := 3) dX1_isFull_3 ?_
    refine r_getR (pc := 4) dX1_isFull_4 fl_X1_14 w1 w2 ?_
    refine r_cF (pc := 7) dX1_isFull_7 (cf_X1_20 hg) w3.1 (ct_J2_size w3) rfl rfl (Nat.le_of_ble_eq_true rfl) (by decide) ?_
    rintro _ M9 ⟨rfl, e9⟩
    rw [e9]
    first | refine r_icmp_geN (pc := 12) (tgt := 43) dX1_isFull_12 (by decide) (by omega) (by omega) (fun h12 => ?_) (fun h12 => ?_) | refine r_icmp_ge (pc := 12) (tgt := 43) dX1_isFull_12 (by decide) (fun h12 => ?_) (fun h12 => ?_)
    · skip
      exact absurd h12 (by omega)
    · skip
      refine r_ald0 (pc := 15) dX1_isFull_15 ?_
      refine r_getR (pc := 16) dX1_isFull_16 fl_X1_14 w1 w2 ?_
      refine r_ild2 (pc := 19) dX1_isFull_19 ?_
      refine r_cF (pc := 20) dX1_isFull_20 (cf_X1_26 hg) w3.1 (ct_J2_get w3 (by omega) y1) rfl rfl (Nat.le_of_ble_eq_true rfl) (by decide) ?_
      rintro _ M8 ⟨rfl, e8⟩
      rw [e8]
      refine r_castE (ci := 7) (pc := 25) dX1_isFull_25 q784 y2 ?_
      refine r_getIN' (pc := 28) dX1_isFull_28 (fn_X1_42 hg) y2 y5 ?_
      refine r_ild1 (pc := 31) dX1_isFull_31 ?_
      first | refine r_icmp_neN (pc := 32) (tgt := 37) dX1_isFull_32 (by decide) (by omega) (by omega) (fun h32 => ?_) (fun h32 => ?_) | refine r_icmp_ne (pc := 32) (tgt := 37) dX1_isFull_32 (by decide) (fun h32 => ?_) (fun h32 => ?_)
      · skip
        first | refine r_iinc2N (j := 1) (pc := 37) dX1_isFull_37 rfl ?_ | refine r_iinc2 (pc := 37) dX1_isFull_37 ?_
        refine r_goto (pc := 40) (tgt := 2) dX1_isFull_40 (by decide) ?_
        rw [show hasH H h (k + 1) i = hasH H h k (i + 1) from if_neg (by omega)]
        exact ih (i + 1) (by omega)
      · skip
        refine r_iconst (v := nI 1) (pc := 35) dX1_isFull_35 (by decide) ?_
        refine r_zret (pc := 36) dX1_isFull_36 (by first | rfl | exact zI_nar | assumption) ?_
        exact ⟨by rw [zI_t (show hasH H h (k + 1) i = true from if_pos (by omega))]; rfl, rfl⟩
theorem ct_X1_isFull {ta l v h : Nat} {L : List (List Nat)} {H : Nat → Nat} (hg : GX g) (hs : SLS M P ta l v L H) (hh : h < 1000) : Ct g yX1_isFull cX1_isFull 3 (some Jvm.ClassFile.FieldType.boolean) 6 0 0 [.ref ta, .int (nI h)] M (PQ M (.int (zI (hasH H h L.length 0 = true)))) noX := by
  refine Ct.of (by decide) (Nat.le_of_ble_eq_true rfl) rfl ?_
  refine r_iconst (v := nI 0) (pc := 0) dX1_isFull_0 (by decide) ?_
  refine r_ist2 (pc := 1) dX1_isFull_1 ?_
  exact lp_full hg hs hh L.length 0 (by omega)
end X61
