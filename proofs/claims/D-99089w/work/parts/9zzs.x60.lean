set_option maxRecDepth 100000
/-! FIND: a soul by her name; is a house full -/
/-- souls at l, v: names L, houses H -/
def SLS (M : MM) (P : Nat → Prop) (ta l v : Nat) (L : List (List Nat)) (H : Nat → Nat) : Prop := mK M ta = 21 ∧ mR M ta 3 = some l ∧ LsX M l v L.length ∧ L.length ≤ 8 ∧ ∀ i, i < L.length → ∃ a z, mR M v i = some a ∧ mK M a = 27 ∧ mR M a 0 = some z ∧ STR M P z (L.getD i []) ∧ mI M a 1 = nI (H i) ∧ H i < 1000
section X60
variable {g : GC} {M : MM} {P P' : Nat → Prop}
theorem lp_findS {ta l v z : Nat} {L : List (List Nat)} {H : Nat → Nat} {w : List Nat} (hg : GX g) (hc : CMPS g) (h : SLS M P ta l v L H) (hz : STR M P' z w) : ∀ k i, i + k = L.length → Bd g yX1_find cX1_find 3 (some Jvm.ClassFile.FieldType.int) [] 6 0 0 M 2 [some (.ref ta), some (.ref z), some (.int (nI i))] [] (PQ M (.int (onI (fndW L w k i)))) noX := by
  obtain ⟨w1, w2, w3, w4, w5⟩ := h
  intro k
  induction k with
  | zero =>
    intro i hi
    refine r_ild2 (pc := 2) dX1_find_2 ?_
    refine r_ald0 (pc := 3) dX1_find_3 ?_
    refine r_getR (pc := 4) dX1_find_4 fl_X1_14 w1 w2 ?_
    refine r_cF (pc := 7) dX1_find_7 (cf_X1_20 hg) w3.1 (ct_J2_size w3) rfl rfl (Nat.le_of_ble_eq_true rfl) (by decide) ?_
    rintro _ M9 ⟨rfl, e9⟩
    rw [e9]
    first | refine r_icmp_geN (pc := 12) (tgt := 46) dX1_find_12 (by decide) (by omega) (by omega) (fun h12 => ?_) (fun h12 => ?_) | refine r_icmp_ge (pc := 12) (tgt := 46) dX1_find_12 (by decide) (fun h12 => ?_) (fun h12 => ?_)
    · skip
      refine r_iconst (v := -1) (pc := 46) dX1_find_46 (by decide) ?_
      refine r_iret (pc := 47) dX1_find_47 ?_
      exact ⟨rfl, rfl⟩
    · skip
      exact absurd h12 (by omega)
  | succ k ih =>
    intro i hi
    obtain ⟨a, y, y1, y2, y3, y4, y5, y6⟩ := w5 i (by omega)
    refine r_ild2 (pc := 2) dX1_find_2 ?_
    refine r_ald0 (pc := 3) dX1_find_3 ?_
    refine r_getR (pc := 4) dX1_find_4 fl_X1_14 w1 w2 ?_
    refine r_cF (pc := 7) dX1_find_7 (cf_X1_20 hg) w3.1 (ct_J2_size w3) rfl rfl (Nat.le_of_ble_eq_true rfl) (by decide) ?_
    rintro _ M9 ⟨rfl, e9⟩
    rw [e9]
    first | refine r_icmp_geN (pc := 12) (tgt := 46) dX1_find_12 (by decide) (by omega) (by omega) (fun h12 => ?_) (fun h12 => ?_) | refine r_icmp_ge (pc := 12) (tgt := 46) dX1_find_12 (by decide) (fun h12 => ?_) (fun h12 => ?_)
    · skip
      exact absurd h12 (by omega)
    · skip
      refine r_ald0 (pc := 15) dX1_find_15 ?_
      refine r_getR (pc := 16) dX1_find_16 fl_X1_14 w1 w2 ?_
      refine r_ild2 (pc := 19) dX1_find_19 ?_
      refine r_cF (pc := 20) dX1_find_20 (cf_X1_26 hg) w3.1 (ct_J2_get w3 (by omega) y1) rfl rfl (Nat.le_of_ble_eq_true rfl) (by decide) ?_
      rintro _ M8 ⟨rfl, e8⟩
      rw [e8]
      refine r_castE (ci := 7) (pc := 25) dX1_find_25 q784 y2 ?_
      refine r_getRN (pc := 28) dX1_find_28 (fn_X1_32 hg) y2 y3 ?_
      refine r_ald1 (pc := 31) dX1_find_31 ?_
      refine r_cV (ci := 22) (pc := 32) dX1_find_32 cv_X1_36 y4.k (ct_J6_equals hc y4 hz) rfl rfl (Nat.le_of_ble_eq_true rfl) (by decide) ?_
      rintro _ M7 ⟨rfl, e7⟩
      rw [e7]
      first | refine r_if_eqZ (pc := 35) (tgt := 40) dX1_find_35 (by decide) (fun h35 => ?_) (fun h35 => ?_) | refine r_if_eqN (pc := 35) (tgt := 40) dX1_find_35 (by decide) (by omega) (fun h35 => ?_) (fun h35 => ?_) | refine r_if_eq (pc := 35) (tgt := 40) dX1_find_35 (by decide) (fun h35 => ?_) (fun h35 => ?_)
      · skip
        first | refine r_iinc2N (j := 1) (pc := 40) dX1_find_40 rfl ?_ | refine r_iinc2 (pc := 40) dX1_find_40 ?_
        refine r_goto (pc := 43) (tgt := 2) dX1_find_43 (by decide) ?_
        rw [show fndW L w (k + 1) i = fndW L w k (i + 1) from if_neg h35]
        exact ih (i + 1) (by omega)
      · skip
        refine r_ild2 (pc := 38) dX1_find_38 ?_
        refine r_iret (pc := 39) dX1_find_39 ?_
        exact ⟨by rw [show fndW L w (k + 1) i = some i from if_pos h35]; rfl, rfl⟩
theorem ct_X1_find {ta l v z : Nat} {L : List (List Nat)} {H : Nat → Nat} {w : List Nat} (hg : GX g) (hc : CMPS g) (h : SLS M P ta l v L H) (hz : STR M P' z w) : Ct g yX1_find cX1_find 3 (some Jvm.ClassFile.FieldType.int) 6 0 0 [.ref ta, .ref z] M (PQ M (.int (onI (fndW L w L.length 0)))) noX := by
  refine Ct.of (by decide) (Nat.le_of_ble_eq_true rfl) rfl ?_
  refine r_iconst (v := nI 0) (pc := 0) dX1_find_0 (by decide) ?_
  refine r_ist2 (pc := 1) dX1_find_1 ?_
  exact lp_findS hg hc h hz L.length 0 (by omega)
end X60
