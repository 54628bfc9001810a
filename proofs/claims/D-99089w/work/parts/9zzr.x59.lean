set_option maxRecDepth 100000
/-! FIND: a word among words -/
/-- the first of k words from i on that is w -/
def fndW (L : List (List Nat)) (w : List Nat) : Nat → Nat → Option Nat
  | 0, _ => none
  | k + 1, i => if L.getD i [] = w then some i else fndW L w k (i + 1)
def onI (r : Option Nat) : Int32 := match r with
  | none => iI (-1)
  | some i => nI i
/-- words at t -/
def WDS (M : MM) (P : Nat → Prop) (t : Nat) (L : List (List Nat)) : Prop := mK M t = 9 ∧ mN M t = L.length ∧ L.length < 1000 ∧ ∀ i, i < L.length → ∃ z, mR M t i = some z ∧ STR M P z (L.getD i [])
section X59
variable {g : GC} {M : MM} {P P' : Nat → Prop}
theorem lp_find {t z : Nat} {L : List (List Nat)} {w : List Nat} (hc : CMPS g) (h : WDS M P t L) (hz : STR M P' z w) : ∀ k i, i + k = L.length → Bd g yX0_find cX0_find 3 (some Jvm.ClassFile.FieldType.int) [] 2 0 0 M 2 [some (.ref z), some (.ref t), some (.int (nI i))] [] (PQ M (.int (onI (fndW L w k i)))) noX := by
  obtain ⟨w1, w2, w3, w4⟩ := h
  intro k
  induction k with
  | zero =>
    intro i hi
    refine r_ild2 (pc := 2) dX0_find_2 ?_
    refine r_ald1 (pc := 3) dX0_find_3 ?_
    refine r_alen (pc := 4) (t := 9) dX0_find_4 w1 (by decide) ?_
    rw [w2]
    first | refine r_icmp_geN (pc := 5) (tgt := 26) dX0_find_5 (by decide) (by omega) (by omega) (fun h5 => ?_) (fun h5 => ?_) | refine r_icmp_ge (pc := 5) (tgt := 26) dX0_find_5 (by decide) (fun h5 => ?_) (fun h5 => ?_)
    · skip
      refine r_iconst (v := -1) (pc := 26) dX0_find_26 (by decide) ?_
      refine r_iret (pc := 27) dX0_find_27 ?_
      exact ⟨rfl, rfl⟩
    · skip
      exact absurd h5 (by omega)
  | succ k ih =>
    intro i hi
    obtain ⟨y, y1, y2⟩ := w4 i (by omega)
    refine r_ild2 (pc := 2) dX0_find_2 ?_
    refine r_ald1 (pc := 3) dX0_find_3 ?_
    refine r_alen (pc := 4) (t := 9) dX0_find_4 w1 (by decide) ?_
    rw [w2]
    first | refine r_icmp_geN (pc := 5) (tgt := 26) dX0_find_5 (by decide) (by omega) (by omega) (fun h5 => ?_) (fun h5 => ?_) | refine r_icmp_ge (pc := 5) (tgt := 26) dX0_find_5 (by decide) (fun h5 => ?_) (fun h5 => ?_)
    · skip
      exact absurd h5 (by omega)
    · skip
      refine r_ald1 (pc := 8) dX0_find_8 ?_
      refine r_ild2 (pc := 9) dX0_find_9 ?_
      refine r_aaldR (pc := 10) dX0_find_10 w1 (by decide) (by omega) (by omega) y1 ?_
      refine r_ald0 (pc := 11) dX0_find_11 ?_
      refine r_cV (ci := 22) (pc := 12) dX0_find_12 cv_X0_16 y2.k (ct_J6_equals hc y2 hz) rfl rfl (Nat.le_of_ble_eq_true rfl) (by decide) ?_
      rintro _ M9 ⟨rfl, e9⟩
      rw [e9]
      first | refine r_if_eqZ (pc := 15) (tgt := 20) dX0_find_15 (by decide) (fun h15 => ?_) (fun h15 => ?_) | refine r_if_eqN (pc := 15) (tgt := 20) dX0_find_15 (by decide) (by omega) (fun h15 => ?_) (fun h15 => ?_) | refine r_if_eq (pc := 15) (tgt := 20) dX0_find_15 (by decide) (fun h15 => ?_) (fun h15 => ?_)
      · skip
        first | refine r_iinc2N (j := 1) (pc := 20) dX0_find_20 rfl ?_ | refine r_iinc2 (pc := 20) dX0_find_20 ?_
        refine r_goto (pc := 23) (tgt := 2) dX0_find_23 (by decide) ?_
        rw [show fndW L w (k + 1) i = fndW L w k (i + 1) from if_neg h15]
        exact ih (i + 1) (by omega)
      · skip
        refine r_ild2 (pc := 18) dX0_find_18 ?_
        refine r_iret (pc := 19) dX0_find_19 ?_
        exact ⟨by rw [show fndW L w (k + 1) i = some i from if_pos h15]; rfl, rfl⟩
theorem ct_X0_find {t z : Nat} {L : List (List Nat)} {w : List Nat} (hc : CMPS g) (h : WDS M P t L) (hz : STR M P' z w) : Ct g yX0_find cX0_find 3 (some Jvm.ClassFile.FieldType.int) 2 0 0 [.ref z, .ref t] M (PQ M (.int (onI (fndW L w L.length 0)))) noX := by
  refine Ct.of (by decide) (Nat.le_of_ble_eq_true rfl) rfl ?_
  refine r_iconst (v := nI 0) (pc := 0) dX0_find_0 (by decide) ?_
  refine r_ist2 (pc := 1) dX0_find_1 ?_
  exact lp_find hc h hz L.length 0 (by omega)
end X59
