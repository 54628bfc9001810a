set_option maxRecDepth 100000
/-! RETOUCHED: see, letter -/
theorem rwl_len {f : Nat → Nat} : ∀ n, (rowsOf f n).length = n
  | 0 => rfl
  | n + 1 => by show (rowsOf f n ++ [_]).length = n + 1; rw [List.length_append, rwl_len n]; rfl
theorem rowsOf_all {f : Nat → Nat} {p : Ev → Bool} : ∀ n, (rowsOf f n).all p = allR (fun i => p (f (3 * i), f (3 * i + 1), f (3 * i + 2))) n 0
  | 0 => rfl
  | n + 1 => by
    show (rowsOf f n ++ [(f (3 * n), f (3 * n + 1), f (3 * n + 2))]).all p = _
    rw [List.all_append, rowsOf_all n, allR_snoc, Nat.zero_add]
    simp
theorem rwl_get {f : Nat → Nat} : ∀ n i, i < n → (rowsOf f n)[i]? = some (f (3 * i), f (3 * i + 1), f (3 * i + 2))
  | 0, i, h => absurd h (Nat.not_lt_zero i)
  | n + 1, i, h => by
    show (rowsOf f n ++ [(f (3 * n), f (3 * n + 1), f (3 * n + 2))])[i]? = _
    by_cases e : i = n
    · subst e; rw [List.getElem?_append_right (by rw [rwl_len]; exact Nat.le_refl _), rwl_len, Nat.sub_self]; rfl
    · rw [List.getElem?_append_left (by rw [rwl_len]; omega)]; exact rwl_get n i (by omega)
section X30
variable {g : GC} {M : MM} {o ta : Nat} {P : Nat → Prop} {s : XS} {q : Sg} {T : Te}
theorem ct_X0_soulOf {p : Nat} (W : WS g M o P ta T s) (S : SoX M P ta T) (hp : p < tn T) : Ct g yX0_soulOf cX0_soulOf 2 (some ((Jvm.ClassFile.FieldType.object "Retouched$Soul"))) 6 0 0 [.ref o, .int (nI p)] (putX M o s) (fun v M' => (∃ a, v = some (.ref a) ∧ NmX (putX M o s) P a (nms T p)) ∧ M' = putX M o s) noX := by
  have hg := W.gx
  have hS := W.S
  have hX := W.X
  obtain ⟨t0, t1, -⟩ := W.2.2.2.2.2.1
  have hP := W.2.2.2.1
  obtain ⟨-, l, v, k2, k3, k4, k5, k6⟩ := S
  have hL : LsX (putX M o s) l v (tn T) := k5.fr (Sm.put (hP l k3)) (Sm.put (hP v k4))
  obtain ⟨a, a1, a2⟩ := k6 p hp
  have ha : NmX (putX M o s) P a (nms T p) := a2.fr (fun c hc => Sm.put (hP c hc)) (fun _ z => z)
  refine Ct.of (by decide) (Nat.le_of_ble_eq_true rfl) rfl ?_
  refine r_ald0 (pc := 0) dX0_soulOf_0 ?_
  refine x_getR (c := 0) hS ow_0 kd_0 (pc := 1) dX0_soulOf_1 fl_X0_31 W.ht ?_
  refine r_getRN (pc := 4) dX0_soulOf_4 (fn_X0_149 hg) t1 ((mR_putXn (hP ta t0)).trans k2) ?_
  refine r_ild1 (pc := 7) dX0_soulOf_7 ?_
  refine r_cF (pc := 8) dX0_soulOf_8 (cf_X0_165 hg) hL.1 (ct_J2_get hL hp ((mR_putXn (hP v k4)).trans a1)) rfl rfl (Nat.le_of_ble_eq_true rfl) (by first | decide | omega) ?_
  rintro _ _ ⟨rfl, rfl⟩
  refine r_castE (ci := 7) (pc := 13) dX0_soulOf_13 q1190 ha.2.1 ?_
  refine r_aretR (pc := 16) dX0_soulOf_16 ?_
  exact ⟨⟨a, rfl, ha⟩, rfl⟩
theorem px_letter {x y : Int32} (hI : IX g M o P ta s q) (hG : GI q) : Ct g yX0_letter cX0_letter 3 (some Jvm.ClassFile.FieldType.int) 9 0 0 [.ref o, .int x, .int y] (putX M o s) (QI g M o P ta q (.int (letterS q x y))) noX := by
  have W := hI.W
  have S := hI.So
  have hg := W.gx
  have hS := W.S
  have hX := W.X
  have hTB := W.B
  have hn8 := hTB.1
  have hH9 := hTB.2.1
  have hN := hI.nw.1
  have hR := hI.nw.2
  have hB : SB (tn (gT q)) (gS q) := hG.2.2.2.2.2.1.1
  refine Ct.of (by decide) (Nat.le_of_ble_eq_true rfl) rfl ?_
  unfold letterS
  cases hp : pidx x (tn (gT q)) with
  | none =>
    have hp := pidx_none hp
    refine r_ald0 (pc := 0) dX0_letter_0 ?_
    refine r_ild1 (pc := 1) dX0_letter_1 ?_
    refine r_cV (pc := 2) dX0_letter_2 cv_X0_161 (hS.k (c := 0) ow_0 kd_0) (ct_X0_isPerson W S) rfl rfl (Nat.le_of_ble_eq_true rfl) (by first | decide | omega) ?_
    rintro _ _ ⟨rfl, rfl⟩
    first | refine r_if_eqZ (pc := 5) (tgt := 29) dX0_letter_5 (by decide) (fun h5 => ?_) (fun h5 => ?_) | refine r_if_eqN (pc := 5) (tgt := 29) dX0_letter_5 (by decide) (by omega) (fun h5 => ?_) (fun h5 => ?_) | refine r_if_eq (pc := 5) (tgt := 29) dX0_letter_5 (by decide) (fun h5 => ?_) (fun h5 => ?_)
    · skip
      refine r_iconst (v := -1) (pc := 29) dX0_letter_29 (by decide) ?_
      refine r_iret (pc := 30) dX0_letter_30 ?_
      exact ⟨s, rfl, rfl, hI⟩
    · skip
      exact absurd h5 hp
  | some p =>
    obtain ⟨hp1, rfl⟩ := pidx_some hp
    cases hk : pidx y 6 with
    | none =>
      have hk := pidx_none hk
      refine r_ald0 (pc := 0) dX0_letter_0 ?_
      refine r_ild1 (pc := 1) dX0_letter_1 ?_
      refine r_cV (pc := 2) dX0_letter_2 cv_X0_161 (hS.k (c := 0) ow_0 kd_0) (ct_X0_isPerson W S) rfl rfl (Nat.le_of_ble_eq_true rfl) (by first | decide | omega) ?_
      rintro _ _ ⟨rfl, rfl⟩
      first | refine r_if_eqZ (pc := 5) (tgt := 29) dX0_letter_5 (by decide) (fun h5 => ?_) (fun h5 => ?_) | refine r_if_eqN (pc := 5) (tgt := 29) dX0_letter_5 (by decide) (by omega) (fun h5 => ?_) (fun h5 => ?_) | refine r_if_eq (pc := 5) (tgt := 29) dX0_letter_5 (by decide) (fun h5 => ?_) (fun h5 => ?_)
      · skip
        exact absurd (by rw [nI_toInt (by omega)]; omega) h5
      · skip
        refine r_ild2 (pc := 8) dX0_letter_8 ?_
        refine r_iconst (v := nI 0) (pc := 9) dX0_letter_9 (by decide) ?_
        refine r_iconst (v := nI 5) (pc := 10) dX0_letter_10 (by decide) ?_
        refine r_cS (pc := 11) dX0_letter_11 cs_X0_190 (ct_X0_is (v := y) (a := nI 0) (b := nI 5)) rfl rfl (Nat.le_of_ble_eq_true rfl) (by first | decide | omega) ?_
        rintro _ _ ⟨rfl, rfl⟩
        rw [nI_toInt (n := 0) (by decide), nI_toInt (n := 5) (by decide)]
        first | refine r_if_eqZ (pc := 14) (tgt := 29) dX0_letter_14 (by decide) (fun h14 => ?_) (fun h14 => ?_) | refine r_if_eqN (pc := 14) (tgt := 29) dX0_letter_14 (by decide) (by omega) (fun h14 => ?_) (fun h14 => ?_) | refine r_if_eq (pc := 14) (tgt := 29) dX0_letter_14 (by decide) (fun h14 => ?_) (fun h14 => ?_)
        · skip
          refine r_iconst (v := -1) (pc := 29) dX0_letter_29 (by decide) ?_
          refine r_iret (pc := 30) dX0_letter_30 ?_
          exact ⟨s, rfl, rfl, hI⟩
        · skip
          exact absurd h14 (by omega)
    | some k =>
      obtain ⟨hk1, rfl⟩ := pidx_some hk
      refine r_ald0 (pc := 0) dX0_letter_0 ?_
      refine r_ild1 (pc := 1) dX0_letter_1 ?_
      refine r_cV (pc := 2) dX0_letter_2 cv_X0_161 (hS.k (c := 0) ow_0 kd_0) (ct_X0_isPerson W S) rfl rfl (Nat.le_of_ble_eq_true rfl) (by first | decide | omega) ?_
      rintro _ _ ⟨rfl, rfl⟩
      first | refine r_if_eqZ (pc := 5) (tgt := 29) dX0_letter_5 (by decide) (fun h5 => ?_) (fun h5 => ?_) | refine r_if_eqN (pc := 5) (tgt := 29) dX0_letter_5 (by decide) (by omega) (fun h5 => ?_) (fun h5 => ?_) | refine r_if_eq (pc := 5) (tgt := 29) dX0_letter_5 (by decide) (fun h5 => ?_) (fun h5 => ?_)
      · skip
        exact absurd (by rw [nI_toInt (by omega)]; omega) h5
      · skip
        refine r_ild2 (pc := 8) dX0_letter_8 ?_
        refine r_iconst (v := nI 0) (pc := 9) dX0_letter_9 (by decide) ?_
        refine r_iconst (v := nI 5) (pc := 10) dX0_letter_10 (by decide) ?_
        refine r_cS (pc := 11) dX0_letter_11 cs_X0_190 (ct_X0_is (v := nI k) (a := nI 0) (b := nI 5)) rfl rfl (Nat.le_of_ble_eq_true rfl) (by first | decide | omega) ?_
        rintro _ _ ⟨rfl, rfl⟩
        rw [nI_toInt (n := 0) (by decide), nI_toInt (n := 5) (by decide), nI_toInt (n := k) (by omega)]
        first | refine r_if_eqZ (pc := 14) (tgt := 29) dX0_letter_14 (by decide) (fun h14 => ?_) (fun h14 => ?_) | refine r_if_eqN (pc := 14) (tgt := 29) dX0_letter_14 (by decide) (by omega) (fun h14 => ?_) (fun h14 => ?_) | refine r_if_eq (pc := 14) (tgt := 29) dX0_letter_14 (by decide) (fun h14 => ?_) (fun h14 => ?_)
        · skip
          exact absurd (by omega) h14
        · skip
          refine r_ald0 (pc := 17) dX0_letter_17 ?_
          refine r_ild1 (pc := 18) dX0_letter_18 ?_
          refine r_cV (pc := 19) dX0_letter_19 cv_X0_194 (hS.k (c := 0) ow_0 kd_0) (ct_X0_soulOf W S hp1) rfl rfl (Nat.le_of_ble_eq_true rfl) (by first | decide | omega) ?_
          rintro _ _ ⟨⟨a, rfl, ha⟩, rfl⟩
          refine r_ild2 (pc := 22) dX0_letter_22 ?_
          refine r_cV (pc := 23) dX0_letter_23 cv_X0_198 ha.2.1 (ct_X7_letter W.cs W.z ha (by omega)) rfl rfl (Nat.le_of_ble_eq_true rfl) (by decide) ?_
          rintro _ _ ⟨rfl, rfl⟩
          refine r_goto (pc := 26) (tgt := 30) dX0_letter_26 (by decide) ?_
          refine r_iret (pc := 30) dX0_letter_30 ?_
          exact ⟨s, rfl, rfl, hI⟩
/-- the tape's bytes -/
theorem IX.byte {k : Nat} (hI : IX g M o P ta s q) (hk : k < 1600) : Ct g yX0_byteAt cX0_byteAt 2 (some Jvm.ClassFile.FieldType.int) 0 0 0 [.ref o, .int (nI k)] (putX M o s) (PQ (putX M o s) (.int (nI (gTp q k)))) noX := by
  rw [← hI.tp.2.1 k hk]
  exact ct_X0_byteAt hI.W.S hI.W.X hk
def okR3 (q : Sg) (i : Nat) : Bool := okRow (tn (gT q)) (gTp q (3 * i), gTp q (3 * i + 1), gTp q (3 * i + 2))
theorem xseeA {m : Nat} {Q : Option Value → MM → Prop} (hI : IX g M o P ta s q) (hG : GI q) (hm : m ≤ 16) : ∀ k i, i + k = m →
    (∀ x3, Bd g yX0_see cX0_see 4 (some Jvm.ClassFile.FieldType.int) [] 5 0 0 (putX M o s) 86 [some (.ref o), some (.int (nI (3 * m))), some (.int (zI (allR (okR3 q) k i = true))), x3] [] Q noX) →
    Bd g yX0_see cX0_see 4 (some Jvm.ClassFile.FieldType.int) [] 5 0 0 (putX M o s) 29 [some (.ref o), some (.int (nI (3 * m))), some (.int (nI 1)), some (.int (nI (3 * i)))] [] Q noX := by
  have W := hI.W
  have S := hI.So
  have hg := W.gx
  have hS := W.S
  have hX := W.X
  have hTB := W.B
  have hn8 := hTB.1
  have hH9 := hTB.2.1
  have hN := hI.nw.1
  have hR := hI.nw.2
  have hB : SB (tn (gT q)) (gS q) := hG.2.2.2.2.2.1.1
  have hb := hG.2.1
  intro k
  induction k with
  | zero =>
    intro i hi K
    refine r_ild3 (pc := 29) dX0_see_29 ?_
    refine r_ild1 (pc := 30) dX0_see_30 ?_
    first | refine r_icmp_geN (pc := 31) (tgt := 86) dX0_see_31 (by decide) (by omega) (by omega) (fun h31 => ?_) (fun h31 => ?_) | refine r_icmp_ge (pc := 31) (tgt := 86) dX0_see_31 (by decide) (fun h31 => ?_) (fun h31 => ?_)
    · skip
      exact K _
    · skip
      exact absurd h31 (by omega)
  | succ k ih =>
    intro i hi K
    have b0 := hb (3 * i)
    have b1 := hb (3 * i + 1)
    have b2 := hb (3 * i + 2)
    have hok : okR3 q i = (decide (gTp q (3 * i) ≤ 30) && decide (gTp q (3 * i + 1) < tn (gT q)) && decide (gTp q (3 * i + 2) ≤ 99)) := rfl
    have hall : allR (okR3 q) (k + 1) i = (okR3 q i && allR (okR3 q) k (i + 1)) := rfl
    have hno : okR3 q i = false → ∀ x3, Bd g yX0_see cX0_see 4 (some Jvm.ClassFile.FieldType.int) [] 5 0 0 (putX M o s) 29 [some (.ref o), some (.int (nI (3 * m))), some (.int (nI 0)), some (.int (nI x3))] [] Q noX := by
      intro hf x3
      rw [hall, hf, Bool.false_and] at K
      have K0 : ∀ x3, Bd g yX0_see cX0_see 4 (some Jvm.ClassFile.FieldType.int) [] 5 0 0 (putX M o s) 86 [some (.ref o), some (.int (nI (3 * m))), some (.int (nI 0)), x3] [] Q noX := K
      refine r_ild3 (pc := 29) dX0_see_29 ?_
      refine r_ild1 (pc := 30) dX0_see_30 ?_
      refine r_icmp_ge (pc := 31) (tgt := 86) dX0_see_31 (by decide) (fun h31 => ?_) (fun h31 => ?_)
      · skip
        exact K0 _
      · skip
        refine r_ild2 (pc := 34) dX0_see_34 ?_
        refine r_if_eqN (pc := 35) (tgt := 86) dX0_see_35 (by decide) (by decide) (fun h35 => ?_) (fun h35 => ?_)
        · skip
          exact K0 _
        · skip
          exact absurd rfl h35
    refine r_ild3 (pc := 29) dX0_see_29 ?_
    refine r_ild1 (pc := 30) dX0_see_30 ?_
    first | refine r_icmp_geN (pc := 31) (tgt := 86) dX0_see_31 (by decide) (by omega) (by omega) (fun h31 => ?_) (fun h31 => ?_) | refine r_icmp_ge (pc := 31) (tgt := 86) dX0_see_31 (by decide) (fun h31 => ?_) (fun h31 => ?_)
    · skip
      exact absurd h31 (by omega)
    · skip
      refine r_ild2 (pc := 34) dX0_see_34 ?_
      refine r_if_eqN (pc := 35) (tgt := 86) dX0_see_35 (by decide) (by decide) (fun h35 => ?_) (fun h35 => ?_)
      · skip
        exact absurd h35 (by decide)
      · skip
        refine r_ald0 (pc := 38) dX0_see_38 ?_
        refine r_ild3 (pc := 39) dX0_see_39 ?_
        refine r_cV (pc := 40) dX0_see_40 cv_X0_275 (hS.k (c := 0) ow_0 kd_0) (hI.byte (k := 3 * i) (by omega)) rfl rfl (Nat.le_of_ble_eq_true rfl) (by first | decide | omega) ?_
        rintro _ _ ⟨rfl, rfl⟩
        refine r_bipush (v := nI 30) (pc := 43) dX0_see_43 (by decide) ?_
        first | refine r_icmp_gtN (pc := 45) (tgt := 78) dX0_see_45 (by decide) (by omega) (by omega) (fun h45 => ?_) (fun h45 => ?_) | refine r_icmp_gt (pc := 45) (tgt := 78) dX0_see_45 (by decide) (fun h45 => ?_) (fun h45 => ?_)
        · skip
          refine r_iconst (v := nI 0) (pc := 78) dX0_see_78 (by decide) ?_
          refine r_ist2 (pc := 79) dX0_see_79 ?_
          first | refine r_iinc3N (j := 3) (pc := 80) dX0_see_80 rfl ?_ | refine r_iinc3 (pc := 80) dX0_see_80 ?_
          refine r_goto (pc := 83) (tgt := 29) dX0_see_83 (by decide) ?_
          first | exact hno (by rw [hok, decide_eq_false (show ¬ gTp q (3 * i) ≤ 30 by omega)]; rfl) _ | exact hno (by rw [hok, decide_eq_false (show ¬ gTp q (3 * i + 1) < tn (gT q) by omega), Bool.and_false, Bool.false_and]) _ | exact hno (by rw [hok, decide_eq_false (show ¬ gTp q (3 * i + 2) ≤ 99 by omega), Bool.and_false]) _ | exact ih (i + 1) (by omega) (fun x3 => by have := K x3; rw [hall, hok, decide_eq_true (show gTp q (3 * i) ≤ 30 by omega), decide_eq_true (show gTp q (3 * i + 1) < tn (gT q) by omega), decide_eq_true (show gTp q (3 * i + 2) ≤ 99 by omega)] at this; exact this)
        · skip
          refine r_ald0 (pc := 48) dX0_see_48 ?_
          refine r_ald0 (pc := 49) dX0_see_49 ?_
          refine r_ild3 (pc := 50) dX0_see_50 ?_
          refine r_iconst (v := nI 1) (pc := 51) dX0_see_51 (by decide) ?_
          first | refine r_iaddN (pc := 52) dX0_see_52 ?_ | refine r_iaddJ (pc := 52) dX0_see_52 ?_ | refine r_iadd (pc := 52) dX0_see_52 ?_
          refine r_cV (pc := 53) dX0_see_53 cv_X0_275 (hS.k (c := 0) ow_0 kd_0) (hI.byte (k := 3 * i + 1) (by omega)) rfl rfl (Nat.le_of_ble_eq_true rfl) (by first | decide | omega) ?_
          rintro _ _ ⟨rfl, rfl⟩
          refine r_cV (pc := 56) dX0_see_56 cv_X0_161 (hS.k (c := 0) ow_0 kd_0) (ct_X0_isPerson W S) rfl rfl (Nat.le_of_ble_eq_true rfl) (by first | decide | omega) ?_
          rintro _ _ ⟨rfl, rfl⟩
          rw [nI_toInt (by omega)]
          first | refine r_if_eqZ (pc := 59) (tgt := 78) dX0_see_59 (by decide) (fun h59 => ?_) (fun h59 => ?_) | refine r_if_eqN (pc := 59) (tgt := 78) dX0_see_59 (by decide) (by omega) (fun h59 => ?_) (fun h59 => ?_) | refine r_if_eq (pc := 59) (tgt := 78) dX0_see_59 (by decide) (fun h59 => ?_) (fun h59 => ?_)
          · skip
            refine r_iconst (v := nI 0) (pc := 78) dX0_see_78 (by decide) ?_
            refine r_ist2 (pc := 79) dX0_see_79 ?_
            first | refine r_iinc3N (j := 3) (pc := 80) dX0_see_80 rfl ?_ | refine r_iinc3 (pc := 80) dX0_see_80 ?_
            refine r_goto (pc := 83) (tgt := 29) dX0_see_83 (by decide) ?_
            first | exact hno (by rw [hok, decide_eq_false (show ¬ gTp q (3 * i) ≤ 30 by omega)]; rfl) _ | exact hno (by rw [hok, decide_eq_false (show ¬ gTp q (3 * i + 1) < tn (gT q) by omega), Bool.and_false, Bool.false_and]) _ | exact hno (by rw [hok, decide_eq_false (show ¬ gTp q (3 * i + 2) ≤ 99 by omega), Bool.and_false]) _ | exact ih (i + 1) (by omega) (fun x3 => by have := K x3; rw [hall, hok, decide_eq_true (show gTp q (3 * i) ≤ 30 by omega), decide_eq_true (show gTp q (3 * i + 1) < tn (gT q) by omega), decide_eq_true (show gTp q (3 * i + 2) ≤ 99 by omega)] at this; exact this)
          · skip
            refine r_ald0 (pc := 62) dX0_see_62 ?_
            refine r_ild3 (pc := 63) dX0_see_63 ?_
            refine r_iconst (v := nI 2) (pc := 64) dX0_see_64 (by decide) ?_
            first | refine r_iaddN (pc := 65) dX0_see_65 ?_ | refine r_iaddJ (pc := 65) dX0_see_65 ?_ | refine r_iadd (pc := 65) dX0_see_65 ?_
            refine r_cV (pc := 66) dX0_see_66 cv_X0_275 (hS.k (c := 0) ow_0 kd_0) (hI.byte (k := 3 * i + 2) (by omega)) rfl rfl (Nat.le_of_ble_eq_true rfl) (by first | decide | omega) ?_
            rintro _ _ ⟨rfl, rfl⟩
            refine r_bipush (v := nI 99) (pc := 69) dX0_see_69 (by decide) ?_
            first | refine r_icmp_gtN (pc := 71) (tgt := 78) dX0_see_71 (by decide) (by omega) (by omega) (fun h71 => ?_) (fun h71 => ?_) | refine r_icmp_gt (pc := 71) (tgt := 78) dX0_see_71 (by decide) (fun h71 => ?_) (fun h71 => ?_)
            · skip
              refine r_iconst (v := nI 0) (pc := 78) dX0_see_78 (by decide) ?_
              refine r_ist2 (pc := 79) dX0_see_79 ?_
              first | refine r_iinc3N (j := 3) (pc := 80) dX0_see_80 rfl ?_ | refine r_iinc3 (pc := 80) dX0_see_80 ?_
              refine r_goto (pc := 83) (tgt := 29) dX0_see_83 (by decide) ?_
              first | exact hno (by rw [hok, decide_eq_false (show ¬ gTp q (3 * i) ≤ 30 by omega)]; rfl) _ | exact hno (by rw [hok, decide_eq_false (show ¬ gTp q (3 * i + 1) < tn (gT q) by omega), Bool.and_false, Bool.false_and]) _ | exact hno (by rw [hok, decide_eq_false (show ¬ gTp q (3 * i + 2) ≤ 99 by omega), Bool.and_false]) _ | exact ih (i + 1) (by omega) (fun x3 => by have := K x3; rw [hall, hok, decide_eq_true (show gTp q (3 * i) ≤ 30 by omega), decide_eq_true (show gTp q (3 * i + 1) < tn (gT q) by omega), decide_eq_true (show gTp q (3 * i + 2) ≤ 99 by omega)] at this; exact this)
            · skip
              refine r_iconst (v := nI 1) (pc := 74) dX0_see_74 (by decide) ?_
              refine r_goto (pc := 75) (tgt := 79) dX0_see_75 (by decide) ?_
              refine r_ist2 (pc := 79) dX0_see_79 ?_
              first | refine r_iinc3N (j := 3) (pc := 80) dX0_see_80 rfl ?_ | refine r_iinc3 (pc := 80) dX0_see_80 ?_
              refine r_goto (pc := 83) (tgt := 29) dX0_see_83 (by decide) ?_
              first | exact hno (by rw [hok, decide_eq_false (show ¬ gTp q (3 * i) ≤ 30 by omega)]; rfl) _ | exact hno (by rw [hok, decide_eq_false (show ¬ gTp q (3 * i + 1) < tn (gT q) by omega), Bool.and_false, Bool.false_and]) _ | exact hno (by rw [hok, decide_eq_false (show ¬ gTp q (3 * i + 2) ≤ 99 by omega), Bool.and_false]) _ | exact ih (i + 1) (by omega) (fun x3 => by have := K x3; rw [hall, hok, decide_eq_true (show gTp q (3 * i) ≤ 30 by omega), decide_eq_true (show gTp q (3 * i + 1) < tn (gT q) by omega), decide_eq_true (show gTp q (3 * i + 2) ≤ 99 by omega)] at this; exact this)
/-- rows put down so far -/
def RwQ (s : XS) (q : Sg) (i : Nat) (s' : XS) : Prop := FrX (fun c => 381 ≤ c ∧ c ≤ 383) s s' ∧ rX s' = rX s ∧ lX s' = lX s ∧ ∀ j, j < i → iX s' 381 j = nI (gTp q (3 * j)) ∧ iX s' 382 j = nI (gTp q (3 * j + 1)) ∧ iX s' 383 j = nI (gTp q (3 * j + 2))
theorem xseeB {m : Nat} {s0 : XS} {x2 : Int32} {Q : Option Value → MM → Prop} (hS : ShX g M o) (hX0 : FxX (rX s0) o) (hT : ∀ k, k < 1600 → iX s0 4 k &&& nI 255 = nI (gTp q k)) (hm : m ≤ 16) (hn : iX s0 0 15 = nI m) : ∀ k i s1, i + k = m → RwQ s0 q i s1 →
    (∀ s2 x3, RwQ s0 q m s2 → Bd g yX0_see cX0_see 4 (some Jvm.ClassFile.FieldType.int) [] 5 0 0 (putX M o s2) 162 [some (.ref o), some (.int (nI (3 * m))), some (.int x2), x3] [] Q noX) →
    Bd g yX0_see cX0_see 4 (some Jvm.ClassFile.FieldType.int) [] 5 0 0 (putX M o s1) 105 [some (.ref o), some (.int (nI (3 * m))), some (.int x2), some (.int (nI i))] [] Q noX := by
  intro k
  induction k with
  | zero =>
    intro i s1 hi hR K
    obtain rfl : i = m := by omega
    have hX : FxX (rX s1) o := by rw [hR.2.1]; exact hX0
    have hn1 : iX s1 0 15 = nI i := by rw [hR.1.1 0 (by omega)]; exact hn
    refine r_ild3 (pc := 105) dX0_see_105 ?_
    refine r_ald0 (pc := 106) dX0_see_106 ?_
    refine x_getI (c := 0) hS ow_0 kd_0 (pc := 107) dX0_see_107 fl_X0_140 ?_
    rw [hn1]
    first | refine r_icmp_geN (pc := 110) (tgt := 162) dX0_see_110 (by decide) (by omega) (by omega) (fun h110 => ?_) (fun h110 => ?_) | refine r_icmp_ge (pc := 110) (tgt := 162) dX0_see_110 (by decide) (fun h110 => ?_) (fun h110 => ?_)
    · skip
      exact K s1 _ hR
    · skip
      exact absurd h110 (by omega)
  | succ k ih =>
    intro i s1 hi hR K
    have hX : FxX (rX s1) o := by rw [hR.2.1]; exact hX0
    have hn1 : iX s1 0 15 = nI m := by rw [hR.1.1 0 (by omega)]; exact hn
    have hb : ∀ s2, rX s2 = rX s1 → (∀ j, iX s2 4 j = iX s1 4 j) → ∀ k, k < 1600 → Ct g yX0_byteAt cX0_byteAt 2 (some Jvm.ClassFile.FieldType.int) 0 0 0 [.ref o, .int (nI k)] (putX M o s2) (PQ (putX M o s2) (.int (nI (gTp q k)))) noX := by
      intro s2 hr h4 k hk
      rw [← hT k hk, ← hR.1.1 4 (by omega), ← h4]
      exact ct_X0_byteAt hS (by rw [hr]; exact hX) hk
    refine r_ild3 (pc := 105) dX0_see_105 ?_
    refine r_ald0 (pc := 106) dX0_see_106 ?_
    refine x_getI (c := 0) hS ow_0 kd_0 (pc := 107) dX0_see_107 fl_X0_140 ?_
    rw [hn1]
    first | refine r_icmp_geN (pc := 110) (tgt := 162) dX0_see_110 (by decide) (by omega) (by omega) (fun h110 => ?_) (fun h110 => ?_) | refine r_icmp_ge (pc := 110) (tgt := 162) dX0_see_110 (by decide) (fun h110 => ?_) (fun h110 => ?_)
    · skip
      exact absurd h110 (by omega)
    · skip
      refine r_ald0 (pc := 113) dX0_see_113 ?_
      refine x_getR (c := 0) hS ow_0 kd_0 (pc := 114) dX0_see_114 fl_X0_81 (fx_0_12 hX) ?_
      refine r_ild3 (pc := 117) dX0_see_117 ?_
      refine r_ald0 (pc := 118) dX0_see_118 ?_
      refine r_iconst (v := nI 3) (pc := 119) dX0_see_119 (by decide) ?_
      refine r_ild3 (pc := 120) dX0_see_120 ?_
      first | refine r_imulN (pc := 121) dX0_see_121 ?_ | refine r_imulJ (pc := 121) dX0_see_121 ?_ | refine r_imul (pc := 121) dX0_see_121 ?_
      refine r_cV (pc := 122) dX0_see_122 cv_X0_275 (hS.k (c := 0) ow_0 kd_0) (hb s1 rfl (fun _ => rfl) (3 * i) (by omega)) rfl rfl (Nat.le_of_ble_eq_true rfl) (by first | decide | omega) ?_
      rintro _ _ ⟨rfl, rfl⟩
      refine x_iast (c := 381) hS ow_381 kd_381 ln_381 (pc := 125) dX0_see_125 (by omega) (by omega) ?_
      refine r_ald0 (pc := 126) dX0_see_126 ?_
      refine x_getR (c := 0) hS ow_0 kd_0 (pc := 127) dX0_see_127 fl_X0_84 (fx_0_13 hX) ?_
      refine r_ild3 (pc := 130) dX0_see_130 ?_
      refine r_ald0 (pc := 131) dX0_see_131 ?_
      refine r_iconst (v := nI 3) (pc := 132) dX0_see_132 (by decide) ?_
      refine r_ild3 (pc := 133) dX0_see_133 ?_
      first | refine r_imulN (pc := 134) dX0_see_134 ?_ | refine r_imulJ (pc := 134) dX0_see_134 ?_ | refine r_imul (pc := 134) dX0_see_134 ?_
      refine r_iconst (v := nI 1) (pc := 135) dX0_see_135 (by decide) ?_
      first | refine r_iaddN (pc := 136) dX0_see_136 ?_ | refine r_iaddJ (pc := 136) dX0_see_136 ?_ | refine r_iadd (pc := 136) dX0_see_136 ?_
      refine r_cV (pc := 137) dX0_see_137 cv_X0_275 (hS.k (c := 0) ow_0 kd_0) (hb (uI s1 381 i (nI (gTp q (3 * i)))) rfl (fun j => by rw [iX_c (by decide)]) (3 * i + 1) (by omega)) rfl rfl (Nat.le_of_ble_eq_true rfl) (by first | decide | omega) ?_
      rintro _ _ ⟨rfl, rfl⟩
      refine x_iast (c := 382) hS ow_382 kd_382 ln_382 (pc := 140) dX0_see_140 (by omega) (by omega) ?_
      refine r_ald0 (pc := 141) dX0_see_141 ?_
      refine x_getR (c := 0) hS ow_0 kd_0 (pc := 142) dX0_see_142 fl_X0_87 (fx_0_14 hX) ?_
      refine r_ild3 (pc := 145) dX0_see_145 ?_
      refine r_ald0 (pc := 146) dX0_see_146 ?_
      refine r_iconst (v := nI 3) (pc := 147) dX0_see_147 (by decide) ?_
      refine r_ild3 (pc := 148) dX0_see_148 ?_
      first | refine r_imulN (pc := 149) dX0_see_149 ?_ | refine r_imulJ (pc := 149) dX0_see_149 ?_ | refine r_imul (pc := 149) dX0_see_149 ?_
      refine r_iconst (v := nI 2) (pc := 150) dX0_see_150 (by decide) ?_
      first | refine r_iaddN (pc := 151) dX0_see_151 ?_ | refine r_iaddJ (pc := 151) dX0_see_151 ?_ | refine r_iadd (pc := 151) dX0_see_151 ?_
      refine r_cV (pc := 152) dX0_see_152 cv_X0_275 (hS.k (c := 0) ow_0 kd_0) (hb (uI (uI s1 381 i (nI (gTp q (3 * i)))) 382 i (nI (gTp q (3 * i + 1)))) rfl (fun j => by rw [iX_c (by decide), iX_c (by decide)]) (3 * i + 2) (by omega)) rfl rfl (Nat.le_of_ble_eq_true rfl) (by first | decide | omega) ?_
      rintro _ _ ⟨rfl, rfl⟩
      refine x_iast (c := 383) hS ow_383 kd_383 ln_383 (pc := 155) dX0_see_155 (by omega) (by omega) ?_
      first | refine r_iinc3N (j := 1) (pc := 156) dX0_see_156 rfl ?_ | refine r_iinc3 (pc := 156) dX0_see_156 ?_
      refine r_goto (pc := 159) (tgt := 105) dX0_see_159 (by decide) ?_
      refine ih (i + 1) _ (by omega) ⟨((hR.1.uI (c := 381) ⟨by omega, by omega⟩).uI (c := 382) ⟨by omega, by omega⟩).uI (c := 383) ⟨by omega, by omega⟩, hR.2.1, hR.2.2.1, fun j hj => ?_⟩ K
      by_cases e : j = i
      · subst e
        refine ⟨?_, ?_, iX_s⟩
        · rw [iX_c (by decide), iX_c (by decide)]; exact iX_s
        · rw [iX_c (by decide)]; exact iX_s
      · obtain ⟨c1, c2, c3⟩ := hR.2.2.2 j (by omega)
        refine ⟨?_, ?_, ?_⟩
        · rw [iX_c (by decide), iX_c (by decide), iX_j e]; exact c1
        · rw [iX_c (by decide), iX_j e, iX_c (by decide)]; exact c2
        · rw [iX_j e, iX_c (by decide), iX_c (by decide)]; exact c3
/-- the tape is taken -/
theorem IX.take (hI : IX g M o P ta s q) (hG : GI q) : IX g M o P ta (uI s 0 2 (nI 0)) (uTp q (gTp q) 0) := by
  obtain ⟨w1, w2, a1, a2, a3, a4, a5, a6, a7, a8, a9, a10⟩ := hI
  have hn8 : tn (gT q) ≤ 8 := w1.B.1
  exact ⟨w1.uI, w2, ⟨iX_s, fun j hj => by rw [iX_c (by decide)]; exact a1.2.1 j hj, fun j hj => by rw [iX_c (by decide)]; exact a1.2.2 j hj⟩, a2.fr (Ag.uI (by unfold rFt; omega)), a3.fr (Ag.uI (by unfold rRf; omega)), a4.fr hn8 (Ag.uI (by unfold rNw; omega)) (fun _ => rfl), a5.fr hn8 hG.2.2.2.2.2.2.2.1 (Ag.uI (by unfold rUn; omega)) (fun _ _ _ _ => rfl), a6, a7.fr (Ag.uI (by unfold rRw; omega)), a8, a9.fr (Ag.uI (by unfold rOu; omega)), a10⟩
theorem GI.take (hG : GI q) : GI (uTp q (gTp q) 0) := ⟨Nat.zero_le _, hG.2⟩
theorem px_see (hI : IX g M o P ta s q) (hG : GI q) : Ct g yX0_see cX0_see 4 (some Jvm.ClassFile.FieldType.int) 5 0 0 [.ref o] (putX M o s) (QI g M o P ta (seeQ q).2 (.int (seeQ q).1)) noX := by
  have W := hI.W
  have S := hI.So
  have hg := W.gx
  have hS := W.S
  have hX := W.X
  have hTB := W.B
  have hn8 := hTB.1
  have hH9 := hTB.2.1
  have hN := hI.nw.1
  have hR := hI.nw.2
  have hB : SB (tn (gT q)) (gS q) := hG.2.2.2.2.2.1.1
  have hd : gTd q ≤ 1600 := hG.1
  have hb := hG.2.1
  have hI1 := hI.take hG
  have hG1 := hG.take
  have hrf : ∀ {s1 : XS} {x : Nat}, s1 = uI s 0 2 (nI 0) → ∀ (lv : List (Option Value)), True := fun _ _ => trivial
  refine Ct.of (by decide) (Nat.le_of_ble_eq_true rfl) rfl ?_
  by_cases hc : 0 < gTd q ∧ gTd q % 3 = 0 ∧ gTd q / 3 ≤ 16
  · obtain ⟨m, hm⟩ : ∃ m, gTd q = 3 * m := ⟨gTd q / 3, by omega⟩
    have hm16 : m ≤ 16 := by omega
    have hdiv : gTd q / 3 = m := by omega
    have hall : (rowsOf (gTp q) m).all (okRow (tn (gT q))) = allR (okR3 q) m 0 := rowsOf_all m
    have hin : Bd g yX0_see cX0_see 4 (some Jvm.ClassFile.FieldType.int) [] 5 0 0 (putX M o (uI s 0 2 (nI 0))) 29 [some (.ref o), some (.int (nI (3 * m))), some (.int (nI 1)), some (.int (nI (3 * 0)))] [] (QI g M o P ta (seeQ q).2 (.int (seeQ q).1)) noX := by
      refine xseeA (m := m) hI1 hG1 hm16 m 0 (by omega) (fun x3 => ?_)
      have hok3 : okR3 (uTp q (gTp q) 0) = okR3 q := rfl
      rw [hok3]
      have hS := hI1.W.S
      have hX := hI1.W.X
      by_cases ha : allR (okR3 q) m 0 = true
      · have hsee : seeQ q = (nI m, uRw (uTp q (gTp q) 0) (rowsOf (gTp q) m)) := by
          unfold seeQ; rw [hdiv, if_pos ⟨hc.1, hc.2.1, hm16, by rw [hall]; exact ha⟩]
        rw [hsee, zI_t ha]
        have hI2 : IX g M o P ta (uI (uI s 0 2 (nI 0)) 0 15 (nI m)) (uTp q (gTp q) 0) → True := fun _ => trivial
        refine r_ild2 (pc := 86) dX0_see_86 ?_
        refine r_if_ne (pc := 87) (tgt := 96) dX0_see_87 (by decide) (fun h87 => ?_) (fun h87 => ?_)
        · skip
          refine r_ald0 (pc := 96) dX0_see_96 ?_
          refine r_ild1 (pc := 97) dX0_see_97 ?_
          refine r_iconst (v := nI 3) (pc := 98) dX0_see_98 (by decide) ?_
          refine r_idivN (pc := 99) dX0_see_99 (by omega) (by omega) (by omega) ?_
          rw [show 3 * m / 3 = m by omega]
          refine x_putI (c := 0) hS ow_0 kd_0 (pc := 100) dX0_see_100 fl_X0_140 fw_X0_15 rfl rfl ?_
          refine r_iconst (v := nI 0) (pc := 103) dX0_see_103 (by decide) ?_
          refine r_ist3 (pc := 104) dX0_see_104 ?_
          refine xseeB (q := q) (s0 := uI (uI s 0 2 (nI 0)) 0 15 (nI m)) hS hX (fun k hk => by rw [iX_c (by decide), iX_c (by decide)]; exact hI.tp.2.1 k hk) hm16 iX_s m 0 _ (by omega) ⟨FrX.rf, rfl, rfl, fun j hj => absurd hj (Nat.not_lt_zero j)⟩ (fun s2 x3 hR => ?_)
          refine r_ald0 (pc := 162) dX0_see_162 ?_
          refine x_getI (c := 0) hS ow_0 kd_0 (pc := 163) dX0_see_163 fl_X0_140 ?_
          refine Bd.eqI (x' := nI m) (by rw [hR.1.1 0 (by omega)]; exact iX_s) ?_
          refine r_iret (pc := 166) dX0_see_166 ?_
          obtain ⟨r1, r2, r3, r4⟩ := hR
          obtain ⟨w1, w2, a1, a2, a3, a4, a5, a6, a7, a8, a9, a10⟩ := hI1
          have ag : ∀ R : Nat → Nat → Prop, ¬ R 0 15 → (∀ c j, R c j → ¬ (381 ≤ c ∧ c ≤ 383)) → Ag R (uI s 0 2 (nI 0)) s2 := fun R z1 z2 => (Ag.uI z1).trans (Ag.of r1 (fun c j r z => z2 c j r z))
          refine ⟨s2, rfl, rfl, w1.rx r2 (fun k hk => by rw [r3]; exact w1.m k hk), w2, a1.fr (ag _ (by unfold rTp; omega) (by unfold rTp; intros; omega)), a2.fr (ag _ (by unfold rFt; omega) (by unfold rFt; intros; omega)), a3.fr (ag _ (by unfold rRf; omega) (by unfold rRf; intros; omega)), a4.fr hn8 (ag _ (by unfold rNw; omega) (by unfold rNw; intros; omega)) (fun _ => by rw [r2]; rfl), a5.fr hn8 hG.2.2.2.2.2.2.2.1 (ag _ (by unfold rUn; omega) (by unfold rUn; intros; omega)) (fun _ _ _ _ => by rw [r2]; rfl), a6.fr r2, ⟨?_, fun i a b c hx => ?_⟩, (by unfold cSd; rw [r3]; exact a8), a9.fr (ag _ (by unfold rOu; omega) (by unfold rOu; intros; omega)), fun k hk => by rw [r3]; exact a10 k hk⟩
          · show iX s2 0 15 = nI (rowsOf (gTp q) m).length
            rw [rwl_len, r1.1 0 (by omega)]; exact iX_s
          · have hx : (rowsOf (gTp q) m)[i]? = some (a, b, c) := hx
            have hi : i < m := by have := (List.getElem?_eq_some_iff.mp hx).1; rw [rwl_len] at this; exact this
            rw [rwl_get m i hi] at hx
            cases hx
            exact r4 i hi
        · skip
          exact absurd h87 (by decide)
      · have hsee : seeQ q = (-1, uRf (uTp q (gTp q) 0) 1) := by
          unfold seeQ; rw [hdiv, if_neg (fun z => ha (by rw [← hall]; exact z.2.2.2))]
        rw [hsee, zI_f ha]
        refine r_ild2 (pc := 86) dX0_see_86 ?_
        refine r_if_ne (pc := 87) (tgt := 96) dX0_see_87 (by decide) (fun h87 => ?_) (fun h87 => ?_)
        · skip
          exact absurd rfl h87
        · skip
          refine r_ald0 (pc := 90) dX0_see_90 ?_
          refine r_iconst (v := nI 1) (pc := 91) dX0_see_91 (by decide) ?_
          refine r_cV (pc := 92) dX0_see_92 cv_X0_107 (hS.k (c := 0) ow_0 kd_0) (ct_X0_refuses hS hX (by decide)) rfl rfl (Nat.le_of_ble_eq_true rfl) (by first | decide | omega) ?_
          rintro _ _ ⟨rfl, rfl⟩
          refine r_iret (pc := 95) dX0_see_95 ?_
          exact ⟨_, rfl, rfl, hI1.ref hG1 (by decide)⟩
    refine r_ald0 (pc := 0) dX0_see_0 ?_
    refine r_cV (pc := 1) dX0_see_1 cv_X0_118 (hS.k (c := 0) ow_0 kd_0) (ct_X0_taken hS hX) rfl rfl (Nat.le_of_ble_eq_true rfl) (by first | decide | omega) ?_
    rintro _ _ ⟨rfl, rfl⟩
    rw [hI.tp.1, hm]
    refine r_ist1 (pc := 4) dX0_see_4 ?_
    refine r_ild1 (pc := 5) dX0_see_5 ?_
    refine r_if_leN (pc := 6) (tgt := 25) dX0_see_6 (by decide) (by omega) (fun h6 => ?_) (fun h6 => ?_)
    · skip
      exact absurd h6 (by omega)
    · skip
      refine r_ild1 (pc := 9) dX0_see_9 ?_
      refine r_iconst (v := nI 3) (pc := 10) dX0_see_10 (by decide) ?_
      refine r_iremN (pc := 11) dX0_see_11 (by omega) (by omega) (by omega) ?_
      refine r_if_neN (pc := 12) (tgt := 25) dX0_see_12 (by decide) (by omega) (fun h12 => ?_) (fun h12 => ?_)
      · skip
        exact absurd (by omega) h12
      · skip
        refine r_ild1 (pc := 15) dX0_see_15 ?_
        refine r_bipush (v := nI 48) (pc := 16) dX0_see_16 (by decide) ?_
        first | refine r_icmp_gtN (pc := 18) (tgt := 25) dX0_see_18 (by decide) (by omega) (by omega) (fun h18 => ?_) (fun h18 => ?_) | refine r_icmp_gt (pc := 18) (tgt := 25) dX0_see_18 (by decide) (fun h18 => ?_) (fun h18 => ?_)
        · skip
          exact absurd h18 (by omega)
        · skip
          refine r_iconst (v := nI 1) (pc := 21) dX0_see_21 (by decide) ?_
          refine r_goto (pc := 22) (tgt := 26) dX0_see_22 (by decide) ?_
          refine r_ist2 (pc := 26) dX0_see_26 ?_
          refine r_iconst (v := nI 0) (pc := 27) dX0_see_27 (by decide) ?_
          refine r_ist3 (pc := 28) dX0_see_28 ?_
          exact hin
  · have hsee : seeQ q = (-1, uRf (uTp q (gTp q) 0) 1) := by
      unfold seeQ; rw [if_neg (fun z => hc ⟨z.1, z.2.1, z.2.2.1⟩)]
    rw [hsee]
    have hX1 := hI1.W.X
    have hend : ∀ x3, Bd g yX0_see cX0_see 4 (some Jvm.ClassFile.FieldType.int) [] 5 0 0 (putX M o (uI s 0 2 (nI 0))) 29 [some (.ref o), some (.int (nI (gTd q))), some (.int (nI 0)), some (.int (nI x3))] [] (QI g M o P ta (uRf (uTp q (gTp q) 0) 1) (.int (-1))) noX := by
      intro x3
      have hX := hX1
      refine r_ild3 (pc := 29) dX0_see_29 ?_
      refine r_ild1 (pc := 30) dX0_see_30 ?_
      refine r_icmp_ge (pc := 31) (tgt := 86) dX0_see_31 (by decide) (fun h31 => ?_) (fun h31 => ?_)
      · skip
        refine r_ild2 (pc := 86) dX0_see_86 ?_
        refine r_if_neN (pc := 87) (tgt := 96) dX0_see_87 (by decide) (by decide) (fun h87 => ?_) (fun h87 => ?_)
        · skip
          exact absurd rfl h87
        · skip
          refine r_ald0 (pc := 90) dX0_see_90 ?_
          refine r_iconst (v := nI 1) (pc := 91) dX0_see_91 (by decide) ?_
          refine r_cV (pc := 92) dX0_see_92 cv_X0_107 (hS.k (c := 0) ow_0 kd_0) (ct_X0_refuses hS hX (by decide)) rfl rfl (Nat.le_of_ble_eq_true rfl) (by first | decide | omega) ?_
          rintro _ _ ⟨rfl, rfl⟩
          refine r_iret (pc := 95) dX0_see_95 ?_
          exact ⟨_, rfl, rfl, hI1.ref hG1 (by decide)⟩
      · skip
        refine r_ild2 (pc := 34) dX0_see_34 ?_
        refine r_if_eqN (pc := 35) (tgt := 86) dX0_see_35 (by decide) (by decide) (fun h35 => ?_) (fun h35 => ?_)
        · skip
          refine r_ild2 (pc := 86) dX0_see_86 ?_
          refine r_if_neN (pc := 87) (tgt := 96) dX0_see_87 (by decide) (by decide) (fun h87 => ?_) (fun h87 => ?_)
          · skip
            exact absurd rfl h87
          · skip
            refine r_ald0 (pc := 90) dX0_see_90 ?_
            refine r_iconst (v := nI 1) (pc := 91) dX0_see_91 (by decide) ?_
            refine r_cV (pc := 92) dX0_see_92 cv_X0_107 (hS.k (c := 0) ow_0 kd_0) (ct_X0_refuses hS hX (by decide)) rfl rfl (Nat.le_of_ble_eq_true rfl) (by first | decide | omega) ?_
            rintro _ _ ⟨rfl, rfl⟩
            refine r_iret (pc := 95) dX0_see_95 ?_
            exact ⟨_, rfl, rfl, hI1.ref hG1 (by decide)⟩
        · skip
          exact absurd rfl h35
    refine r_ald0 (pc := 0) dX0_see_0 ?_
    refine r_cV (pc := 1) dX0_see_1 cv_X0_118 (hS.k (c := 0) ow_0 kd_0) (ct_X0_taken hS hX) rfl rfl (Nat.le_of_ble_eq_true rfl) (by first | decide | omega) ?_
    rintro _ _ ⟨rfl, rfl⟩
    rw [hI.tp.1]
    refine r_ist1 (pc := 4) dX0_see_4 ?_
    refine r_ild1 (pc := 5) dX0_see_5 ?_
    refine r_if_leN (pc := 6) (tgt := 25) dX0_see_6 (by decide) (by omega) (fun h6 => ?_) (fun h6 => ?_)
    · skip
      refine r_iconst (v := nI 0) (pc := 25) dX0_see_25 (by decide) ?_
      refine r_ist2 (pc := 26) dX0_see_26 ?_
      refine r_iconst (v := nI 0) (pc := 27) dX0_see_27 (by decide) ?_
      refine r_ist3 (pc := 28) dX0_see_28 ?_
      exact hend 0
    · skip
      refine r_ild1 (pc := 9) dX0_see_9 ?_
      refine r_iconst (v := nI 3) (pc := 10) dX0_see_10 (by decide) ?_
      refine r_iremN (pc := 11) dX0_see_11 (by omega) (by omega) (by omega) ?_
      refine r_if_neN (pc := 12) (tgt := 25) dX0_see_12 (by decide) (by omega) (fun h12 => ?_) (fun h12 => ?_)
      · skip
        refine r_iconst (v := nI 0) (pc := 25) dX0_see_25 (by decide) ?_
        refine r_ist2 (pc := 26) dX0_see_26 ?_
        refine r_iconst (v := nI 0) (pc := 27) dX0_see_27 (by decide) ?_
        refine r_ist3 (pc := 28) dX0_see_28 ?_
        exact hend 0
      · skip
        refine r_ild1 (pc := 15) dX0_see_15 ?_
        refine r_bipush (v := nI 48) (pc := 16) dX0_see_16 (by decide) ?_
        first | refine r_icmp_gtN (pc := 18) (tgt := 25) dX0_see_18 (by decide) (by omega) (by omega) (fun h18 => ?_) (fun h18 => ?_) | refine r_icmp_gt (pc := 18) (tgt := 25) dX0_see_18 (by decide) (fun h18 => ?_) (fun h18 => ?_)
        · skip
          refine r_iconst (v := nI 0) (pc := 25) dX0_see_25 (by decide) ?_
          refine r_ist2 (pc := 26) dX0_see_26 ?_
          refine r_iconst (v := nI 0) (pc := 27) dX0_see_27 (by decide) ?_
          refine r_ist3 (pc := 28) dX0_see_28 ?_
          exact hend 0
        · skip
          exact absurd ⟨by omega, by omega, by omega⟩ hc
end X30
