set_option maxRecDepth 100000
/-! THE MODEL: strokes and years -/
section M6
variable {g : GC} {M : MM} {o : Nat} {s : MS} {M1 : MM} {T : Te} {t : St} {K : List (Nat × Nat × Nat)} {tb : Bool}
/-- the post of strokes and years: from s to s', the state t', curtains es -/
def YP (T : Te) (tb : Bool) (K : List (Nat × Nat × Nat)) (s : MS) (x : St × List (Nat × Nat × Nat)) (s' : MS) : Prop := RN s' (tn T) x.1 ∧ RK s' (if tb then K else pushes K x.2) ∧ mF s' 65 = mF s 65 + nI x.2.length ∧ Fr yF [] [55] [107] s s'
theorem YP.rf (hN : RN s (tn T) t) (hK : RK s K) : YP T tb K s (t, []) s := ⟨hN, by cases tb <;> exact hK, by show mF s 65 = mF s 65 + nI 0; rw [nI_0, Int32.add_zero], Fr.rf⟩
theorem YP.trans {s1 s2 : MS} {t1 : St} {e1 : List (Nat × Nat × Nat)} {x : St × List (Nat × Nat × Nat)} (h1 : YP T tb K s (t1, e1) s1) (h2 : YP T tb (if tb then K else pushes K e1) s1 x s2) : YP T tb K s (x.1, e1 ++ x.2) s2 := by
  refine ⟨h2.1, ?_, ?_, h1.2.2.2.trans h2.2.2.2⟩
  · have := h2.2.1
    cases tb with
    | true => exact this
    | false => rw [if_neg (by decide)] at this ⊢; rw [if_neg (by decide)] at this; rw [pushes_app]; exact this
  · rw [h2.2.2.1, h1.2.2.1, List.length_append, Int32.add_assoc, nI_add]
theorem strokeTail {sit side w was v : Nat} {Q : Option Value → MM → Prop} (hS : ShM g M o) (hT : RT s T) (hTB : TB T) (hN : RN s (tn T) t) (hB : SB (tn T) t) (h1 : sit < tn T) (h2 : w < tn T) (hv : v ≤ 99) (hw : was ≤ 99)
    (hQ : ∀ s5, Fr cdF [] [] [107] s s5 → Q none (putM M o (tA s5 55 (25 + 8 * sit + w) (nI (mindS T t sit w ((v : Int) - (was : Int))))))) :
    Bd g yX6_stroke cX6_stroke 6 none [] 4 0 0 (putM M o s) 75 [some (.ref o), some (.int (nI sit)), some (.int (nI side)), some (.int (nI w)), some (.int (nI was)), some (.int (nI v))] [] Q noX := by
  have hn8 := hTB.1
  refine r_ald0 (pc := 75) dX6_stroke_75 ?_
  refine m_getR hS (pc := 76) dX6_stroke_76 fl_X6_121 ar55 ?_
  refine r_bipush (v := nI 25) (pc := 79) dX6_stroke_79 (by decide) ?_
  refine r_bipush (v := nI 8) (pc := 81) dX6_stroke_81 (by decide) ?_
  refine r_ild1 (pc := 83) dX6_stroke_83 ?_
  first | refine r_imulN (pc := 84) dX6_stroke_84 ?_ | refine r_imulJ (pc := 84) dX6_stroke_84 ?_ | refine r_imul (pc := 84) dX6_stroke_84 ?_
  first | refine r_iaddN (pc := 85) dX6_stroke_85 ?_ | refine r_iaddJ (pc := 85) dX6_stroke_85 ?_ | refine r_iadd (pc := 85) dX6_stroke_85 ?_
  refine r_ild3 (pc := 86) dX6_stroke_86 ?_
  first | refine r_iaddN (pc := 87) dX6_stroke_87 ?_ | refine r_iaddJ (pc := 87) dX6_stroke_87 ?_ | refine r_iadd (pc := 87) dX6_stroke_87 ?_
  refine r_ald0 (pc := 88) dX6_stroke_88 ?_
  refine r_ild1 (pc := 89) dX6_stroke_89 ?_
  refine r_ild3 (pc := 90) dX6_stroke_90 ?_
  refine r_ild5 (pc := 91) dX6_stroke_91 ?_
  refine r_ild4 (pc := 93) dX6_stroke_93 ?_
  refine r_isubM (pc := 95) dX6_stroke_95 ?_
  refine r_cV (pc := 96) dX6_stroke_96 cv_X6_483 hS.k (ct_X6_minded hS hT hTB hN hB h1 h2 (by omega) (by omega)) rfl rfl (Nat.le_of_ble_eq_true rfl) (by decide) ?_
  rintro _ _ ⟨s5, rfl, rfl, hf5⟩
  refine m_iast hS (pc := 99) dX6_stroke_99 ar55 (by omega) (by omega) ?_
  refine r_vret (pc := 100) dX6_stroke_100 ?_
  exact hQ s5 hf5
theorem ct_X6_stroke {sit side : Nat} (hS : ShM g M o) (hT : RT s T) (hTB : TB T) (hN : RN s (tn T) t) (hB : SB (tn T) t) (hK : RK s K) (htb : mF s 64 = zI (tb = true)) (h1 : sit < tn T) (hs2 : side < 2) : Ct g yX6_stroke cX6_stroke 6 none 4 0 0 [.ref o, .int (nI sit), .int (nI side)] (putM M o s) (QM M o (fun r s' => r = none ∧ YP T tb K s (strokeS T t sit side) s')) noX := by
  have hn8 := hTB.1
  refine Ct.of (by decide) (Nat.le_of_ble_eq_true rfl) rfl ?_
  cases hnb : nb t (tn T) sit side with
  | none =>
    have hst : strokeS T t sit side = (t, []) := by unfold strokeS; rw [hnb]
    rw [hst]
    refine r_ald0 (pc := 0) dX6_stroke_0 ?_
    refine r_ild1 (pc := 1) dX6_stroke_1 ?_
    refine r_ild2 (pc := 2) dX6_stroke_2 ?_
    refine r_cV (pc := 3) dX6_stroke_3 cv_X6_467 hS.k (ct_X6_neighbour hS hT.2.1 hn8 hN hB h1 hs2) rfl rfl (Nat.le_of_ble_eq_true rfl) (by decide) ?_
    rintro _ _ ⟨rfl, rfl⟩
    refine Bd.eqI (x' := -1) (by rw [hnb]; rfl) ?_
    refine r_ist3 (pc := 6) dX6_stroke_6 ?_
    refine r_ild3 (pc := 7) dX6_stroke_7 ?_
    refine r_iconst (v := -1) (pc := 8) dX6_stroke_8 (by decide) ?_
    first | refine r_icmp_eqN (pc := 9) (tgt := 20) dX6_stroke_9 (by decide) (by omega) (by omega) (fun h9 => ?_) (fun h9 => ?_) | refine r_icmp_eq (pc := 9) (tgt := 20) dX6_stroke_9 (by decide) (fun h9 => ?_) (fun h9 => ?_)
    · skip
      refine r_vret (pc := 20) dX6_stroke_20 ?_
      exact ⟨s, rfl, rfl, YP.rf hN hK⟩
    · skip
      exact absurd rfl h9
  | some w =>
    have hwn := nb_lt hnb
    have hbw := hB.2 w hwn
    have hbs := hB.2 sit h1
    have hv99 := paintS_le (T := T) (pai := w) (side := side) hbs.2.1
    have hsp : strokeS T t sit side = if sp t w = 1 then (t, []) else (sTh (sLk t sit (paintS T t sit w side)) sit w (mindS T t sit w ((paintS T t sit w side : Int) - (lk t sit : Int))), if paintS T t sit w side = 0 ∧ 0 < lk t sit then [(yr t, sit, w)] else []) := by unfold strokeS; rw [hnb]
    rw [hsp]
    have hB1 : SB (tn T) (sLk t sit (paintS T t sit w side)) := ⟨hB.1, fun p hp => ⟨(hB.2 p hp).1, by
      show va_up (lk t) sit _ p ≤ 99
      unfold va_up; split
      · exact hv99
      · exact (hB.2 p hp).2.1, (hB.2 p hp).2.2.1, (hB.2 p hp).2.2.2⟩⟩
    refine r_ald0 (pc := 0) dX6_stroke_0 ?_
    refine r_ild1 (pc := 1) dX6_stroke_1 ?_
    refine r_ild2 (pc := 2) dX6_stroke_2 ?_
    refine r_cV (pc := 3) dX6_stroke_3 cv_X6_467 hS.k (ct_X6_neighbour hS hT.2.1 hn8 hN hB h1 hs2) rfl rfl (Nat.le_of_ble_eq_true rfl) (by decide) ?_
    rintro _ _ ⟨rfl, rfl⟩
    refine Bd.eqI (x' := nI w) (by rw [hnb]; rfl) ?_
    refine r_ist3 (pc := 6) dX6_stroke_6 ?_
    refine r_ild3 (pc := 7) dX6_stroke_7 ?_
    refine r_iconst (v := -1) (pc := 8) dX6_stroke_8 (by decide) ?_
    first | refine r_icmp_eqN (pc := 9) (tgt := 20) dX6_stroke_9 (by decide) (by omega) (by omega) (fun h9 => ?_) (fun h9 => ?_) | refine r_icmp_eq (pc := 9) (tgt := 20) dX6_stroke_9 (by decide) (fun h9 => ?_) (fun h9 => ?_)
    · skip
      exact absurd h9 (nI_m1 (by omega))
    · skip
      refine r_ald0 (pc := 12) dX6_stroke_12 ?_
      refine r_ild3 (pc := 13) dX6_stroke_13 ?_
      refine r_cV (pc := 14) dX6_stroke_14 cv_X6_470 hS.k (ct_X6_doesSpare hS (by omega)) rfl rfl (Nat.le_of_ble_eq_true rfl) (by decide) ?_
      rintro _ _ ⟨rfl, rfl⟩
      refine Bd.eqI (x' := zI (sp t w = 1)) (zI_congr (by rw [hN.2.2.2.1 w hwn]; exact nI_eq (a := sp t w) (b := 1) (by omega) (by decide))) ?_
      first | refine r_if_eqZ (pc := 17) (tgt := 21) dX6_stroke_17 (by decide) (fun h17 => ?_) (fun h17 => ?_) | refine r_if_eqN (pc := 17) (tgt := 21) dX6_stroke_17 (by decide) (by omega) (fun h17 => ?_) (fun h17 => ?_) | refine r_if_eq (pc := 17) (tgt := 21) dX6_stroke_17 (by decide) (fun h17 => ?_) (fun h17 => ?_)
      · skip
        rw [if_neg h17]
        refine r_ald0 (pc := 21) dX6_stroke_21 ?_
        refine r_ild1 (pc := 22) dX6_stroke_22 ?_
        refine r_cV (pc := 23) dX6_stroke_23 cv_X6_423 hS.k (ct_X6_lookOf hS (by omega)) rfl rfl (Nat.le_of_ble_eq_true rfl) (by decide) ?_
        rintro _ _ ⟨rfl, rfl⟩
        refine Bd.eqI (hN.2.2.1 sit h1) ?_
        refine r_ist4 (pc := 26) dX6_stroke_26 ?_
        refine r_ald0 (pc := 28) dX6_stroke_28 ?_
        refine r_ild1 (pc := 29) dX6_stroke_29 ?_
        refine r_ild3 (pc := 30) dX6_stroke_30 ?_
        refine r_ild2 (pc := 31) dX6_stroke_31 ?_
        refine r_cV (pc := 32) dX6_stroke_32 cv_X6_473 hS.k (ct_X6_painted hS hT hTB hN hB h1 hwn hs2) rfl rfl (Nat.le_of_ble_eq_true rfl) (by decide) ?_
        rintro _ _ ⟨s1, rfl, rfl, hf1⟩
        refine r_ist5 (pc := 35) dX6_stroke_35 ?_
        refine r_ald0 (pc := 37) dX6_stroke_37 ?_
        refine m_getR hS (pc := 38) dX6_stroke_38 fl_X6_121 ar55 ?_
        refine r_iconst (v := nI 2) (pc := 41) dX6_stroke_41 (by decide) ?_
        refine r_iconst (v := nI 3) (pc := 42) dX6_stroke_42 (by decide) ?_
        refine r_ild1 (pc := 43) dX6_stroke_43 ?_
        first | refine r_imulN (pc := 44) dX6_stroke_44 ?_ | refine r_imulJ (pc := 44) dX6_stroke_44 ?_ | refine r_imul (pc := 44) dX6_stroke_44 ?_
        first | refine r_iaddN (pc := 45) dX6_stroke_45 ?_ | refine r_iaddJ (pc := 45) dX6_stroke_45 ?_ | refine r_iadd (pc := 45) dX6_stroke_45 ?_
        refine r_ild5 (pc := 46) dX6_stroke_46 ?_
        refine m_iast hS (pc := 48) dX6_stroke_48 ar55 (by omega) (by omega) ?_
        have hT2 : RT (tA s1 55 (2 + 3 * sit) (nI (paintS T t sit w side))) T := hT.fr (fs := cdF) (gs := []) (as := [55]) (bs := [107]) (Fr.tA (hf1.mono (by decide) (by decide) (by decide) (by decide)) (by decide)) (by decide) (by decide)
        have hN2 : RN (tA s1 55 (2 + 3 * sit) (nI (paintS T t sit w side))) (tn T) (sLk t sit (paintS T t sit w side)) := RN.setLk hn8 h1 (hN.fr hf1 (by decide))
        have hK2 : RK (tA s1 55 (2 + 3 * sit) (nI (paintS T t sit w side))) K := (hK.fr hf1 (by decide)).of (fun j hj => tA_ne (by omega))
        have hF2 : Fr yF [] [55] [107] s (tA s1 55 (2 + 3 * sit) (nI (paintS T t sit w side))) := Fr.tA (hf1.mono (by decide) (by decide) (by decide) (by decide)) (by decide)
        refine r_ild5 (pc := 49) dX6_stroke_49 ?_
        first | refine r_if_neZ (pc := 51) (tgt := 75) dX6_stroke_51 (by decide) (fun h51 => ?_) (fun h51 => ?_) | refine r_if_neN (pc := 51) (tgt := 75) dX6_stroke_51 (by decide) (by omega) (fun h51 => ?_) (fun h51 => ?_) | refine r_if_ne (pc := 51) (tgt := 75) dX6_stroke_51 (by decide) (fun h51 => ?_) (fun h51 => ?_)
        · skip
          rw [if_neg (fun q => h51 q.1)]
          refine strokeTail hS hT2 hTB hN2 hB1 h1 hwn hv99 hbs.2.1 (fun s5 hf5 => ⟨_, rfl, rfl, ?_⟩)
          refine ⟨RN.setTh hn8 h1 hwn (hN2.fr hf5 (by decide)), ?_, ?_, Fr.tA (hF2.trans (hf5.mono (by decide) (by decide) (by decide) (by decide))) (by decide)⟩
          · cases tb <;> exact (hK2.fr hf5 (by decide)).of (fun j hj => tA_ne (by omega))
          · show mF s5 65 = _; rw [hf5.1 65 (by decide)]; show mF s1 65 = mF s 65 + nI 0; rw [hf1.1 65 (by decide), nI_0, Int32.add_zero]
        · skip
          refine r_ild4 (pc := 54) dX6_stroke_54 ?_
          first | refine r_if_leN (pc := 56) (tgt := 75) dX6_stroke_56 (by decide) (by omega) (fun h56 => ?_) (fun h56 => ?_) | refine r_if_le (pc := 56) (tgt := 75) dX6_stroke_56 (by decide) (fun h56 => ?_) (fun h56 => ?_)
          · skip
            rw [if_neg (by omega)]
            refine strokeTail hS hT2 hTB hN2 hB1 h1 hwn hv99 hbs.2.1 (fun s5 hf5 => ⟨_, rfl, rfl, ?_⟩)
            refine ⟨RN.setTh hn8 h1 hwn (hN2.fr hf5 (by decide)), ?_, ?_, Fr.tA (hF2.trans (hf5.mono (by decide) (by decide) (by decide) (by decide))) (by decide)⟩
            · cases tb <;> exact (hK2.fr hf5 (by decide)).of (fun j hj => tA_ne (by omega))
            · show mF s5 65 = _; rw [hf5.1 65 (by decide)]; show mF s1 65 = mF s 65 + nI 0; rw [hf1.1 65 (by decide), nI_0, Int32.add_zero]
          · skip
            rw [if_pos ⟨by omega, by omega⟩]
            refine r_ald0 (pc := 59) dX6_stroke_59 ?_
            refine r_dup (pc := 60) dX6_stroke_60 rfl ?_
            refine m_getI hS (pc := 61) dX6_stroke_61 fl_X6_477 ?_
            refine r_iconst (v := nI 1) (pc := 64) dX6_stroke_64 (by decide) ?_
            first | refine r_iaddN (pc := 65) dX6_stroke_65 ?_ | refine r_iaddJ (pc := 65) dX6_stroke_65 ?_ | refine r_iadd (pc := 65) dX6_stroke_65 ?_
            refine m_putI hS (pc := 66) dX6_stroke_66 fl_X6_477 fw_X6_65 rfl rfl ?_
            refine r_ald0 (pc := 69) dX6_stroke_69 ?_
            refine r_ild1 (pc := 70) dX6_stroke_70 ?_
            refine r_ild3 (pc := 71) dX6_stroke_71 ?_
            refine r_cV (pc := 72) dX6_stroke_72 cv_X6_480 hS.k (ct_X6_isKept (tb := tb) (K := K) (y := yr t) hS ((hF2.1 64 (by decide)).trans htb) hN2.1 hK2) rfl rfl (Nat.le_of_ble_eq_true rfl) (by decide) ?_
            rintro _ _ ⟨s4, rfl, rfl, hj4, hK4, hf4⟩
            refine strokeTail hS (hT2.fr (fs := [65]) (as := [55]) (gs := []) (bs := []) (Fr.trans (Fr.tF Fr.rf (by decide)) (hf4.mono (by decide) (by decide) (by decide) (by decide))) (by decide) (by decide)) hTB (RN.low hn8 hN2 hj4) hB1 h1 hwn hv99 hbs.2.1 (fun s5 hf5 => ⟨_, rfl, rfl, ?_⟩)
            refine ⟨RN.setTh hn8 h1 hwn ((RN.low hn8 hN2 hj4).fr hf5 (by decide)), ?_, ?_, Fr.tA ((Fr.trans (Fr.tF hF2 (by decide)) (hf4.mono (by decide) (by decide) (by decide) (by decide))).trans (hf5.mono (by decide) (by decide) (by decide) (by decide))) (by decide)⟩
            · have hz : RK s4 (if tb = true then K else pushes K [(yr t, sit, w)]) := hK4
              exact (hz.fr hf5 (by decide)).of (fun j hj => tA_ne (by omega))
            · show mF s5 65 = _; rw [hf5.1 65 (by decide), hf4.1 65 (by decide)]; show mF s1 65 + nI 1 = mF s 65 + nI 1; rw [hf1.1 65 (by decide)]
      · skip
        rw [if_pos h17]
        refine r_vret (pc := 20) dX6_stroke_20 ?_
        exact ⟨s, rfl, rfl, YP.rf hN hK⟩
end M6
