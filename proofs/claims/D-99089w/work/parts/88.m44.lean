set_option maxRecDepth 100000
/-! THE MODEL: what a question's codes tell -/
section M44
variable {g : GC} {M : MM} {o : Nat} {s s' s1 s2 : MS} {M1 : MM} {T : Te} {t : St} {i : Nat}
theorem ct_X6_qPartOf3 {k : Nat} (hS : ShM g M o) (h54 : mF s 54 = nI 3) (hT : RT s T) (hTB : TB T) (hN : RN s (tn T) t) (hB : SB (tn T) t) (hi : i < tn T) (hk : alwQ 3 k = true) (hk2 : k < 11) : Ct g yX6_qPartOf cX6_qPartOf 3 (some Jvm.ClassFile.FieldType.long) 1 0 0 [.ref o, .int (nI k), .int (nI i)] (putM M o s) (PQ (putM M o s) (.long (lI (envA T t i k)))) noX := by
  have h8 := hTB.1
  have hfk := hTB.2.2.1 i hi
  have hyr := hB.1
  obtain ⟨b1, b2, b3, -⟩ := hB.2 i hi
  have hc : k = 0 ∨ k = 1 ∨ k = 3 ∨ k = 4 ∨ k = 8 ∨ k = 9 ∨ k = 10 := by
    unfold alwQ at hk; simp at hk; omega
  refine Ct.of (by decide) (Nat.le_of_ble_eq_true rfl) rfl ?_
  rcases hc with h | h | h | h | h | h | h <;> subst h
  · skip
    refine r_ild1 (pc := 0) dX6_qPartOf_0 ?_
    refine r_tableIn (pc := 1) (tgt := 56) (off := 55) dX6_qPartOf_1 (by decide) (by decide) rfl (by decide) ?_
    refine r_ald0 (pc := 56) dX6_qPartOf_56 ?_
    refine m_getI hS (pc := 57) dX6_qPartOf_57 fl_X6_295 ?_
    refine Bd.eqI h54 ?_
    refine r_iconst (v := nI 3) (pc := 60) dX6_qPartOf_60 (by decide) ?_
    first | refine r_icmp_neN (pc := 61) (tgt := 73) dX6_qPartOf_61 (by decide) (by omega) (by omega) (fun h61 => ?_) (fun h61 => ?_) | refine r_icmp_ne (pc := 61) (tgt := 73) dX6_qPartOf_61 (by decide) (fun h61 => ?_) (fun h61 => ?_)
    · skip
      exact absurd rfl h61
    · skip
      refine r_ald0 (pc := 64) dX6_qPartOf_64 ?_
      refine r_ild2 (pc := 65) dX6_qPartOf_65 ?_
      refine r_cV (pc := 66) dX6_qPartOf_66 cv_X6_426 hS.k (ct_X6_faceOf hS (by omega)) rfl rfl (Nat.le_of_ble_eq_true rfl) (by decide) ?_
      rintro _ _ ⟨rfl, rfl⟩
      refine Bd.eqI (hT.2.2.1 i hi) ?_
      first | refine r_i2lM (pc := 69) dX6_qPartOf_69 (by omega) ?_ | refine r_i2lI (pc := 69) dX6_qPartOf_69 (by constructor <;> omega) ?_ | refine r_i2lT (pc := 69) dX6_qPartOf_69 ?_
      refine r_goto (pc := 70) (tgt := 78) dX6_qPartOf_70 (by decide) ?_
      refine r_lret (pc := 78) dX6_qPartOf_78 ?_
      exact ⟨rfl, rfl⟩
  · skip
    refine r_ild1 (pc := 0) dX6_qPartOf_0 ?_
    refine r_tableIn (pc := 1) (tgt := 79) (off := 78) dX6_qPartOf_1 (by decide) (by decide) rfl (by decide) ?_
    refine r_ald0 (pc := 79) dX6_qPartOf_79 ?_
    refine m_getI hS (pc := 80) dX6_qPartOf_80 fl_X6_295 ?_
    refine Bd.eqI h54 ?_
    refine r_iconst (v := nI 3) (pc := 83) dX6_qPartOf_83 (by decide) ?_
    first | refine r_icmp_neN (pc := 84) (tgt := 96) dX6_qPartOf_84 (by decide) (by omega) (by omega) (fun h84 => ?_) (fun h84 => ?_) | refine r_icmp_ne (pc := 84) (tgt := 96) dX6_qPartOf_84 (by decide) (fun h84 => ?_) (fun h84 => ?_)
    · skip
      exact absurd rfl h84
    · skip
      refine r_ald0 (pc := 87) dX6_qPartOf_87 ?_
      refine r_ild2 (pc := 88) dX6_qPartOf_88 ?_
      refine r_cV (pc := 89) dX6_qPartOf_89 cv_X6_432 hS.k (ct_X6_kindOf hS (by omega)) rfl rfl (Nat.le_of_ble_eq_true rfl) (by decide) ?_
      rintro _ _ ⟨rfl, rfl⟩
      refine Bd.eqI (hT.2.2.2.1 i hi) ?_
      first | refine r_i2lM (pc := 92) dX6_qPartOf_92 (by omega) ?_ | refine r_i2lI (pc := 92) dX6_qPartOf_92 (by constructor <;> omega) ?_ | refine r_i2lT (pc := 92) dX6_qPartOf_92 ?_
      refine r_goto (pc := 93) (tgt := 101) dX6_qPartOf_93 (by decide) ?_
      refine r_lret (pc := 101) dX6_qPartOf_101 ?_
      exact ⟨rfl, rfl⟩
  · skip
    refine r_ild1 (pc := 0) dX6_qPartOf_0 ?_
    refine r_tableIn (pc := 1) (tgt := 108) (off := 107) dX6_qPartOf_1 (by decide) (by decide) rfl (by decide) ?_
    refine r_ald0 (pc := 108) dX6_qPartOf_108 ?_
    refine m_getR hS (pc := 109) dX6_qPartOf_109 fl_X6_121 ar55 ?_
    refine r_iconst (v := nI 0) (pc := 112) dX6_qPartOf_112 (by decide) ?_
    refine m_iald hS (pc := 113) dX6_qPartOf_113 ar55 (by omega) (by omega) ?_
    refine Bd.eqI hN.1 ?_
    first | refine r_i2lM (pc := 114) dX6_qPartOf_114 (by omega) ?_ | refine r_i2lI (pc := 114) dX6_qPartOf_114 (by constructor <;> omega) ?_ | refine r_i2lT (pc := 114) dX6_qPartOf_114 ?_
    refine r_lret (pc := 115) dX6_qPartOf_115 ?_
    exact ⟨rfl, rfl⟩
  · skip
    refine r_ild1 (pc := 0) dX6_qPartOf_0 ?_
    refine r_tableIn (pc := 1) (tgt := 116) (off := 115) dX6_qPartOf_1 (by decide) (by decide) rfl (by decide) ?_
    refine r_ald0 (pc := 116) dX6_qPartOf_116 ?_
    refine m_getI hS (pc := 117) dX6_qPartOf_117 fl_X6_295 ?_
    refine Bd.eqI h54 ?_
    refine r_iconst (v := nI 3) (pc := 120) dX6_qPartOf_120 (by decide) ?_
    first | refine r_icmp_neN (pc := 121) (tgt := 133) dX6_qPartOf_121 (by decide) (by omega) (by omega) (fun h121 => ?_) (fun h121 => ?_) | refine r_icmp_ne (pc := 121) (tgt := 133) dX6_qPartOf_121 (by decide) (fun h121 => ?_) (fun h121 => ?_)
    · skip
      exact absurd rfl h121
    · skip
      refine r_ald0 (pc := 124) dX6_qPartOf_124 ?_
      refine r_ild2 (pc := 125) dX6_qPartOf_125 ?_
      refine r_cV (pc := 126) dX6_qPartOf_126 cv_X6_423 hS.k (ct_X6_lookOf hS (by omega)) rfl rfl (Nat.le_of_ble_eq_true rfl) (by decide) ?_
      rintro _ _ ⟨rfl, rfl⟩
      refine Bd.eqI (hN.2.2.1 i hi) ?_
      first | refine r_i2lM (pc := 129) dX6_qPartOf_129 (by omega) ?_ | refine r_i2lI (pc := 129) dX6_qPartOf_129 (by constructor <;> omega) ?_ | refine r_i2lT (pc := 129) dX6_qPartOf_129 ?_
      refine r_goto (pc := 130) (tgt := 138) dX6_qPartOf_130 (by decide) ?_
      refine r_lret (pc := 138) dX6_qPartOf_138 ?_
      exact ⟨rfl, rfl⟩
  · skip
    refine r_ild1 (pc := 0) dX6_qPartOf_0 ?_
    refine r_tableIn (pc := 1) (tgt := 157) (off := 156) dX6_qPartOf_1 (by decide) (by decide) rfl (by decide) ?_
    refine r_ild2 (pc := 157) dX6_qPartOf_157 ?_
    first | refine r_i2lM (pc := 158) dX6_qPartOf_158 (by omega) ?_ | refine r_i2lI (pc := 158) dX6_qPartOf_158 (by constructor <;> omega) ?_ | refine r_i2lT (pc := 158) dX6_qPartOf_158 ?_
    refine r_lret (pc := 159) dX6_qPartOf_159 ?_
    exact ⟨rfl, rfl⟩
  · skip
    refine r_ild1 (pc := 0) dX6_qPartOf_0 ?_
    refine r_tableIn (pc := 1) (tgt := 160) (off := 159) dX6_qPartOf_1 (by decide) (by decide) rfl (by decide) ?_
    refine r_ald0 (pc := 160) dX6_qPartOf_160 ?_
    refine r_ild2 (pc := 161) dX6_qPartOf_161 ?_
    refine r_cV (pc := 162) dX6_qPartOf_162 cv_X6_402 hS.k (ct_X6_houseOf hS (by omega)) rfl rfl (Nat.le_of_ble_eq_true rfl) (by decide) ?_
    rintro _ _ ⟨rfl, rfl⟩
    refine Bd.eqI (hN.2.1 i hi) ?_
    first | refine r_i2lM (pc := 165) dX6_qPartOf_165 (by omega) ?_ | refine r_i2lI (pc := 165) dX6_qPartOf_165 (by constructor <;> omega) ?_ | refine r_i2lT (pc := 165) dX6_qPartOf_165 ?_
    refine r_lret (pc := 166) dX6_qPartOf_166 ?_
    exact ⟨rfl, rfl⟩
  · have hsp := hN.2.2.2.1 i hi
    rw [show envA T t i 10 = if sp t i = 1 then 1 else 0 from rfl]
    have hiff : mA s 55 (3 + 3 * i) = 1 ↔ sp t i = 1 := by
      rw [hsp]
      exact nI_eq (by omega) (by decide)
    refine r_ild1 (pc := 0) dX6_qPartOf_0 ?_
    refine r_tableOut (pc := 1) (tgt := 167) dX6_qPartOf_1 (by first | decide | assumption) (by decide) ?_
    refine r_ald0 (pc := 167) dX6_qPartOf_167 ?_
    refine r_ild2 (pc := 168) dX6_qPartOf_168 ?_
    refine r_cV (pc := 169) dX6_qPartOf_169 cv_X6_470 hS.k (ct_X6_doesSpare hS (by omega)) rfl rfl (Nat.le_of_ble_eq_true rfl) (by decide) ?_
    rintro _ _ ⟨rfl, rfl⟩
    first | refine r_if_eqZ (pc := 172) (tgt := 179) dX6_qPartOf_172 (by decide) (fun h172 => ?_) (fun h172 => ?_) | refine r_if_eqN (pc := 172) (tgt := 179) dX6_qPartOf_172 (by decide) (by omega) (fun h172 => ?_) (fun h172 => ?_) | refine r_if_eq (pc := 172) (tgt := 179) dX6_qPartOf_172 (by decide) (fun h172 => ?_) (fun h172 => ?_)
    · skip
      rw [if_neg (fun q => h172 (hiff.mpr q))]
      refine r_lconst (v := lI 0) (pc := 179) dX6_qPartOf_179 rfl ?_
      refine r_lret (pc := 180) dX6_qPartOf_180 ?_
      exact ⟨rfl, rfl⟩
    · skip
      rw [if_pos (hiff.mp h172)]
      refine r_lconst (v := lI 1) (pc := 175) dX6_qPartOf_175 rfl ?_
      refine r_goto (pc := 176) (tgt := 180) dX6_qPartOf_176 (by decide) ?_
      refine r_lret (pc := 180) dX6_qPartOf_180 ?_
      exact ⟨rfl, rfl⟩
theorem ct_X6_qOf {w : Nat} {v : Int} (hS : ShM g M o) (hn : mF s 40 = nI (tn T)) (h8 : tn T ≤ 8) (hN : RN s (tn T) t) (hB : SB (tn T) t) (hi : i < tn T) (hw : w ≤ 1) (hv : b6 v) : Ct g yX6_qOf cX6_qOf 5 (some Jvm.ClassFile.FieldType.long) 3 0 0 [.ref o, .int (nI w), .long (lI v), .int (nI i)] (putM M o s) (PQ (putM M o s) (.long (lI (ofnA T t i w v)))) noX := by
  obtain ⟨v1, v2⟩ := hv
  have hio : nI i = iI (i : Int) := nI_iI i
  have hot := ct_X6_isOther (p := (i : Int)) (v := v) hS hn h8 ⟨by omega, by omega⟩ ⟨by omega, by omega⟩
  rw [← hio] at hot
  refine Ct.of (by decide) (Nat.le_of_ble_eq_true rfl) rfl ?_
  unfold ofnA
  by_cases hc : (0 ≤ v ∧ v < (tn T : Int)) ∧ v ≠ (i : Int)
  · obtain ⟨m, rfl⟩ : ∃ m : Nat, v = (m : Int) := ⟨v.toNat, by omega⟩
    have hm : m < tn T := by omega
    rw [if_pos hc, Int.toNat_natCast]
    have ht1 := hN.2.2.2.2 i hi m hm
    have ht2 := hN.2.2.2.2 m hm i hi
    have hb1 := (hB.2 i hi).2.2.2 m hm
    have hb2 := (hB.2 m hm).2.2.2 i hi
    have hcw : w = 0 ∨ w = 1 := by omega
    rcases hcw with h | h <;> subst h
    · rw [if_pos rfl]
      refine r_ild1 (pc := 0) dX6_qOf_0 ?_
      refine r_lookup (pc := 1) (tgt := 20) (off := 19) dX6_qOf_1 (by decide) (by decide) (by decide) ?_
      · skip
        refine r_ald0 (pc := 20) dX6_qOf_20 ?_
        refine r_ild4 (pc := 21) dX6_qOf_21 ?_
        refine r_lld2 (pc := 23) dX6_qOf_23 ?_
        refine r_cV (pc := 24) dX6_qOf_24 cv_X6_398 hS.k hot rfl rfl (Nat.le_of_ble_eq_true rfl) (by decide) ?_
        rintro _ _ ⟨rfl, rfl⟩
        first | refine r_if_eqZ (pc := 27) (tgt := 42) dX6_qOf_27 (by decide) (fun h27 => ?_) (fun h27 => ?_) | refine r_if_eqN (pc := 27) (tgt := 42) dX6_qOf_27 (by decide) (by omega) (fun h27 => ?_) (fun h27 => ?_) | refine r_if_eq (pc := 27) (tgt := 42) dX6_qOf_27 (by decide) (fun h27 => ?_) (fun h27 => ?_)
        · skip
          exact absurd hc h27
        · skip
          refine r_ald0 (pc := 30) dX6_qOf_30 ?_
          refine r_ild4 (pc := 31) dX6_qOf_31 ?_
          refine r_lld2 (pc := 33) dX6_qOf_33 ?_
          first | refine r_l2iN (pc := 34) dX6_qOf_34 ?_ | refine r_l2iI (pc := 34) dX6_qOf_34 ?_ | refine r_l2i (pc := 34) dX6_qOf_34 ?_
          refine r_cV (pc := 35) dX6_qOf_35 cv_X6_438 hS.k (ct_X6_thoughtOf hS (by omega) (by omega)) rfl rfl (Nat.le_of_ble_eq_true rfl) (by decide) ?_
          rintro _ _ ⟨rfl, rfl⟩
          refine Bd.eqI ht1 ?_
          first | refine r_i2lM (pc := 38) dX6_qOf_38 (by omega) ?_ | refine r_i2lI (pc := 38) dX6_qOf_38 (by constructor <;> omega) ?_ | refine r_i2lT (pc := 38) dX6_qOf_38 ?_
          refine r_goto (pc := 39) (tgt := 43) dX6_qOf_39 (by decide) ?_
          refine r_lret (pc := 43) dX6_qOf_43 ?_
          exact ⟨rfl, rfl⟩
    · rw [if_neg (by decide)]
      refine r_ild1 (pc := 0) dX6_qOf_0 ?_
      refine r_lookup (pc := 1) (tgt := 44) (off := 43) dX6_qOf_1 (by decide) (by decide) (by decide) ?_
      · skip
        refine r_ald0 (pc := 44) dX6_qOf_44 ?_
        refine r_ild4 (pc := 45) dX6_qOf_45 ?_
        refine r_lld2 (pc := 47) dX6_qOf_47 ?_
        refine r_cV (pc := 48) dX6_qOf_48 cv_X6_398 hS.k hot rfl rfl (Nat.le_of_ble_eq_true rfl) (by decide) ?_
        rintro _ _ ⟨rfl, rfl⟩
        first | refine r_if_eqZ (pc := 51) (tgt := 66) dX6_qOf_51 (by decide) (fun h51 => ?_) (fun h51 => ?_) | refine r_if_eqN (pc := 51) (tgt := 66) dX6_qOf_51 (by decide) (by omega) (fun h51 => ?_) (fun h51 => ?_) | refine r_if_eq (pc := 51) (tgt := 66) dX6_qOf_51 (by decide) (fun h51 => ?_) (fun h51 => ?_)
        · skip
          exact absurd hc h51
        · skip
          refine r_ald0 (pc := 54) dX6_qOf_54 ?_
          refine r_lld2 (pc := 55) dX6_qOf_55 ?_
          first | refine r_l2iN (pc := 56) dX6_qOf_56 ?_ | refine r_l2iI (pc := 56) dX6_qOf_56 ?_ | refine r_l2i (pc := 56) dX6_qOf_56 ?_
          refine r_ild4 (pc := 57) dX6_qOf_57 ?_
          refine r_cV (pc := 59) dX6_qOf_59 cv_X6_438 hS.k (ct_X6_thoughtOf hS (by omega) (by omega)) rfl rfl (Nat.le_of_ble_eq_true rfl) (by decide) ?_
          rintro _ _ ⟨rfl, rfl⟩
          refine Bd.eqI ht2 ?_
          first | refine r_i2lM (pc := 62) dX6_qOf_62 (by omega) ?_ | refine r_i2lI (pc := 62) dX6_qOf_62 (by constructor <;> omega) ?_ | refine r_i2lT (pc := 62) dX6_qOf_62 ?_
          refine r_goto (pc := 63) (tgt := 67) dX6_qOf_63 (by decide) ?_
          refine r_lret (pc := 67) dX6_qOf_67 ?_
          exact ⟨rfl, rfl⟩
  · rw [if_neg hc]
    have hcw : w = 0 ∨ w = 1 := by omega
    rcases hcw with h | h <;> subst h
    · skip
      refine r_ild1 (pc := 0) dX6_qOf_0 ?_
      refine r_lookup (pc := 1) (tgt := 20) (off := 19) dX6_qOf_1 (by decide) (by decide) (by decide) ?_
      · skip
        refine r_ald0 (pc := 20) dX6_qOf_20 ?_
        refine r_ild4 (pc := 21) dX6_qOf_21 ?_
        refine r_lld2 (pc := 23) dX6_qOf_23 ?_
        refine r_cV (pc := 24) dX6_qOf_24 cv_X6_398 hS.k hot rfl rfl (Nat.le_of_ble_eq_true rfl) (by decide) ?_
        rintro _ _ ⟨rfl, rfl⟩
        first | refine r_if_eqZ (pc := 27) (tgt := 42) dX6_qOf_27 (by decide) (fun h27 => ?_) (fun h27 => ?_) | refine r_if_eqN (pc := 27) (tgt := 42) dX6_qOf_27 (by decide) (by omega) (fun h27 => ?_) (fun h27 => ?_) | refine r_if_eq (pc := 27) (tgt := 42) dX6_qOf_27 (by decide) (fun h27 => ?_) (fun h27 => ?_)
        · skip
          refine r_lconst (v := lI 0) (pc := 42) dX6_qOf_42 rfl ?_
          refine r_lret (pc := 43) dX6_qOf_43 ?_
          exact ⟨rfl, rfl⟩
        · skip
          exact absurd h27 hc
    · skip
      refine r_ild1 (pc := 0) dX6_qOf_0 ?_
      refine r_lookup (pc := 1) (tgt := 44) (off := 43) dX6_qOf_1 (by decide) (by decide) (by decide) ?_
      · skip
        refine r_ald0 (pc := 44) dX6_qOf_44 ?_
        refine r_ild4 (pc := 45) dX6_qOf_45 ?_
        refine r_lld2 (pc := 47) dX6_qOf_47 ?_
        refine r_cV (pc := 48) dX6_qOf_48 cv_X6_398 hS.k hot rfl rfl (Nat.le_of_ble_eq_true rfl) (by decide) ?_
        rintro _ _ ⟨rfl, rfl⟩
        first | refine r_if_eqZ (pc := 51) (tgt := 66) dX6_qOf_51 (by decide) (fun h51 => ?_) (fun h51 => ?_) | refine r_if_eqN (pc := 51) (tgt := 66) dX6_qOf_51 (by decide) (by omega) (fun h51 => ?_) (fun h51 => ?_) | refine r_if_eq (pc := 51) (tgt := 66) dX6_qOf_51 (by decide) (fun h51 => ?_) (fun h51 => ?_)
        · skip
          refine r_lconst (v := lI 0) (pc := 66) dX6_qOf_66 rfl ?_
          refine r_lret (pc := 67) dX6_qOf_67 ?_
          exact ⟨rfl, rfl⟩
        · skip
          exact absurd h51 hc
end M44
