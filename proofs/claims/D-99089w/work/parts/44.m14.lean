set_option maxRecDepth 100000
/-! THE MODEL: chance, feed -/
/-- a byte of an int by shift and mask -/
theorem byt_ok (w : Int32) {j : Nat} (hj : j < 4) : (w >>> (nI (8 * (3 - j)) &&& 31)) &&& nI 255 = nI (bytN w j) := by
  rw [pk_and _ 8 (by decide)]
  congr 1
  unfold bytN
  have h1 : ∀ x : Int32, x.toInt = if 2 * x.toBitVec.toNat < 4294967296 then (x.toBitVec.toNat : Int) else (x.toBitVec.toNat : Int) - 4294967296 := fun x => by
    rw [← Int32.toInt_toBitVec, BitVec.toInt_eq_toNat_cond]; rfl
  have hw := h1 w
  have hc : j = 0 ∨ j = 1 ∨ j = 2 ∨ j = 3 := by omega
  have hlt := w.toBitVec.isLt
  rcases hc with e | e | e | e <;> subst e
  · have h2 := pk_shr w (nI 24 &&& 31) 24 (by decide)
    rw [Int.shiftRight_eq_div_pow] at h2
    have h3 := h1 (w >>> (nI 24 &&& 31))
    have hlt2 := (w >>> (nI 24 &&& 31)).toBitVec.isLt
    simp only [Nat.reducePow, Nat.reduceMul, Nat.reduceSub] at *
    split at hw <;> split at h3 <;> omega
  · have h2 := pk_shr w (nI 16 &&& 31) 16 (by decide)
    rw [Int.shiftRight_eq_div_pow] at h2
    have h3 := h1 (w >>> (nI 16 &&& 31))
    have hlt2 := (w >>> (nI 16 &&& 31)).toBitVec.isLt
    simp only [Nat.reducePow, Nat.reduceMul, Nat.reduceSub] at *
    split at hw <;> split at h3 <;> omega
  · have h2 := pk_shr w (nI 8 &&& 31) 8 (by decide)
    rw [Int.shiftRight_eq_div_pow] at h2
    have h3 := h1 (w >>> (nI 8 &&& 31))
    have hlt2 := (w >>> (nI 8 &&& 31)).toBitVec.isLt
    simp only [Nat.reducePow, Nat.reduceMul, Nat.reduceSub] at *
    split at hw <;> split at h3 <;> omega
  · have h2 := pk_shr w (nI 0 &&& 31) 0 (by decide)
    rw [Int.shiftRight_eq_div_pow] at h2
    have h3 := h1 (w >>> (nI 0 &&& 31))
    have hlt2 := (w >>> (nI 0 &&& 31)).toBitVec.isLt
    simp only [Nat.reducePow, Nat.reduceMul, Nat.reduceSub] at *
    split at hw <;> split at h3 <;> omega
section M14
variable {g : GC} {M : MM} {o : Nat} {s : MS} {M1 : MM} {q : Sg} {T : Te} {t : St} {K : List Ev}
theorem feedLoop {a b c d e : Int32} {td : Nat} (hS : ShM g M o) (htd : td + 20 ≤ 1600) :
    ∀ (m k : Nat) (s1 : MS) (x7 : Option Value), k + m = 20 → mF s1 1 = nI (td + k) → (∀ j, mA s1 0 j = if td ≤ j ∧ j < td + k then nI (feedB a b c d e (j - td)) else mA s 0 j) → Fr [1] [] [0] [] s s1 → Bd g yX6_feed cX6_feed 8 (some Jvm.ClassFile.FieldType.int) [] 0 0 0 (putM M o s1) 28 [some (.ref o), some (.int a), some (.int b), some (.int c), some (.int d), some (.int e), some (.int (nI k)), x7] [] (QM M o (fun r s' => r = some (.int (nI (td + 20))) ∧ mF s' 1 = nI (td + 20) ∧ (∀ j, mA s' 0 j = if td ≤ j ∧ j < td + 20 then nI (feedB a b c d e (j - td)) else mA s 0 j) ∧ Fr [1] [] [0] [] s s')) noX := by
  intro m
  induction m with
  | zero =>
    intro k s1 x7 hk h1 hj hf
    have hk : k = 20 := hk
    subst hk
    refine r_ild6 (pc := 28) dX6_feed_28 ?_
    refine r_bipush (v := nI 20) (pc := 30) dX6_feed_30 (by decide) ?_
    first | refine r_icmp_geN (pc := 32) (tgt := 124) dX6_feed_32 (by decide) (by omega) (by omega) (fun h32 => ?_) (fun h32 => ?_) | refine r_icmp_ge (pc := 32) (tgt := 124) dX6_feed_32 (by decide) (fun h32 => ?_) (fun h32 => ?_)
    · skip
      refine r_ald0 (pc := 124) dX6_feed_124 ?_
      refine m_getI hS (pc := 125) dX6_feed_125 fl_X6_234 ?_
      refine Bd.eqI h1 ?_
      refine r_iret (pc := 128) dX6_feed_128 ?_
      exact ⟨s1, rfl, rfl, h1, hj, hf⟩
    · skip
      exact absurd h32 (by omega)
  | succ m ih =>
    intro k s1 x7 hk h1 hj hf
    have hfin : ∀ w : Int32, feedB a b c d e k = bytN w (k % 4) → Bd g yX6_feed cX6_feed 8 (some Jvm.ClassFile.FieldType.int) [] 0 0 0 (putM M o (tF (tA s1 0 (td + k) (nI (bytN w (k % 4)))) 1 (nI (td + k + 1)))) 28 [some (.ref o), some (.int a), some (.int b), some (.int c), some (.int d), some (.int e), some (.int (nI (k + 1))), some (.int w)] [] (QM M o (fun r s' => r = some (.int (nI (td + 20))) ∧ mF s' 1 = nI (td + 20) ∧ (∀ j, mA s' 0 j = if td ≤ j ∧ j < td + 20 then nI (feedB a b c d e (j - td)) else mA s 0 j) ∧ Fr [1] [] [0] [] s s')) noX := by
      intro w hw
      refine ih (k + 1) _ _ (by omega) rfl (fun j => ?_) (Fr.tF (Fr.tA hf (by decide)) (by decide))
      show mA (tA s1 0 (td + k) _) 0 j = _
      by_cases e1 : j = td + k
      · subst e1; rw [tA_eq, if_pos (by omega), show td + k - td = k by omega, hw]
      · rw [tA_ne e1, hj j]; by_cases e2 : td ≤ j ∧ j < td + k
        · rw [if_pos e2, if_pos (by omega)]
        · rw [if_neg e2, if_neg (by omega)]
    refine r_ild6 (pc := 28) dX6_feed_28 ?_
    refine r_bipush (v := nI 20) (pc := 30) dX6_feed_30 (by decide) ?_
    first | refine r_icmp_geN (pc := 32) (tgt := 124) dX6_feed_32 (by decide) (by omega) (by omega) (fun h32 => ?_) (fun h32 => ?_) | refine r_icmp_ge (pc := 32) (tgt := 124) dX6_feed_32 (by decide) (fun h32 => ?_) (fun h32 => ?_)
    · skip
      exact absurd h32 (by omega)
    · skip
      refine r_ild6 (pc := 35) dX6_feed_35 ?_
      refine r_iconst (v := nI 4) (pc := 37) dX6_feed_37 (by decide) ?_
      first | refine r_icmp_geN (pc := 38) (tgt := 45) dX6_feed_38 (by decide) (by omega) (by omega) (fun h38 => ?_) (fun h38 => ?_) | refine r_icmp_ge (pc := 38) (tgt := 45) dX6_feed_38 (by decide) (fun h38 => ?_) (fun h38 => ?_)
      · skip
        refine r_ild6 (pc := 45) dX6_feed_45 ?_
        refine r_bipush (v := nI 8) (pc := 47) dX6_feed_47 (by decide) ?_
        first | refine r_icmp_geN (pc := 49) (tgt := 56) dX6_feed_49 (by decide) (by omega) (by omega) (fun h49 => ?_) (fun h49 => ?_) | refine r_icmp_ge (pc := 49) (tgt := 56) dX6_feed_49 (by decide) (fun h49 => ?_) (fun h49 => ?_)
        · skip
          refine r_ild6 (pc := 56) dX6_feed_56 ?_
          refine r_bipush (v := nI 12) (pc := 58) dX6_feed_58 (by decide) ?_
          first | refine r_icmp_geN (pc := 60) (tgt := 67) dX6_feed_60 (by decide) (by omega) (by omega) (fun h60 => ?_) (fun h60 => ?_) | refine r_icmp_ge (pc := 60) (tgt := 67) dX6_feed_60 (by decide) (fun h60 => ?_) (fun h60 => ?_)
          · skip
            refine r_ild6 (pc := 67) dX6_feed_67 ?_
            refine r_bipush (v := nI 16) (pc := 69) dX6_feed_69 (by decide) ?_
            first | refine r_icmp_geN (pc := 71) (tgt := 79) dX6_feed_71 (by decide) (by omega) (by omega) (fun h71 => ?_) (fun h71 => ?_) | refine r_icmp_ge (pc := 71) (tgt := 79) dX6_feed_71 (by decide) (fun h71 => ?_) (fun h71 => ?_)
            · skip
              have hw : feedB a b c d e k = bytN e (k % 4) := by unfold feedB; rw [if_neg (by omega), if_neg (by omega), if_neg (by omega), if_neg (by omega)]
              refine r_ild5 (pc := 79) dX6_feed_79 ?_
              refine r_ist7 (pc := 81) dX6_feed_81 ?_
              refine r_ald0 (pc := 83) dX6_feed_83 ?_
              refine m_getR hS (pc := 84) dX6_feed_84 fl_X6_7 ar0 ?_
              refine r_ald0 (pc := 87) dX6_feed_87 ?_
              refine m_getI hS (pc := 88) dX6_feed_88 fl_X6_234 ?_
              refine Bd.eqI h1 ?_
              refine r_ild7 (pc := 91) dX6_feed_91 ?_
              refine r_bipush (v := nI 8) (pc := 93) dX6_feed_93 (by decide) ?_
              refine r_iconst (v := nI 3) (pc := 95) dX6_feed_95 (by decide) ?_
              refine r_ild6 (pc := 96) dX6_feed_96 ?_
              refine r_iconst (v := nI 4) (pc := 98) dX6_feed_98 (by decide) ?_
              first | refine r_iremN (pc := 99) dX6_feed_99 (by omega) (by omega) (by omega) ?_ | refine r_irem (pc := 99) dX6_feed_99 (by decide) ?_
              refine r_isubN (pc := 100) dX6_feed_100 (by omega) ?_
              first | refine r_imulN (pc := 101) dX6_feed_101 ?_ | refine r_imulJ (pc := 101) dX6_feed_101 ?_ | refine r_imul (pc := 101) dX6_feed_101 ?_
              refine r_ishr (pc := 102) dX6_feed_102 ?_
              refine r_sipush (v := nI 255) (pc := 103) dX6_feed_103 (by decide) ?_
              refine r_iand (pc := 106) dX6_feed_106 ?_
              refine Bd.eqI (byt_ok _ (Nat.mod_lt k (by decide))) ?_
              refine m_iast hS (pc := 107) dX6_feed_107 ar0 (by omega) (by omega) ?_
              refine r_ald0 (pc := 108) dX6_feed_108 ?_
              refine r_dup (pc := 109) dX6_feed_109 rfl ?_
              refine m_getI hS (pc := 110) dX6_feed_110 fl_X6_234 ?_
              refine Bd.eqI h1 ?_
              refine r_iconst (v := nI 1) (pc := 113) dX6_feed_113 (by decide) ?_
              first | refine r_iaddN (pc := 114) dX6_feed_114 ?_ | refine r_iaddJ (pc := 114) dX6_feed_114 ?_ | refine r_iadd (pc := 114) dX6_feed_114 ?_
              refine m_putI hS (pc := 115) dX6_feed_115 fl_X6_234 fw_X6_1 rfl rfl ?_
              first | refine r_iinc6N (j := 1) (pc := 118) dX6_feed_118 rfl ?_ | refine r_iinc6 (pc := 118) dX6_feed_118 ?_
              refine r_goto (pc := 121) (tgt := 28) dX6_feed_121 (by decide) ?_
              exact hfin _ hw
            · skip
              have hw : feedB a b c d e k = bytN d (k % 4) := by unfold feedB; rw [if_neg (by omega), if_neg (by omega), if_neg (by omega), if_pos (by omega)]
              refine r_ild4 (pc := 74) dX6_feed_74 ?_
              refine r_goto (pc := 76) (tgt := 81) dX6_feed_76 (by decide) ?_
              refine r_ist7 (pc := 81) dX6_feed_81 ?_
              refine r_ald0 (pc := 83) dX6_feed_83 ?_
              refine m_getR hS (pc := 84) dX6_feed_84 fl_X6_7 ar0 ?_
              refine r_ald0 (pc := 87) dX6_feed_87 ?_
              refine m_getI hS (pc := 88) dX6_feed_88 fl_X6_234 ?_
              refine Bd.eqI h1 ?_
              refine r_ild7 (pc := 91) dX6_feed_91 ?_
              refine r_bipush (v := nI 8) (pc := 93) dX6_feed_93 (by decide) ?_
              refine r_iconst (v := nI 3) (pc := 95) dX6_feed_95 (by decide) ?_
              refine r_ild6 (pc := 96) dX6_feed_96 ?_
              refine r_iconst (v := nI 4) (pc := 98) dX6_feed_98 (by decide) ?_
              first | refine r_iremN (pc := 99) dX6_feed_99 (by omega) (by omega) (by omega) ?_ | refine r_irem (pc := 99) dX6_feed_99 (by decide) ?_
              refine r_isubN (pc := 100) dX6_feed_100 (by omega) ?_
              first | refine r_imulN (pc := 101) dX6_feed_101 ?_ | refine r_imulJ (pc := 101) dX6_feed_101 ?_ | refine r_imul (pc := 101) dX6_feed_101 ?_
              refine r_ishr (pc := 102) dX6_feed_102 ?_
              refine r_sipush (v := nI 255) (pc := 103) dX6_feed_103 (by decide) ?_
              refine r_iand (pc := 106) dX6_feed_106 ?_
              refine Bd.eqI (byt_ok _ (Nat.mod_lt k (by decide))) ?_
              refine m_iast hS (pc := 107) dX6_feed_107 ar0 (by omega) (by omega) ?_
              refine r_ald0 (pc := 108) dX6_feed_108 ?_
              refine r_dup (pc := 109) dX6_feed_109 rfl ?_
              refine m_getI hS (pc := 110) dX6_feed_110 fl_X6_234 ?_
              refine Bd.eqI h1 ?_
              refine r_iconst (v := nI 1) (pc := 113) dX6_feed_113 (by decide) ?_
              first | refine r_iaddN (pc := 114) dX6_feed_114 ?_ | refine r_iaddJ (pc := 114) dX6_feed_114 ?_ | refine r_iadd (pc := 114) dX6_feed_114 ?_
              refine m_putI hS (pc := 115) dX6_feed_115 fl_X6_234 fw_X6_1 rfl rfl ?_
              first | refine r_iinc6N (j := 1) (pc := 118) dX6_feed_118 rfl ?_ | refine r_iinc6 (pc := 118) dX6_feed_118 ?_
              refine r_goto (pc := 121) (tgt := 28) dX6_feed_121 (by decide) ?_
              exact hfin _ hw
          · skip
            have hw : feedB a b c d e k = bytN c (k % 4) := by unfold feedB; rw [if_neg (by omega), if_neg (by omega), if_pos (by omega)]
            refine r_ild3 (pc := 63) dX6_feed_63 ?_
            refine r_goto (pc := 64) (tgt := 81) dX6_feed_64 (by decide) ?_
            refine r_ist7 (pc := 81) dX6_feed_81 ?_
            refine r_ald0 (pc := 83) dX6_feed_83 ?_
            refine m_getR hS (pc := 84) dX6_feed_84 fl_X6_7 ar0 ?_
            refine r_ald0 (pc := 87) dX6_feed_87 ?_
            refine m_getI hS (pc := 88) dX6_feed_88 fl_X6_234 ?_
            refine Bd.eqI h1 ?_
            refine r_ild7 (pc := 91) dX6_feed_91 ?_
            refine r_bipush (v := nI 8) (pc := 93) dX6_feed_93 (by decide) ?_
            refine r_iconst (v := nI 3) (pc := 95) dX6_feed_95 (by decide) ?_
            refine r_ild6 (pc := 96) dX6_feed_96 ?_
            refine r_iconst (v := nI 4) (pc := 98) dX6_feed_98 (by decide) ?_
            first | refine r_iremN (pc := 99) dX6_feed_99 (by omega) (by omega) (by omega) ?_ | refine r_irem (pc := 99) dX6_feed_99 (by decide) ?_
            refine r_isubN (pc := 100) dX6_feed_100 (by omega) ?_
            first | refine r_imulN (pc := 101) dX6_feed_101 ?_ | refine r_imulJ (pc := 101) dX6_feed_101 ?_ | refine r_imul (pc := 101) dX6_feed_101 ?_
            refine r_ishr (pc := 102) dX6_feed_102 ?_
            refine r_sipush (v := nI 255) (pc := 103) dX6_feed_103 (by decide) ?_
            refine r_iand (pc := 106) dX6_feed_106 ?_
            refine Bd.eqI (byt_ok _ (Nat.mod_lt k (by decide))) ?_
            refine m_iast hS (pc := 107) dX6_feed_107 ar0 (by omega) (by omega) ?_
            refine r_ald0 (pc := 108) dX6_feed_108 ?_
            refine r_dup (pc := 109) dX6_feed_109 rfl ?_
            refine m_getI hS (pc := 110) dX6_feed_110 fl_X6_234 ?_
            refine Bd.eqI h1 ?_
            refine r_iconst (v := nI 1) (pc := 113) dX6_feed_113 (by decide) ?_
            first | refine r_iaddN (pc := 114) dX6_feed_114 ?_ | refine r_iaddJ (pc := 114) dX6_feed_114 ?_ | refine r_iadd (pc := 114) dX6_feed_114 ?_
            refine m_putI hS (pc := 115) dX6_feed_115 fl_X6_234 fw_X6_1 rfl rfl ?_
            first | refine r_iinc6N (j := 1) (pc := 118) dX6_feed_118 rfl ?_ | refine r_iinc6 (pc := 118) dX6_feed_118 ?_
            refine r_goto (pc := 121) (tgt := 28) dX6_feed_121 (by decide) ?_
            exact hfin _ hw
        · skip
          have hw : feedB a b c d e k = bytN b (k % 4) := by unfold feedB; rw [if_neg (by omega), if_pos (by omega)]
          refine r_ild2 (pc := 52) dX6_feed_52 ?_
          refine r_goto (pc := 53) (tgt := 81) dX6_feed_53 (by decide) ?_
          refine r_ist7 (pc := 81) dX6_feed_81 ?_
          refine r_ald0 (pc := 83) dX6_feed_83 ?_
          refine m_getR hS (pc := 84) dX6_feed_84 fl_X6_7 ar0 ?_
          refine r_ald0 (pc := 87) dX6_feed_87 ?_
          refine m_getI hS (pc := 88) dX6_feed_88 fl_X6_234 ?_
          refine Bd.eqI h1 ?_
          refine r_ild7 (pc := 91) dX6_feed_91 ?_
          refine r_bipush (v := nI 8) (pc := 93) dX6_feed_93 (by decide) ?_
          refine r_iconst (v := nI 3) (pc := 95) dX6_feed_95 (by decide) ?_
          refine r_ild6 (pc := 96) dX6_feed_96 ?_
          refine r_iconst (v := nI 4) (pc := 98) dX6_feed_98 (by decide) ?_
          first | refine r_iremN (pc := 99) dX6_feed_99 (by omega) (by omega) (by omega) ?_ | refine r_irem (pc := 99) dX6_feed_99 (by decide) ?_
          refine r_isubN (pc := 100) dX6_feed_100 (by omega) ?_
          first | refine r_imulN (pc := 101) dX6_feed_101 ?_ | refine r_imulJ (pc := 101) dX6_feed_101 ?_ | refine r_imul (pc := 101) dX6_feed_101 ?_
          refine r_ishr (pc := 102) dX6_feed_102 ?_
          refine r_sipush (v := nI 255) (pc := 103) dX6_feed_103 (by decide) ?_
          refine r_iand (pc := 106) dX6_feed_106 ?_
          refine Bd.eqI (byt_ok _ (Nat.mod_lt k (by decide))) ?_
          refine m_iast hS (pc := 107) dX6_feed_107 ar0 (by omega) (by omega) ?_
          refine r_ald0 (pc := 108) dX6_feed_108 ?_
          refine r_dup (pc := 109) dX6_feed_109 rfl ?_
          refine m_getI hS (pc := 110) dX6_feed_110 fl_X6_234 ?_
          refine Bd.eqI h1 ?_
          refine r_iconst (v := nI 1) (pc := 113) dX6_feed_113 (by decide) ?_
          first | refine r_iaddN (pc := 114) dX6_feed_114 ?_ | refine r_iaddJ (pc := 114) dX6_feed_114 ?_ | refine r_iadd (pc := 114) dX6_feed_114 ?_
          refine m_putI hS (pc := 115) dX6_feed_115 fl_X6_234 fw_X6_1 rfl rfl ?_
          first | refine r_iinc6N (j := 1) (pc := 118) dX6_feed_118 rfl ?_ | refine r_iinc6 (pc := 118) dX6_feed_118 ?_
          refine r_goto (pc := 121) (tgt := 28) dX6_feed_121 (by decide) ?_
          exact hfin _ hw
      · skip
        have hw : feedB a b c d e k = bytN a (k % 4) := by unfold feedB; rw [if_pos (by omega)]
        refine r_ild1 (pc := 41) dX6_feed_41 ?_
        refine r_goto (pc := 42) (tgt := 81) dX6_feed_42 (by decide) ?_
        refine r_ist7 (pc := 81) dX6_feed_81 ?_
        refine r_ald0 (pc := 83) dX6_feed_83 ?_
        refine m_getR hS (pc := 84) dX6_feed_84 fl_X6_7 ar0 ?_
        refine r_ald0 (pc := 87) dX6_feed_87 ?_
        refine m_getI hS (pc := 88) dX6_feed_88 fl_X6_234 ?_
        refine Bd.eqI h1 ?_
        refine r_ild7 (pc := 91) dX6_feed_91 ?_
        refine r_bipush (v := nI 8) (pc := 93) dX6_feed_93 (by decide) ?_
        refine r_iconst (v := nI 3) (pc := 95) dX6_feed_95 (by decide) ?_
        refine r_ild6 (pc := 96) dX6_feed_96 ?_
        refine r_iconst (v := nI 4) (pc := 98) dX6_feed_98 (by decide) ?_
        first | refine r_iremN (pc := 99) dX6_feed_99 (by omega) (by omega) (by omega) ?_ | refine r_irem (pc := 99) dX6_feed_99 (by decide) ?_
        refine r_isubN (pc := 100) dX6_feed_100 (by omega) ?_
        first | refine r_imulN (pc := 101) dX6_feed_101 ?_ | refine r_imulJ (pc := 101) dX6_feed_101 ?_ | refine r_imul (pc := 101) dX6_feed_101 ?_
        refine r_ishr (pc := 102) dX6_feed_102 ?_
        refine r_sipush (v := nI 255) (pc := 103) dX6_feed_103 (by decide) ?_
        refine r_iand (pc := 106) dX6_feed_106 ?_
        refine Bd.eqI (byt_ok _ (Nat.mod_lt k (by decide))) ?_
        refine m_iast hS (pc := 107) dX6_feed_107 ar0 (by omega) (by omega) ?_
        refine r_ald0 (pc := 108) dX6_feed_108 ?_
        refine r_dup (pc := 109) dX6_feed_109 rfl ?_
        refine m_getI hS (pc := 110) dX6_feed_110 fl_X6_234 ?_
        refine Bd.eqI h1 ?_
        refine r_iconst (v := nI 1) (pc := 113) dX6_feed_113 (by decide) ?_
        first | refine r_iaddN (pc := 114) dX6_feed_114 ?_ | refine r_iaddJ (pc := 114) dX6_feed_114 ?_ | refine r_iadd (pc := 114) dX6_feed_114 ?_
        refine m_putI hS (pc := 115) dX6_feed_115 fl_X6_234 fw_X6_1 rfl rfl ?_
        first | refine r_iinc6N (j := 1) (pc := 118) dX6_feed_118 rfl ?_ | refine r_iinc6 (pc := 118) dX6_feed_118 ?_
        refine r_goto (pc := 121) (tgt := 28) dX6_feed_121 (by decide) ?_
        exact hfin _ hw
theorem pm_feed {a b c d e : Int32} (hS : ShM g M o) (hI : IM s q) (hG : GI q) : Ct g yX6_feed cX6_feed 8 (some Jvm.ClassFile.FieldType.int) 0 0 0 [.ref o, .int a, .int b, .int c, .int d, .int e] (putM M o s) (PM M o (feedS q a b c d e).2 (.int (feedS q a b c d e).1)) noX := by
  have hd : gTd q ≤ 1600 := hG.1
  refine Ct.of (by decide) (Nat.le_of_ble_eq_true rfl) rfl ?_
  unfold feedS
  refine r_ald0 (pc := 0) dX6_feed_0 ?_
  refine m_getI hS (pc := 1) dX6_feed_1 fl_X6_234 ?_
  refine Bd.eqI hI.1.1 ?_
  refine r_bipush (v := nI 20) (pc := 4) dX6_feed_4 (by decide) ?_
  first | refine r_iaddN (pc := 6) dX6_feed_6 ?_ | refine r_iaddJ (pc := 6) dX6_feed_6 ?_ | refine r_iadd (pc := 6) dX6_feed_6 ?_
  refine r_sipush (v := nI 1600) (pc := 7) dX6_feed_7 (by decide) ?_
  first | refine r_icmp_leN (pc := 10) (tgt := 25) dX6_feed_10 (by decide) (by omega) (by omega) (fun h10 => ?_) (fun h10 => ?_) | refine r_icmp_le (pc := 10) (tgt := 25) dX6_feed_10 (by decide) (fun h10 => ?_) (fun h10 => ?_)
  · skip
    rw [if_neg (by omega)]
    refine r_iconst (v := nI 0) (pc := 25) dX6_feed_25 (by decide) ?_
    refine r_ist6 (pc := 26) dX6_feed_26 ?_
    refine Bd.post ?_ (fun _ _ h => h) (feedLoop (s := s) (td := gTd q) hS (by omega) 20 0 s none (by omega) hI.1.1 (fun j => by rw [if_neg (by omega)]) Fr.rf)
    rintro r M' ⟨s', rfl, rfl, h1, hj, hf⟩
    obtain ⟨a1, a2, a3, a4, a5, a6, a7, a8, a9, a10⟩ := hI
    refine ⟨s', rfl, rfl, ⟨h1, fun j hj' => ?_⟩, a2.fr hf (by decide), a3.fr hf (by decide), a4.fr hf (by decide) (by decide) (by decide), a5.fr hf (by decide), a6.fr hf (by decide), a7.fr hf (by decide), a8.fr hf (by decide), a9.fr hf (by decide), a10.fr hf (by decide)⟩
    rw [hj]
    show _ = nI (if gTd q ≤ j ∧ j < gTd q + 20 then feedB a b c d e (j - gTd q) else gTp q j)
    by_cases e2 : gTd q ≤ j ∧ j < gTd q + 20
    · rw [if_pos e2, if_pos e2]
    · rw [if_neg e2, if_neg e2]; exact a1.2 j hj'
  · skip
    rw [if_pos (by omega)]
    refine r_ald0 (pc := 13) dX6_feed_13 ?_
    refine m_getR hS (pc := 14) dX6_feed_14 fl_X6_17 ar9 ?_
    refine r_iconst (v := nI 0) (pc := 17) dX6_feed_17 (by decide) ?_
    refine r_dup2 (pc := 18) dX6_feed_18 rfl rfl ?_
    refine m_iald hS (pc := 19) dX6_feed_19 ar9 (by omega) (by omega) ?_
    refine Bd.eqI (hI.2.2.1 0 (by decide)) ?_
    refine r_iconst (v := nI 1) (pc := 20) dX6_feed_20 (by decide) ?_
    first | refine r_iaddN (pc := 21) dX6_feed_21 ?_ | refine r_iaddJ (pc := 21) dX6_feed_21 ?_ | refine r_iadd (pc := 21) dX6_feed_21 ?_
    refine m_iast hS (pc := 22) dX6_feed_22 ar9 (by omega) (by omega) ?_
    refine r_iconst (v := -1) (pc := 23) dX6_feed_23 (by decide) ?_
    refine r_iret (pc := 24) dX6_feed_24 ?_
    exact ⟨_, rfl, rfl, hI.ref (by decide) rfl⟩
/-- what chance has done so far -/
def CP (T : Te) (s : MS) (x : St × List Ev × Nat × Nat) (s' : MS) : Prop := RN s' (tn T) x.1 ∧ RK s' x.2.1 ∧ mG s' 75 = lI x.2.2.1 ∧ mF s' 64 = zI (false = true) ∧ Fr yF [75] [55] [107] s s'
theorem lcg_lt (d : Nat) : lcg d < 2147483648 := Nat.mod_lt _ (by decide)
theorem slipS_1 {x : St × List Ev × Nat × Nat} (h : lcg x.2.2.1 / 64 % 100 < sl T ∧ 0 < tn T) : slipS T x = ((yearS T (sLk x.1 (lcg (lcg x.2.2.1) / 64 % tn T) (lcg (lcg (lcg x.2.2.1)) / 64 % 100))).1, pushes x.2.1 (yearS T (sLk x.1 (lcg (lcg x.2.2.1) / 64 % tn T) (lcg (lcg (lcg x.2.2.1)) / 64 % 100))).2, lcg (lcg (lcg x.2.2.1)), x.2.2.2 + 1) := if_pos h
theorem slipS_0 {x : St × List Ev × Nat × Nat} (h : ¬ (lcg x.2.2.1 / 64 % 100 < sl T ∧ 0 < tn T)) : slipS T x = ((yearS T x.1).1, pushes x.2.1 (yearS T x.1).2, lcg x.2.2.1, x.2.2.2) := if_neg h
theorem sLk_SB {n p v : Nat} (h : SB n t) (hv : v ≤ 99) : SB n (sLk t p v) := ⟨h.1, fun r hr => ⟨(h.2 r hr).1, by
  show va_up (lk t) p v r ≤ 99
  unfold va_up; split
  · exact hv
  · exact (h.2 r hr).2.1, (h.2 r hr).2.2.1, (h.2 r hr).2.2.2⟩⟩
theorem slipLoop {res : St × List Ev × Nat × Nat} {m : Nat} (hS : ShM g M o) (hT : RT s T) (hTB : TB T) (hm : m ≤ 1000) :
    ∀ (k i : Nat) (s1 : MS) (x : St × List Ev × Nat × Nat) (x4 : Option Value), i + k = m → CP T s x s1 → SB (tn T) x.1 → x.2.2.1 < 2147483648 → yr x.1 + k ≤ 2000 → slipsS T k x = res → Bd g yX6_chance cX6_chance 5 (some Jvm.ClassFile.FieldType.int) [] 6 0 0 (putM M o s1) 32 [some (.ref o), some (.int (nI m)), some (.int (nI x.2.2.2)), some (.int (nI i)), x4] [] (QM M o (fun r s' => r = some (.int (nI res.2.2.2)) ∧ CP T s res s')) noX := by
  have hn8 := hTB.1
  have hsl := hTB.2.2.2.2
  intro k
  induction k with
  | zero =>
    intro i s1 x x4 hi hC hB hsd hy hr
    have hr : x = res := hr
    subst hr
    refine r_ild3 (pc := 32) dX6_chance_32 ?_
    refine r_ild1 (pc := 33) dX6_chance_33 ?_
    first | refine r_icmp_geN (pc := 34) (tgt := 97) dX6_chance_34 (by decide) (by omega) (by omega) (fun h34 => ?_) (fun h34 => ?_) | refine r_icmp_ge (pc := 34) (tgt := 97) dX6_chance_34 (by decide) (fun h34 => ?_) (fun h34 => ?_)
    · skip
      refine r_ild2 (pc := 97) dX6_chance_97 ?_
      refine r_iret (pc := 98) dX6_chance_98 ?_
      exact ⟨s1, rfl, rfl, hC⟩
    · skip
      exact absurd h34 (by omega)
  | succ k ih =>
    intro i s1 x x4 hi hC hB hsd hy hr
    have hr : slipsS T k (slipS T x) = res := hr
    have hf1 : Fr yF [75] [55] [107] s (tG s1 75 (lI (lcg x.2.2.1))) := Fr.tG hC.2.2.2.2 (by decide)
    have hT1 : RT (tG s1 75 (lI (lcg x.2.2.1))) T := hT.fr hf1 (by decide) (by decide)
    have hno : ¬ (lcg x.2.2.1 / 64 % 100 < sl T ∧ 0 < tn T) → ∀ x4', Bd g yX6_chance cX6_chance 5 (some Jvm.ClassFile.FieldType.int) [] 6 0 0 (putM M o (tG s1 75 (lI (lcg x.2.2.1)))) 87 [some (.ref o), some (.int (nI m)), some (.int (nI x.2.2.2)), some (.int (nI i)), x4'] [] (QM M o (fun r s' => r = some (.int (nI res.2.2.2)) ∧ CP T s res s')) noX := by
      intro hc x4'
      rw [slipS_0 hc] at hr
      refine r_ald0 (pc := 87) dX6_chance_87 ?_
      refine r_cV (pc := 88) dX6_chance_88 cv_X6_489 hS.k (ct_X6_yearGoes (T := T) (t := x.1) (K := x.2.1) (tb := false) hS hT1 hTB hC.1 hB hC.2.1 hC.2.2.2.1) rfl rfl (Nat.le_of_ble_eq_true rfl) (by decide) ?_
      rintro _ _ ⟨s2, rfl, rfl, hY⟩
      first | refine r_iinc3N (j := 1) (pc := 91) dX6_chance_91 rfl ?_ | refine r_iinc3 (pc := 91) dX6_chance_91 ?_
      refine r_goto (pc := 94) (tgt := 32) dX6_chance_94 (by decide) ?_
      exact ih (i + 1) s2 ((yearS T x.1).1, pushes x.2.1 (yearS T x.1).2, lcg x.2.2.1, x.2.2.2) x4' (by omega) ⟨hY.1, hY.2.1, hY.2.2.2.2.1 75 (by decide), (hY.2.2.2.1 64 (by decide)).trans hC.2.2.2.1, hf1.trans (hY.2.2.2.mono (by decide) (by decide) (by decide) (by decide))⟩ (yearS_SB hB (by omega)) (lcg_lt _) (by show yr (yearS T x.1).1 + k ≤ 2000; rw [yearS_yr]; omega) hr
    refine r_ild3 (pc := 32) dX6_chance_32 ?_
    refine r_ild1 (pc := 33) dX6_chance_33 ?_
    first | refine r_icmp_geN (pc := 34) (tgt := 97) dX6_chance_34 (by decide) (by omega) (by omega) (fun h34 => ?_) (fun h34 => ?_) | refine r_icmp_ge (pc := 34) (tgt := 97) dX6_chance_34 (by decide) (fun h34 => ?_) (fun h34 => ?_)
    · skip
      exact absurd h34 (by omega)
    · skip
      refine r_ald0 (pc := 37) dX6_chance_37 ?_
      refine r_bipush (v := nI 100) (pc := 38) dX6_chance_38 (by decide) ?_
      refine r_cV (pc := 40) dX6_chance_40 cv_X6_596 hS.k (ct_X6_drawOf hS hC.2.2.1 hsd (by decide)) rfl rfl (Nat.le_of_ble_eq_true rfl) (by decide) ?_
      rintro _ _ ⟨rfl, rfl⟩
      refine r_ald0 (pc := 43) dX6_chance_43 ?_
      refine m_getI hS (pc := 44) dX6_chance_44 fl_X6_385 ?_
      refine Bd.eqI hT1.2.2.2.2.2.2.2 ?_
      first | refine r_icmp_geN (pc := 47) (tgt := 87) dX6_chance_47 (by decide) (by omega) (by omega) (fun h47 => ?_) (fun h47 => ?_) | refine r_icmp_ge (pc := 47) (tgt := 87) dX6_chance_47 (by decide) (fun h47 => ?_) (fun h47 => ?_)
      · skip
        exact hno (fun h => absurd h.1 (by omega)) x4
        skip
      · skip
        refine r_ald0 (pc := 50) dX6_chance_50 ?_
        refine m_getI hS (pc := 51) dX6_chance_51 fl_X6_382 ?_
        refine Bd.eqI hT1.2.1 ?_
        first | refine r_if_leN (pc := 54) (tgt := 87) dX6_chance_54 (by decide) (by omega) (fun h54 => ?_) (fun h54 => ?_) | refine r_if_le (pc := 54) (tgt := 87) dX6_chance_54 (by decide) (fun h54 => ?_) (fun h54 => ?_)
        · skip
          exact hno (fun h => absurd h.2 (by omega)) x4
          skip
        · skip
          have hmod : lcg (lcg x.2.2.1) / 64 % tn T < tn T := Nat.mod_lt _ (by omega)
          have hmod2 : lcg (lcg (lcg x.2.2.1)) / 64 % 100 < 100 := Nat.mod_lt _ (by omega)
          rw [slipS_1 ⟨by omega, by omega⟩] at hr
          refine r_ald0 (pc := 57) dX6_chance_57 ?_
          refine r_ald0 (pc := 58) dX6_chance_58 ?_
          refine m_getI hS (pc := 59) dX6_chance_59 fl_X6_382 ?_
          refine Bd.eqI hT1.2.1 ?_
          refine r_cV (pc := 62) dX6_chance_62 cv_X6_596 hS.k (ct_X6_drawOf (d := lcg x.2.2.1) hS rfl (lcg_lt _) ⟨by omega, by omega⟩) rfl rfl (Nat.le_of_ble_eq_true rfl) (by decide) ?_
          rintro _ _ ⟨rfl, rfl⟩
          refine r_ist4 (pc := 65) dX6_chance_65 ?_
          refine r_ald0 (pc := 67) dX6_chance_67 ?_
          refine m_getR hS (pc := 68) dX6_chance_68 fl_X6_121 ar55 ?_
          refine r_iconst (v := nI 2) (pc := 71) dX6_chance_71 (by decide) ?_
          refine r_iconst (v := nI 3) (pc := 72) dX6_chance_72 (by decide) ?_
          refine r_ild4 (pc := 73) dX6_chance_73 ?_
          first | refine r_imulN (pc := 75) dX6_chance_75 ?_ | refine r_imulJ (pc := 75) dX6_chance_75 ?_ | refine r_imul (pc := 75) dX6_chance_75 ?_
          first | refine r_iaddN (pc := 76) dX6_chance_76 ?_ | refine r_iaddJ (pc := 76) dX6_chance_76 ?_ | refine r_iadd (pc := 76) dX6_chance_76 ?_
          refine r_ald0 (pc := 77) dX6_chance_77 ?_
          refine r_bipush (v := nI 100) (pc := 78) dX6_chance_78 (by decide) ?_
          refine r_cV (pc := 80) dX6_chance_80 cv_X6_596 hS.k (ct_X6_drawOf (d := lcg (lcg x.2.2.1)) hS rfl (lcg_lt _) (by decide)) rfl rfl (Nat.le_of_ble_eq_true rfl) (by decide) ?_
          rintro _ _ ⟨rfl, rfl⟩
          refine m_iast hS (pc := 83) dX6_chance_83 ar55 (by omega) (by omega) ?_
          first | refine r_iinc2N (j := 1) (pc := 84) dX6_chance_84 rfl ?_ | refine r_iinc2 (pc := 84) dX6_chance_84 ?_
          have hN3 : RN (tA (tG (tG (tG s1 75 (lI (lcg x.2.2.1))) 75 (lI (lcg (lcg x.2.2.1)))) 75 (lI (lcg (lcg (lcg x.2.2.1))))) 55 (2 + 3 * (lcg (lcg x.2.2.1) / 64 % tn T)) (nI (lcg (lcg (lcg x.2.2.1)) / 64 % 100))) (tn T) (sLk x.1 (lcg (lcg x.2.2.1) / 64 % tn T) (lcg (lcg (lcg x.2.2.1)) / 64 % 100)) := RN.setLk hn8 hmod hC.1
          have hf3 : Fr yF [75] [55] [107] s (tA (tG (tG (tG s1 75 (lI (lcg x.2.2.1))) 75 (lI (lcg (lcg x.2.2.1)))) 75 (lI (lcg (lcg (lcg x.2.2.1))))) 55 (2 + 3 * (lcg (lcg x.2.2.1) / 64 % tn T)) (nI (lcg (lcg (lcg x.2.2.1)) / 64 % 100))) := Fr.tA (Fr.tG (Fr.tG hf1 (by decide)) (by decide)) (by decide)
          have hB3 : SB (tn T) (sLk x.1 (lcg (lcg x.2.2.1) / 64 % tn T) (lcg (lcg (lcg x.2.2.1)) / 64 % 100)) := sLk_SB hB (by omega)
          refine r_ald0 (pc := 87) dX6_chance_87 ?_
          refine r_cV (pc := 88) dX6_chance_88 cv_X6_489 hS.k (ct_X6_yearGoes (T := T) (t := sLk x.1 (lcg (lcg x.2.2.1) / 64 % tn T) (lcg (lcg (lcg x.2.2.1)) / 64 % 100)) (K := x.2.1) (tb := false) hS (hT.fr hf3 (by decide) (by decide)) hTB hN3 hB3 (hC.2.1.of (fun j hj => tA_ne (by omega))) hC.2.2.2.1) rfl rfl (Nat.le_of_ble_eq_true rfl) (by decide) ?_
          rintro _ _ ⟨s2, rfl, rfl, hY⟩
          refine r_iinc3N (j := 1) (pc := 91) dX6_chance_91 rfl ?_
          refine r_goto (pc := 94) (tgt := 32) dX6_chance_94 (by decide) ?_
          exact ih (i + 1) s2 ((yearS T (sLk x.1 (lcg (lcg x.2.2.1) / 64 % tn T) (lcg (lcg (lcg x.2.2.1)) / 64 % 100))).1, pushes x.2.1 (yearS T (sLk x.1 (lcg (lcg x.2.2.1) / 64 % tn T) (lcg (lcg (lcg x.2.2.1)) / 64 % 100))).2, lcg (lcg (lcg x.2.2.1)), x.2.2.2 + 1) _ (by omega) ⟨hY.1, hY.2.1, hY.2.2.2.2.1 75 (by decide), (hY.2.2.2.1 64 (by decide)).trans hC.2.2.2.1, hf3.trans (hY.2.2.2.mono (by decide) (by decide) (by decide) (by decide))⟩ (yearS_SB hB3 (by show yr x.1 < 2000; omega)) (lcg_lt _) (by show yr (yearS T _).1 + k ≤ 2000; rw [yearS_yr]; show yr x.1 + 1 + k ≤ 2000; omega) hr
theorem pm_chance {x : Int32} (hS : ShM g M o) (hI : IM s q) (hG : GI q) : Ct g yX6_chance cX6_chance 5 (some Jvm.ClassFile.FieldType.int) 6 0 0 [.ref o, .int x] (putM M o s) (PM M o (chanceQ q x).2 (.int (chanceQ q x).1)) noX := by
  have hT := hI.2.2.2.1.1
  have hTB := hG.2.2.1
  have hN := hI.2.2.2.2.1.1
  have hB : SB (tn (gT q)) (gS q) := hG.2.2.2.2.2.1.1
  have hy : yr (gS q) ≤ 999 := hG.2.2.2.2.2.1.2.1
  have hi := hI.2.2.2.1.2.1
  have hsd : gSd q < 2147483648 := hG.2.2.2.2.2.2.2.2.2.2.1
  refine Ct.of (by decide) (Nat.le_of_ble_eq_true rfl) rfl ?_
  unfold chanceQ
  cases hit : gIt q with
  | false =>
    rw [hit] at hi
    rw [if_neg (by decide)]
    refine r_ald0 (pc := 0) dX6_chance_0 ?_
    refine m_getI hS (pc := 1) dX6_chance_1 fl_X6_375 ?_
    refine Bd.eqI hi ?_
    first | refine r_if_eqZ (pc := 4) (tgt := 18) dX6_chance_4 (by decide) (fun h4 => ?_) (fun h4 => ?_) | refine r_if_eqN (pc := 4) (tgt := 18) dX6_chance_4 (by decide) (by omega) (fun h4 => ?_) (fun h4 => ?_) | refine r_if_eq (pc := 4) (tgt := 18) dX6_chance_4 (by decide) (fun h4 => ?_) (fun h4 => ?_)
    · skip
      refine r_ald0 (pc := 18) dX6_chance_18 ?_
      refine r_iconst (v := nI 3) (pc := 19) dX6_chance_19 (by decide) ?_
      refine r_cV (pc := 20) dX6_chance_20 cv_X6_558 hS.k (ct_X6_refuses hS hI (by decide)) rfl rfl (Nat.le_of_ble_eq_true rfl) (by decide) ?_
      rintro _ _ ⟨s1, rfl, rfl, hI1⟩
      refine r_iret (pc := 23) dX6_chance_23 ?_
      exact ⟨s1, rfl, rfl, hI1⟩
    · skip
      exact absurd h4 (by decide)
  | true =>
    rw [hit] at hi
    rw [if_pos rfl]
    cases hr : ahd (gS q) x 1 100 with
    | none =>
      have hr := ahd_none hr
      refine r_ald0 (pc := 0) dX6_chance_0 ?_
      refine m_getI hS (pc := 1) dX6_chance_1 fl_X6_375 ?_
      refine Bd.eqI hi ?_
      first | refine r_if_eqZ (pc := 4) (tgt := 18) dX6_chance_4 (by decide) (fun h4 => ?_) (fun h4 => ?_) | refine r_if_eqN (pc := 4) (tgt := 18) dX6_chance_4 (by decide) (by omega) (fun h4 => ?_) (fun h4 => ?_) | refine r_if_eq (pc := 4) (tgt := 18) dX6_chance_4 (by decide) (fun h4 => ?_) (fun h4 => ?_)
      · skip
        exact absurd rfl h4
      · skip
        refine r_ald0 (pc := 7) dX6_chance_7 ?_
        refine r_ild1 (pc := 8) dX6_chance_8 ?_
        refine r_iconst (v := nI 1) (pc := 9) dX6_chance_9 (by decide) ?_
        refine r_bipush (v := nI 100) (pc := 10) dX6_chance_10 (by decide) ?_
        refine r_cV (pc := 12) dX6_chance_12 cv_X6_524 hS.k (ct_X6_isAhead hS hN.1 (by omega) (by decide) (by decide)) rfl rfl (Nat.le_of_ble_eq_true rfl) (by decide) ?_
        rintro _ _ ⟨rfl, rfl⟩
        first | refine r_if_neZ (pc := 15) (tgt := 24) dX6_chance_15 (by decide) (fun h15 => ?_) (fun h15 => ?_) | refine r_if_neN (pc := 15) (tgt := 24) dX6_chance_15 (by decide) (by omega) (fun h15 => ?_) (fun h15 => ?_) | refine r_if_ne (pc := 15) (tgt := 24) dX6_chance_15 (by decide) (fun h15 => ?_) (fun h15 => ?_)
        · skip
          exact absurd h15 hr
        · skip
          refine r_ald0 (pc := 18) dX6_chance_18 ?_
          refine r_iconst (v := nI 3) (pc := 19) dX6_chance_19 (by decide) ?_
          refine r_cV (pc := 20) dX6_chance_20 cv_X6_558 hS.k (ct_X6_refuses hS hI (by decide)) rfl rfl (Nat.le_of_ble_eq_true rfl) (by decide) ?_
          rintro _ _ ⟨s1, rfl, rfl, hI1⟩
          refine r_iret (pc := 23) dX6_chance_23 ?_
          exact ⟨s1, rfl, rfl, hI1⟩
    | some n =>
      obtain ⟨n1, n2, n3, rfl⟩ := ahd_some hr
      refine r_ald0 (pc := 0) dX6_chance_0 ?_
      refine m_getI hS (pc := 1) dX6_chance_1 fl_X6_375 ?_
      refine Bd.eqI hi ?_
      first | refine r_if_eqZ (pc := 4) (tgt := 18) dX6_chance_4 (by decide) (fun h4 => ?_) (fun h4 => ?_) | refine r_if_eqN (pc := 4) (tgt := 18) dX6_chance_4 (by decide) (by omega) (fun h4 => ?_) (fun h4 => ?_) | refine r_if_eq (pc := 4) (tgt := 18) dX6_chance_4 (by decide) (fun h4 => ?_) (fun h4 => ?_)
      · skip
        exact absurd rfl h4
      · skip
        refine r_ald0 (pc := 7) dX6_chance_7 ?_
        refine r_ild1 (pc := 8) dX6_chance_8 ?_
        refine r_iconst (v := nI 1) (pc := 9) dX6_chance_9 (by decide) ?_
        refine r_bipush (v := nI 100) (pc := 10) dX6_chance_10 (by decide) ?_
        refine r_cV (pc := 12) dX6_chance_12 cv_X6_524 hS.k (ct_X6_isAhead hS hN.1 (by omega) (by decide) (by decide)) rfl rfl (Nat.le_of_ble_eq_true rfl) (by decide) ?_
        rintro _ _ ⟨rfl, rfl⟩
        first | refine r_if_neZ (pc := 15) (tgt := 24) dX6_chance_15 (by decide) (fun h15 => ?_) (fun h15 => ?_) | refine r_if_neN (pc := 15) (tgt := 24) dX6_chance_15 (by decide) (by omega) (fun h15 => ?_) (fun h15 => ?_) | refine r_if_ne (pc := 15) (tgt := 24) dX6_chance_15 (by decide) (fun h15 => ?_) (fun h15 => ?_)
        · skip
          refine r_ald0 (pc := 24) dX6_chance_24 ?_
          refine r_cV (pc := 25) dX6_chance_25 cv_X6_585 hS.k (ct_X6_keeps hS hI hG) rfl rfl (Nat.le_of_ble_eq_true rfl) (by decide) ?_
          rintro _ _ ⟨s1, rfl, rfl, hI1, hf1⟩
          refine r_iconst (v := nI 0) (pc := 28) dX6_chance_28 (by decide) ?_
          refine r_ist2 (pc := 29) dX6_chance_29 ?_
          refine r_iconst (v := nI 0) (pc := 30) dX6_chance_30 (by decide) ?_
          refine r_ist3 (pc := 31) dX6_chance_31 ?_
          refine Bd.post ?_ (fun _ _ h => h) (slipLoop (s := s1) (T := gT q) hS hI1.2.2.2.1.1 hTB (m := n) (by omega) n 0 s1 (gS q, gK q, gSd q, 0) none (by omega) ⟨hI1.2.2.2.2.1.1, hI1.2.2.2.2.1.2.1, hI1.2.2.2.2.2.2.2.1, hI1.2.2.2.2.1.2.2, Fr.rf⟩ hB hsd (by show yr (gS q) + n ≤ 2000; omega) rfl)
          rintro r M' ⟨s', rfl, rfl, hC⟩
          obtain ⟨a1, a2, a3, a4, a5, a6, a7, a8, a9, a10⟩ := hI1
          have hf := hC.2.2.2.2
          exact ⟨s', rfl, rfl, a1.fr hf (by decide), a2.fr hf (by decide), a3.fr hf (by decide), a4.fr hf (by decide) (by decide) (by decide), ⟨hC.1, hC.2.1, hC.2.2.2.1⟩, a6.fr hf (by decide), a7.fr hf (by decide), hC.2.2.1, a9.fr hf (by decide), a10.fr hf (by decide)⟩
        · skip
          exact absurd (by rw [nI_toInt (by omega)]; omega) h15
end M14
