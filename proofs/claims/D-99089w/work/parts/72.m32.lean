set_option maxRecDepth 100000
/-! THE MODEL: the words of sums -/
section M32
variable {g : GC} {M : MM} {o : Nat} {s s' sB : MS} {M1 : MM} {q : Sg} {f : Nat → Nat} {n a x : Nat}
/-- isHere where blanks are behind, from s on -/
theorem hereP {p i c : Nat} {w : List Nat} {s1 : MS} (hS : ShM g M o) (hp : skip f n p = p) (h1 : RP s1 f n p) (h2 : AR i c 5 w.length) (h3 : (i, w) ∈ wdT) (h4 : Fr [2] [] [] [] s s1) : Ct g yX6_isHere cX6_isHere 4 (some Jvm.ClassFile.FieldType.boolean) 1 0 0 [.ref o, .ref (o + c)] (putM M o s1) (QM M o (fun r s' => r = some (.int (zI (word f n p = some w))) ∧ RP s' f n p ∧ Fr [2] [] [] [] s s')) noX := by
  have := ct_X6_isHere hS h1 h2 h3
  rw [hp] at this
  refine Ct.post ?_ (fun _ _ h => h) this
  rintro _ _ ⟨s2, rfl, h5, h6, h7⟩
  exact ⟨s2, rfl, h5, h6, h4.trans h7⟩
theorem ct_X6_qWordHere {p : Nat} (hS : ShM g M o) (hR : RP s f n p) (hp : skip f n p = p) (h54 : mF s 54 = nI x) (hx : x ≤ 3) :
    Ct g yX6_qWordHere cX6_qWordHere 1 (some Jvm.ClassFile.FieldType.int) 2 0 0 [.ref o] (putM M o s) (QM M o (fun r s' => r = some (.int (oI (whN x (word f n p)))) ∧ RP s' f n p ∧ Fr [2] [] [] [] s s')) noX := by
  refine Ct.of (by decide) (Nat.le_of_ble_eq_true rfl) rfl ?_
  by_cases hx3 : x < 3
  · skip
    refine r_ald0 (pc := 0) dX6_qWordHere_0 ?_
    refine r_ald0 (pc := 1) dX6_qWordHere_1 ?_
    refine m_getR hS (pc := 2) dX6_qWordHere_2 fl_X6_183 ar88 ?_
    refine r_cV (pc := 5) dX6_qWordHere_5 cv_X6_260 hS.k (hereP hS hp hR ar88 (w := wFace) (by decide) Fr.rf) rfl rfl (Nat.le_of_ble_eq_true rfl) (by decide) ?_
    rintro _ _ ⟨s1, rfl, rfl, hR1, hf1⟩
    first | refine r_if_eqZ (pc := 8) (tgt := 13) dX6_qWordHere_8 (by decide) (fun h8 => ?_) (fun h8 => ?_) | refine r_if_eqN (pc := 8) (tgt := 13) dX6_qWordHere_8 (by decide) (by omega) (fun h8 => ?_) (fun h8 => ?_) | refine r_if_eq (pc := 8) (tgt := 13) dX6_qWordHere_8 (by decide) (fun h8 => ?_) (fun h8 => ?_)
    · skip
      refine r_ald0 (pc := 13) dX6_qWordHere_13 ?_
      refine r_ald0 (pc := 14) dX6_qWordHere_14 ?_
      refine m_getR hS (pc := 15) dX6_qWordHere_15 fl_X6_186 ar89 ?_
      refine r_cV (pc := 18) dX6_qWordHere_18 cv_X6_260 hS.k (hereP hS hp hR1 ar89 (w := wKind) (by decide) hf1) rfl rfl (Nat.le_of_ble_eq_true rfl) (by decide) ?_
      rintro _ _ ⟨s2, rfl, rfl, hR2, hf2⟩
      first | refine r_if_eqZ (pc := 21) (tgt := 26) dX6_qWordHere_21 (by decide) (fun h21 => ?_) (fun h21 => ?_) | refine r_if_eqN (pc := 21) (tgt := 26) dX6_qWordHere_21 (by decide) (by omega) (fun h21 => ?_) (fun h21 => ?_) | refine r_if_eq (pc := 21) (tgt := 26) dX6_qWordHere_21 (by decide) (fun h21 => ?_) (fun h21 => ?_)
      · skip
        refine r_ald0 (pc := 26) dX6_qWordHere_26 ?_
        refine m_getI hS (pc := 27) dX6_qWordHere_27 fl_X6_295 ?_
        refine Bd.eqI ((hf2.1 54 (by decide)).trans h54) ?_
        refine r_iconst (v := nI 3) (pc := 30) dX6_qWordHere_30 (by decide) ?_
        first | refine r_icmp_geN (pc := 31) (tgt := 47) dX6_qWordHere_31 (by decide) (by omega) (by omega) (fun h31 => ?_) (fun h31 => ?_) | refine r_icmp_ge (pc := 31) (tgt := 47) dX6_qWordHere_31 (by decide) (fun h31 => ?_) (fun h31 => ?_)
        · skip
          exact absurd h31 (by omega)
        · skip
          refine r_ald0 (pc := 34) dX6_qWordHere_34 ?_
          refine r_ald0 (pc := 35) dX6_qWordHere_35 ?_
          refine m_getR hS (pc := 36) dX6_qWordHere_36 fl_X6_189 ar90 ?_
          refine r_cV (pc := 39) dX6_qWordHere_39 cv_X6_260 hS.k (hereP hS hp hR2 ar90 (w := wThinks) (by decide) hf2) rfl rfl (Nat.le_of_ble_eq_true rfl) (by decide) ?_
          rintro _ _ ⟨s3, rfl, rfl, hR3, hf3⟩
          first | refine r_if_eqZ (pc := 42) (tgt := 47) dX6_qWordHere_42 (by decide) (fun h42 => ?_) (fun h42 => ?_) | refine r_if_eqN (pc := 42) (tgt := 47) dX6_qWordHere_42 (by decide) (by omega) (fun h42 => ?_) (fun h42 => ?_) | refine r_if_eq (pc := 42) (tgt := 47) dX6_qWordHere_42 (by decide) (fun h42 => ?_) (fun h42 => ?_)
          · skip
            refine r_ald0 (pc := 47) dX6_qWordHere_47 ?_
            refine r_ald0 (pc := 48) dX6_qWordHere_48 ?_
            refine m_getR hS (pc := 49) dX6_qWordHere_49 fl_X6_192 ar91 ?_
            refine r_cV (pc := 52) dX6_qWordHere_52 cv_X6_260 hS.k (hereP hS hp hR3 ar91 (w := wYear) (by decide) hf3) rfl rfl (Nat.le_of_ble_eq_true rfl) (by decide) ?_
            rintro _ _ ⟨s4, rfl, rfl, hR4, hf4⟩
            first | refine r_if_eqZ (pc := 55) (tgt := 60) dX6_qWordHere_55 (by decide) (fun h55 => ?_) (fun h55 => ?_) | refine r_if_eqN (pc := 55) (tgt := 60) dX6_qWordHere_55 (by decide) (by omega) (fun h55 => ?_) (fun h55 => ?_) | refine r_if_eq (pc := 55) (tgt := 60) dX6_qWordHere_55 (by decide) (fun h55 => ?_) (fun h55 => ?_)
            · skip
              refine r_ald0 (pc := 60) dX6_qWordHere_60 ?_
              refine r_ald0 (pc := 61) dX6_qWordHere_61 ?_
              refine m_getR hS (pc := 62) dX6_qWordHere_62 fl_X6_195 ar92 ?_
              refine r_cV (pc := 65) dX6_qWordHere_65 cv_X6_260 hS.k (hereP hS hp hR4 ar92 (w := wLook) (by decide) hf4) rfl rfl (Nat.le_of_ble_eq_true rfl) (by decide) ?_
              rintro _ _ ⟨s5, rfl, rfl, hR5, hf5⟩
              first | refine r_if_eqZ (pc := 68) (tgt := 73) dX6_qWordHere_68 (by decide) (fun h68 => ?_) (fun h68 => ?_) | refine r_if_eqN (pc := 68) (tgt := 73) dX6_qWordHere_68 (by decide) (by omega) (fun h68 => ?_) (fun h68 => ?_) | refine r_if_eq (pc := 68) (tgt := 73) dX6_qWordHere_68 (by decide) (fun h68 => ?_) (fun h68 => ?_)
              · skip
                refine r_ald0 (pc := 73) dX6_qWordHere_73 ?_
                refine r_ald0 (pc := 74) dX6_qWordHere_74 ?_
                refine m_getR hS (pc := 75) dX6_qWordHere_75 fl_X6_198 ar93 ?_
                refine r_cV (pc := 78) dX6_qWordHere_78 cv_X6_260 hS.k (hereP hS hp hR5 ar93 (w := wSide) (by decide) hf5) rfl rfl (Nat.le_of_ble_eq_true rfl) (by decide) ?_
                rintro _ _ ⟨s6, rfl, rfl, hR6, hf6⟩
                first | refine r_if_eqZ (pc := 81) (tgt := 86) dX6_qWordHere_81 (by decide) (fun h81 => ?_) (fun h81 => ?_) | refine r_if_eqN (pc := 81) (tgt := 86) dX6_qWordHere_81 (by decide) (by omega) (fun h81 => ?_) (fun h81 => ?_) | refine r_if_eq (pc := 81) (tgt := 86) dX6_qWordHere_81 (by decide) (fun h81 => ?_) (fun h81 => ?_)
                · skip
                  refine r_ald0 (pc := 86) dX6_qWordHere_86 ?_
                  refine r_ald0 (pc := 87) dX6_qWordHere_87 ?_
                  refine m_getR hS (pc := 88) dX6_qWordHere_88 fl_X6_201 ar94 ?_
                  refine r_cV (pc := 91) dX6_qWordHere_91 cv_X6_260 hS.k (hereP hS hp hR6 ar94 (w := wGain) (by decide) hf6) rfl rfl (Nat.le_of_ble_eq_true rfl) (by decide) ?_
                  rintro _ _ ⟨s7, rfl, rfl, hR7, hf7⟩
                  first | refine r_if_eqZ (pc := 94) (tgt := 100) dX6_qWordHere_94 (by decide) (fun h94 => ?_) (fun h94 => ?_) | refine r_if_eqN (pc := 94) (tgt := 100) dX6_qWordHere_94 (by decide) (by omega) (fun h94 => ?_) (fun h94 => ?_) | refine r_if_eq (pc := 94) (tgt := 100) dX6_qWordHere_94 (by decide) (fun h94 => ?_) (fun h94 => ?_)
                  · skip
                    refine r_ald0 (pc := 100) dX6_qWordHere_100 ?_
                    refine m_getI hS (pc := 101) dX6_qWordHere_101 fl_X6_295 ?_
                    refine Bd.eqI ((hf7.1 54 (by decide)).trans h54) ?_
                    refine r_iconst (v := nI 3) (pc := 104) dX6_qWordHere_104 (by decide) ?_
                    first | refine r_icmp_geN (pc := 105) (tgt := 122) dX6_qWordHere_105 (by decide) (by omega) (by omega) (fun h105 => ?_) (fun h105 => ?_) | refine r_icmp_ge (pc := 105) (tgt := 122) dX6_qWordHere_105 (by decide) (fun h105 => ?_) (fun h105 => ?_)
                    · skip
                      exact absurd h105 (by omega)
                    · skip
                      refine r_ald0 (pc := 108) dX6_qWordHere_108 ?_
                      refine r_ald0 (pc := 109) dX6_qWordHere_109 ?_
                      refine m_getR hS (pc := 110) dX6_qWordHere_110 fl_X6_204 ar95 ?_
                      refine r_cV (pc := 113) dX6_qWordHere_113 cv_X6_260 hS.k (hereP hS hp hR7 ar95 (w := wBack) (by decide) hf7) rfl rfl (Nat.le_of_ble_eq_true rfl) (by decide) ?_
                      rintro _ _ ⟨s8, rfl, rfl, hR8, hf8⟩
                      first | refine r_if_eqZ (pc := 116) (tgt := 122) dX6_qWordHere_116 (by decide) (fun h116 => ?_) (fun h116 => ?_) | refine r_if_eqN (pc := 116) (tgt := 122) dX6_qWordHere_116 (by decide) (by omega) (fun h116 => ?_) (fun h116 => ?_) | refine r_if_eq (pc := 116) (tgt := 122) dX6_qWordHere_116 (by decide) (fun h116 => ?_) (fun h116 => ?_)
                      · skip
                        refine r_ald0 (pc := 122) dX6_qWordHere_122 ?_
                        refine r_ald0 (pc := 123) dX6_qWordHere_123 ?_
                        refine m_getR hS (pc := 124) dX6_qWordHere_124 fl_X6_207 ar96 ?_
                        refine r_cV (pc := 127) dX6_qWordHere_127 cv_X6_260 hS.k (hereP hS hp hR8 ar96 (w := wNumber) (by decide) hf8) rfl rfl (Nat.le_of_ble_eq_true rfl) (by decide) ?_
                        rintro _ _ ⟨s9, rfl, rfl, hR9, hf9⟩
                        first | refine r_if_eqZ (pc := 130) (tgt := 136) dX6_qWordHere_130 (by decide) (fun h130 => ?_) (fun h130 => ?_) | refine r_if_eqN (pc := 130) (tgt := 136) dX6_qWordHere_130 (by decide) (by omega) (fun h130 => ?_) (fun h130 => ?_) | refine r_if_eq (pc := 130) (tgt := 136) dX6_qWordHere_130 (by decide) (fun h130 => ?_) (fun h130 => ?_)
                        · skip
                          refine r_ald0 (pc := 136) dX6_qWordHere_136 ?_
                          refine r_ald0 (pc := 137) dX6_qWordHere_137 ?_
                          refine m_getR hS (pc := 138) dX6_qWordHere_138 fl_X6_210 ar97 ?_
                          refine r_cV (pc := 141) dX6_qWordHere_141 cv_X6_260 hS.k (hereP hS hp hR9 ar97 (w := wHouse) (by decide) hf9) rfl rfl (Nat.le_of_ble_eq_true rfl) (by decide) ?_
                          rintro _ _ ⟨s10, rfl, rfl, hR10, hf10⟩
                          first | refine r_if_eqZ (pc := 144) (tgt := 150) dX6_qWordHere_144 (by decide) (fun h144 => ?_) (fun h144 => ?_) | refine r_if_eqN (pc := 144) (tgt := 150) dX6_qWordHere_144 (by decide) (by omega) (fun h144 => ?_) (fun h144 => ?_) | refine r_if_eq (pc := 144) (tgt := 150) dX6_qWordHere_144 (by decide) (fun h144 => ?_) (fun h144 => ?_)
                          · skip
                            refine r_ald0 (pc := 150) dX6_qWordHere_150 ?_
                            refine r_ald0 (pc := 151) dX6_qWordHere_151 ?_
                            refine m_getR hS (pc := 152) dX6_qWordHere_152 fl_X6_213 ar98 ?_
                            refine r_cV (pc := 155) dX6_qWordHere_155 cv_X6_260 hS.k (hereP hS hp hR10 ar98 (w := wSpares) (by decide) hf10) rfl rfl (Nat.le_of_ble_eq_true rfl) (by decide) ?_
                            rintro _ _ ⟨s11, rfl, rfl, hR11, hf11⟩
                            first | refine r_if_eqZ (pc := 158) (tgt := 164) dX6_qWordHere_158 (by decide) (fun h158 => ?_) (fun h158 => ?_) | refine r_if_eqN (pc := 158) (tgt := 164) dX6_qWordHere_158 (by decide) (by omega) (fun h158 => ?_) (fun h158 => ?_) | refine r_if_eq (pc := 158) (tgt := 164) dX6_qWordHere_158 (by decide) (fun h158 => ?_) (fun h158 => ?_)
                            · skip
                              refine r_ald0 (pc := 164) dX6_qWordHere_164 ?_
                              refine r_ald0 (pc := 165) dX6_qWordHere_165 ?_
                              refine m_getR hS (pc := 166) dX6_qWordHere_166 fl_X6_216 ar99 ?_
                              refine r_cV (pc := 169) dX6_qWordHere_169 cv_X6_260 hS.k (hereP hS hp hR11 ar99 (w := wThinks) (by decide) hf11) rfl rfl (Nat.le_of_ble_eq_true rfl) (by decide) ?_
                              rintro _ _ ⟨s12, rfl, rfl, hR12, hf12⟩
                              first | refine r_if_eqZ (pc := 172) (tgt := 178) dX6_qWordHere_172 (by decide) (fun h172 => ?_) (fun h172 => ?_) | refine r_if_eqN (pc := 172) (tgt := 178) dX6_qWordHere_172 (by decide) (by omega) (fun h172 => ?_) (fun h172 => ?_) | refine r_if_eq (pc := 172) (tgt := 178) dX6_qWordHere_172 (by decide) (fun h172 => ?_) (fun h172 => ?_)
                              · skip
                                refine r_ald0 (pc := 178) dX6_qWordHere_178 ?_
                                refine r_ald0 (pc := 179) dX6_qWordHere_179 ?_
                                refine m_getR hS (pc := 180) dX6_qWordHere_180 fl_X6_219 ar100 ?_
                                refine r_cV (pc := 183) dX6_qWordHere_183 cv_X6_260 hS.k (hereP hS hp hR12 ar100 (w := wBack) (by decide) hf12) rfl rfl (Nat.le_of_ble_eq_true rfl) (by decide) ?_
                                rintro _ _ ⟨s13, rfl, rfl, hR13, hf13⟩
                                first | refine r_if_eqZ (pc := 186) (tgt := 192) dX6_qWordHere_186 (by decide) (fun h186 => ?_) (fun h186 => ?_) | refine r_if_eqN (pc := 186) (tgt := 192) dX6_qWordHere_186 (by decide) (by omega) (fun h186 => ?_) (fun h186 => ?_) | refine r_if_eq (pc := 186) (tgt := 192) dX6_qWordHere_186 (by decide) (fun h186 => ?_) (fun h186 => ?_)
                                · skip
                                  refine r_iconst (v := -1) (pc := 192) dX6_qWordHere_192 (by decide) ?_
                                  refine r_iret (pc := 193) dX6_qWordHere_193 ?_
                                  exact ⟨_, rfl, by rw [show whN x (word f n p) = none by unfold whN; rw [if_neg h8, if_neg h21, if_neg (fun q => h42 q.2), if_neg h55, if_neg h68, if_neg h81, if_neg h94, if_neg (fun q => h116 q.2), if_neg h130, if_neg h144, if_neg h158, if_neg h172, if_neg h186]]; rfl, hR13, hf13⟩
                                · skip
                                  refine r_bipush (v := nI 12) (pc := 189) dX6_qWordHere_189 (by decide) ?_
                                  refine r_iret (pc := 191) dX6_qWordHere_191 ?_
                                  exact ⟨_, rfl, by rw [show whN x (word f n p) = some 12 by unfold whN; rw [if_neg h8, if_neg h21, if_neg (fun q => h42 q.2), if_neg h55, if_neg h68, if_neg h81, if_neg h94, if_neg (fun q => h116 q.2), if_neg h130, if_neg h144, if_neg h158, if_neg h172, if_pos h186]]; rfl, hR13, hf13⟩
                              · skip
                                refine r_bipush (v := nI 11) (pc := 175) dX6_qWordHere_175 (by decide) ?_
                                refine r_iret (pc := 177) dX6_qWordHere_177 ?_
                                exact ⟨_, rfl, by rw [show whN x (word f n p) = some 11 by unfold whN; rw [if_neg h8, if_neg h21, if_neg (fun q => h42 q.2), if_neg h55, if_neg h68, if_neg h81, if_neg h94, if_neg (fun q => h116 q.2), if_neg h130, if_neg h144, if_neg h158, if_pos h172]]; rfl, hR12, hf12⟩
                            · skip
                              refine r_bipush (v := nI 10) (pc := 161) dX6_qWordHere_161 (by decide) ?_
                              refine r_iret (pc := 163) dX6_qWordHere_163 ?_
                              exact ⟨_, rfl, by rw [show whN x (word f n p) = some 10 by unfold whN; rw [if_neg h8, if_neg h21, if_neg (fun q => h42 q.2), if_neg h55, if_neg h68, if_neg h81, if_neg h94, if_neg (fun q => h116 q.2), if_neg h130, if_neg h144, if_pos h158]]; rfl, hR11, hf11⟩
                          · skip
                            refine r_bipush (v := nI 9) (pc := 147) dX6_qWordHere_147 (by decide) ?_
                            refine r_iret (pc := 149) dX6_qWordHere_149 ?_
                            exact ⟨_, rfl, by rw [show whN x (word f n p) = some 9 by unfold whN; rw [if_neg h8, if_neg h21, if_neg (fun q => h42 q.2), if_neg h55, if_neg h68, if_neg h81, if_neg h94, if_neg (fun q => h116 q.2), if_neg h130, if_pos h144]]; rfl, hR10, hf10⟩
                        · skip
                          refine r_bipush (v := nI 8) (pc := 133) dX6_qWordHere_133 (by decide) ?_
                          refine r_iret (pc := 135) dX6_qWordHere_135 ?_
                          exact ⟨_, rfl, by rw [show whN x (word f n p) = some 8 by unfold whN; rw [if_neg h8, if_neg h21, if_neg (fun q => h42 q.2), if_neg h55, if_neg h68, if_neg h81, if_neg h94, if_neg (fun q => h116 q.2), if_pos h130]]; rfl, hR9, hf9⟩
                      · skip
                        refine r_bipush (v := nI 7) (pc := 119) dX6_qWordHere_119 (by decide) ?_
                        refine r_iret (pc := 121) dX6_qWordHere_121 ?_
                        exact ⟨_, rfl, by rw [show whN x (word f n p) = some 7 by unfold whN; rw [if_neg h8, if_neg h21, if_neg (fun q => h42 q.2), if_neg h55, if_neg h68, if_neg h81, if_neg h94, if_pos ⟨hx3, h116⟩]]; rfl, hR8, hf8⟩
                  · skip
                    refine r_bipush (v := nI 6) (pc := 97) dX6_qWordHere_97 (by decide) ?_
                    refine r_iret (pc := 99) dX6_qWordHere_99 ?_
                    exact ⟨_, rfl, by rw [show whN x (word f n p) = some 6 by unfold whN; rw [if_neg h8, if_neg h21, if_neg (fun q => h42 q.2), if_neg h55, if_neg h68, if_neg h81, if_pos h94]]; rfl, hR7, hf7⟩
                · skip
                  refine r_iconst (v := nI 5) (pc := 84) dX6_qWordHere_84 (by decide) ?_
                  refine r_iret (pc := 85) dX6_qWordHere_85 ?_
                  exact ⟨_, rfl, by rw [show whN x (word f n p) = some 5 by unfold whN; rw [if_neg h8, if_neg h21, if_neg (fun q => h42 q.2), if_neg h55, if_neg h68, if_pos h81]]; rfl, hR6, hf6⟩
              · skip
                refine r_iconst (v := nI 4) (pc := 71) dX6_qWordHere_71 (by decide) ?_
                refine r_iret (pc := 72) dX6_qWordHere_72 ?_
                exact ⟨_, rfl, by rw [show whN x (word f n p) = some 4 by unfold whN; rw [if_neg h8, if_neg h21, if_neg (fun q => h42 q.2), if_neg h55, if_pos h68]]; rfl, hR5, hf5⟩
            · skip
              refine r_iconst (v := nI 3) (pc := 58) dX6_qWordHere_58 (by decide) ?_
              refine r_iret (pc := 59) dX6_qWordHere_59 ?_
              exact ⟨_, rfl, by rw [show whN x (word f n p) = some 3 by unfold whN; rw [if_neg h8, if_neg h21, if_neg (fun q => h42 q.2), if_pos h55]]; rfl, hR4, hf4⟩
          · skip
            refine r_iconst (v := nI 2) (pc := 45) dX6_qWordHere_45 (by decide) ?_
            refine r_iret (pc := 46) dX6_qWordHere_46 ?_
            exact ⟨_, rfl, by rw [show whN x (word f n p) = some 2 by unfold whN; rw [if_neg h8, if_neg h21, if_pos ⟨hx3, h42⟩]]; rfl, hR3, hf3⟩
      · skip
        refine r_iconst (v := nI 1) (pc := 24) dX6_qWordHere_24 (by decide) ?_
        refine r_iret (pc := 25) dX6_qWordHere_25 ?_
        exact ⟨_, rfl, by rw [show whN x (word f n p) = some 1 by unfold whN; rw [if_neg h8, if_pos h21]]; rfl, hR2, hf2⟩
    · skip
      refine r_iconst (v := nI 0) (pc := 11) dX6_qWordHere_11 (by decide) ?_
      refine r_iret (pc := 12) dX6_qWordHere_12 ?_
      exact ⟨_, rfl, by rw [show whN x (word f n p) = some 0 by unfold whN; rw [if_pos h8]]; rfl, hR1, hf1⟩
  · skip
    refine r_ald0 (pc := 0) dX6_qWordHere_0 ?_
    refine r_ald0 (pc := 1) dX6_qWordHere_1 ?_
    refine m_getR hS (pc := 2) dX6_qWordHere_2 fl_X6_183 ar88 ?_
    refine r_cV (pc := 5) dX6_qWordHere_5 cv_X6_260 hS.k (hereP hS hp hR ar88 (w := wFace) (by decide) Fr.rf) rfl rfl (Nat.le_of_ble_eq_true rfl) (by decide) ?_
    rintro _ _ ⟨s1, rfl, rfl, hR1, hf1⟩
    first | refine r_if_eqZ (pc := 8) (tgt := 13) dX6_qWordHere_8 (by decide) (fun h8 => ?_) (fun h8 => ?_) | refine r_if_eqN (pc := 8) (tgt := 13) dX6_qWordHere_8 (by decide) (by omega) (fun h8 => ?_) (fun h8 => ?_) | refine r_if_eq (pc := 8) (tgt := 13) dX6_qWordHere_8 (by decide) (fun h8 => ?_) (fun h8 => ?_)
    · skip
      refine r_ald0 (pc := 13) dX6_qWordHere_13 ?_
      refine r_ald0 (pc := 14) dX6_qWordHere_14 ?_
      refine m_getR hS (pc := 15) dX6_qWordHere_15 fl_X6_186 ar89 ?_
      refine r_cV (pc := 18) dX6_qWordHere_18 cv_X6_260 hS.k (hereP hS hp hR1 ar89 (w := wKind) (by decide) hf1) rfl rfl (Nat.le_of_ble_eq_true rfl) (by decide) ?_
      rintro _ _ ⟨s2, rfl, rfl, hR2, hf2⟩
      first | refine r_if_eqZ (pc := 21) (tgt := 26) dX6_qWordHere_21 (by decide) (fun h21 => ?_) (fun h21 => ?_) | refine r_if_eqN (pc := 21) (tgt := 26) dX6_qWordHere_21 (by decide) (by omega) (fun h21 => ?_) (fun h21 => ?_) | refine r_if_eq (pc := 21) (tgt := 26) dX6_qWordHere_21 (by decide) (fun h21 => ?_) (fun h21 => ?_)
      · skip
        refine r_ald0 (pc := 26) dX6_qWordHere_26 ?_
        refine m_getI hS (pc := 27) dX6_qWordHere_27 fl_X6_295 ?_
        refine Bd.eqI ((hf2.1 54 (by decide)).trans h54) ?_
        refine r_iconst (v := nI 3) (pc := 30) dX6_qWordHere_30 (by decide) ?_
        first | refine r_icmp_geN (pc := 31) (tgt := 47) dX6_qWordHere_31 (by decide) (by omega) (by omega) (fun h31 => ?_) (fun h31 => ?_) | refine r_icmp_ge (pc := 31) (tgt := 47) dX6_qWordHere_31 (by decide) (fun h31 => ?_) (fun h31 => ?_)
        · skip
          refine r_ald0 (pc := 47) dX6_qWordHere_47 ?_
          refine r_ald0 (pc := 48) dX6_qWordHere_48 ?_
          refine m_getR hS (pc := 49) dX6_qWordHere_49 fl_X6_192 ar91 ?_
          refine r_cV (pc := 52) dX6_qWordHere_52 cv_X6_260 hS.k (hereP hS hp hR2 ar91 (w := wYear) (by decide) hf2) rfl rfl (Nat.le_of_ble_eq_true rfl) (by decide) ?_
          rintro _ _ ⟨s3, rfl, rfl, hR3, hf3⟩
          first | refine r_if_eqZ (pc := 55) (tgt := 60) dX6_qWordHere_55 (by decide) (fun h55 => ?_) (fun h55 => ?_) | refine r_if_eqN (pc := 55) (tgt := 60) dX6_qWordHere_55 (by decide) (by omega) (fun h55 => ?_) (fun h55 => ?_) | refine r_if_eq (pc := 55) (tgt := 60) dX6_qWordHere_55 (by decide) (fun h55 => ?_) (fun h55 => ?_)
          · skip
            refine r_ald0 (pc := 60) dX6_qWordHere_60 ?_
            refine r_ald0 (pc := 61) dX6_qWordHere_61 ?_
            refine m_getR hS (pc := 62) dX6_qWordHere_62 fl_X6_195 ar92 ?_
            refine r_cV (pc := 65) dX6_qWordHere_65 cv_X6_260 hS.k (hereP hS hp hR3 ar92 (w := wLook) (by decide) hf3) rfl rfl (Nat.le_of_ble_eq_true rfl) (by decide) ?_
            rintro _ _ ⟨s4, rfl, rfl, hR4, hf4⟩
            first | refine r_if_eqZ (pc := 68) (tgt := 73) dX6_qWordHere_68 (by decide) (fun h68 => ?_) (fun h68 => ?_) | refine r_if_eqN (pc := 68) (tgt := 73) dX6_qWordHere_68 (by decide) (by omega) (fun h68 => ?_) (fun h68 => ?_) | refine r_if_eq (pc := 68) (tgt := 73) dX6_qWordHere_68 (by decide) (fun h68 => ?_) (fun h68 => ?_)
            · skip
              refine r_ald0 (pc := 73) dX6_qWordHere_73 ?_
              refine r_ald0 (pc := 74) dX6_qWordHere_74 ?_
              refine m_getR hS (pc := 75) dX6_qWordHere_75 fl_X6_198 ar93 ?_
              refine r_cV (pc := 78) dX6_qWordHere_78 cv_X6_260 hS.k (hereP hS hp hR4 ar93 (w := wSide) (by decide) hf4) rfl rfl (Nat.le_of_ble_eq_true rfl) (by decide) ?_
              rintro _ _ ⟨s5, rfl, rfl, hR5, hf5⟩
              first | refine r_if_eqZ (pc := 81) (tgt := 86) dX6_qWordHere_81 (by decide) (fun h81 => ?_) (fun h81 => ?_) | refine r_if_eqN (pc := 81) (tgt := 86) dX6_qWordHere_81 (by decide) (by omega) (fun h81 => ?_) (fun h81 => ?_) | refine r_if_eq (pc := 81) (tgt := 86) dX6_qWordHere_81 (by decide) (fun h81 => ?_) (fun h81 => ?_)
              · skip
                refine r_ald0 (pc := 86) dX6_qWordHere_86 ?_
                refine r_ald0 (pc := 87) dX6_qWordHere_87 ?_
                refine m_getR hS (pc := 88) dX6_qWordHere_88 fl_X6_201 ar94 ?_
                refine r_cV (pc := 91) dX6_qWordHere_91 cv_X6_260 hS.k (hereP hS hp hR5 ar94 (w := wGain) (by decide) hf5) rfl rfl (Nat.le_of_ble_eq_true rfl) (by decide) ?_
                rintro _ _ ⟨s6, rfl, rfl, hR6, hf6⟩
                first | refine r_if_eqZ (pc := 94) (tgt := 100) dX6_qWordHere_94 (by decide) (fun h94 => ?_) (fun h94 => ?_) | refine r_if_eqN (pc := 94) (tgt := 100) dX6_qWordHere_94 (by decide) (by omega) (fun h94 => ?_) (fun h94 => ?_) | refine r_if_eq (pc := 94) (tgt := 100) dX6_qWordHere_94 (by decide) (fun h94 => ?_) (fun h94 => ?_)
                · skip
                  refine r_ald0 (pc := 100) dX6_qWordHere_100 ?_
                  refine m_getI hS (pc := 101) dX6_qWordHere_101 fl_X6_295 ?_
                  refine Bd.eqI ((hf6.1 54 (by decide)).trans h54) ?_
                  refine r_iconst (v := nI 3) (pc := 104) dX6_qWordHere_104 (by decide) ?_
                  first | refine r_icmp_geN (pc := 105) (tgt := 122) dX6_qWordHere_105 (by decide) (by omega) (by omega) (fun h105 => ?_) (fun h105 => ?_) | refine r_icmp_ge (pc := 105) (tgt := 122) dX6_qWordHere_105 (by decide) (fun h105 => ?_) (fun h105 => ?_)
                  · skip
                    refine r_ald0 (pc := 122) dX6_qWordHere_122 ?_
                    refine r_ald0 (pc := 123) dX6_qWordHere_123 ?_
                    refine m_getR hS (pc := 124) dX6_qWordHere_124 fl_X6_207 ar96 ?_
                    refine r_cV (pc := 127) dX6_qWordHere_127 cv_X6_260 hS.k (hereP hS hp hR6 ar96 (w := wNumber) (by decide) hf6) rfl rfl (Nat.le_of_ble_eq_true rfl) (by decide) ?_
                    rintro _ _ ⟨s7, rfl, rfl, hR7, hf7⟩
                    first | refine r_if_eqZ (pc := 130) (tgt := 136) dX6_qWordHere_130 (by decide) (fun h130 => ?_) (fun h130 => ?_) | refine r_if_eqN (pc := 130) (tgt := 136) dX6_qWordHere_130 (by decide) (by omega) (fun h130 => ?_) (fun h130 => ?_) | refine r_if_eq (pc := 130) (tgt := 136) dX6_qWordHere_130 (by decide) (fun h130 => ?_) (fun h130 => ?_)
                    · skip
                      refine r_ald0 (pc := 136) dX6_qWordHere_136 ?_
                      refine r_ald0 (pc := 137) dX6_qWordHere_137 ?_
                      refine m_getR hS (pc := 138) dX6_qWordHere_138 fl_X6_210 ar97 ?_
                      refine r_cV (pc := 141) dX6_qWordHere_141 cv_X6_260 hS.k (hereP hS hp hR7 ar97 (w := wHouse) (by decide) hf7) rfl rfl (Nat.le_of_ble_eq_true rfl) (by decide) ?_
                      rintro _ _ ⟨s8, rfl, rfl, hR8, hf8⟩
                      first | refine r_if_eqZ (pc := 144) (tgt := 150) dX6_qWordHere_144 (by decide) (fun h144 => ?_) (fun h144 => ?_) | refine r_if_eqN (pc := 144) (tgt := 150) dX6_qWordHere_144 (by decide) (by omega) (fun h144 => ?_) (fun h144 => ?_) | refine r_if_eq (pc := 144) (tgt := 150) dX6_qWordHere_144 (by decide) (fun h144 => ?_) (fun h144 => ?_)
                      · skip
                        refine r_ald0 (pc := 150) dX6_qWordHere_150 ?_
                        refine r_ald0 (pc := 151) dX6_qWordHere_151 ?_
                        refine m_getR hS (pc := 152) dX6_qWordHere_152 fl_X6_213 ar98 ?_
                        refine r_cV (pc := 155) dX6_qWordHere_155 cv_X6_260 hS.k (hereP hS hp hR8 ar98 (w := wSpares) (by decide) hf8) rfl rfl (Nat.le_of_ble_eq_true rfl) (by decide) ?_
                        rintro _ _ ⟨s9, rfl, rfl, hR9, hf9⟩
                        first | refine r_if_eqZ (pc := 158) (tgt := 164) dX6_qWordHere_158 (by decide) (fun h158 => ?_) (fun h158 => ?_) | refine r_if_eqN (pc := 158) (tgt := 164) dX6_qWordHere_158 (by decide) (by omega) (fun h158 => ?_) (fun h158 => ?_) | refine r_if_eq (pc := 158) (tgt := 164) dX6_qWordHere_158 (by decide) (fun h158 => ?_) (fun h158 => ?_)
                        · skip
                          refine r_ald0 (pc := 164) dX6_qWordHere_164 ?_
                          refine r_ald0 (pc := 165) dX6_qWordHere_165 ?_
                          refine m_getR hS (pc := 166) dX6_qWordHere_166 fl_X6_216 ar99 ?_
                          refine r_cV (pc := 169) dX6_qWordHere_169 cv_X6_260 hS.k (hereP hS hp hR9 ar99 (w := wThinks) (by decide) hf9) rfl rfl (Nat.le_of_ble_eq_true rfl) (by decide) ?_
                          rintro _ _ ⟨s10, rfl, rfl, hR10, hf10⟩
                          first | refine r_if_eqZ (pc := 172) (tgt := 178) dX6_qWordHere_172 (by decide) (fun h172 => ?_) (fun h172 => ?_) | refine r_if_eqN (pc := 172) (tgt := 178) dX6_qWordHere_172 (by decide) (by omega) (fun h172 => ?_) (fun h172 => ?_) | refine r_if_eq (pc := 172) (tgt := 178) dX6_qWordHere_172 (by decide) (fun h172 => ?_) (fun h172 => ?_)
                          · skip
                            refine r_ald0 (pc := 178) dX6_qWordHere_178 ?_
                            refine r_ald0 (pc := 179) dX6_qWordHere_179 ?_
                            refine m_getR hS (pc := 180) dX6_qWordHere_180 fl_X6_219 ar100 ?_
                            refine r_cV (pc := 183) dX6_qWordHere_183 cv_X6_260 hS.k (hereP hS hp hR10 ar100 (w := wBack) (by decide) hf10) rfl rfl (Nat.le_of_ble_eq_true rfl) (by decide) ?_
                            rintro _ _ ⟨s11, rfl, rfl, hR11, hf11⟩
                            first | refine r_if_eqZ (pc := 186) (tgt := 192) dX6_qWordHere_186 (by decide) (fun h186 => ?_) (fun h186 => ?_) | refine r_if_eqN (pc := 186) (tgt := 192) dX6_qWordHere_186 (by decide) (by omega) (fun h186 => ?_) (fun h186 => ?_) | refine r_if_eq (pc := 186) (tgt := 192) dX6_qWordHere_186 (by decide) (fun h186 => ?_) (fun h186 => ?_)
                            · skip
                              refine r_iconst (v := -1) (pc := 192) dX6_qWordHere_192 (by decide) ?_
                              refine r_iret (pc := 193) dX6_qWordHere_193 ?_
                              exact ⟨_, rfl, by rw [show whN x (word f n p) = none by unfold whN; rw [if_neg h8, if_neg h21, if_neg (fun q => hx3 q.1), if_neg h55, if_neg h68, if_neg h81, if_neg h94, if_neg (fun q => hx3 q.1), if_neg h130, if_neg h144, if_neg h158, if_neg h172, if_neg h186]]; rfl, hR11, hf11⟩
                            · skip
                              refine r_bipush (v := nI 12) (pc := 189) dX6_qWordHere_189 (by decide) ?_
                              refine r_iret (pc := 191) dX6_qWordHere_191 ?_
                              exact ⟨_, rfl, by rw [show whN x (word f n p) = some 12 by unfold whN; rw [if_neg h8, if_neg h21, if_neg (fun q => hx3 q.1), if_neg h55, if_neg h68, if_neg h81, if_neg h94, if_neg (fun q => hx3 q.1), if_neg h130, if_neg h144, if_neg h158, if_neg h172, if_pos h186]]; rfl, hR11, hf11⟩
                          · skip
                            refine r_bipush (v := nI 11) (pc := 175) dX6_qWordHere_175 (by decide) ?_
                            refine r_iret (pc := 177) dX6_qWordHere_177 ?_
                            exact ⟨_, rfl, by rw [show whN x (word f n p) = some 11 by unfold whN; rw [if_neg h8, if_neg h21, if_neg (fun q => hx3 q.1), if_neg h55, if_neg h68, if_neg h81, if_neg h94, if_neg (fun q => hx3 q.1), if_neg h130, if_neg h144, if_neg h158, if_pos h172]]; rfl, hR10, hf10⟩
                        · skip
                          refine r_bipush (v := nI 10) (pc := 161) dX6_qWordHere_161 (by decide) ?_
                          refine r_iret (pc := 163) dX6_qWordHere_163 ?_
                          exact ⟨_, rfl, by rw [show whN x (word f n p) = some 10 by unfold whN; rw [if_neg h8, if_neg h21, if_neg (fun q => hx3 q.1), if_neg h55, if_neg h68, if_neg h81, if_neg h94, if_neg (fun q => hx3 q.1), if_neg h130, if_neg h144, if_pos h158]]; rfl, hR9, hf9⟩
                      · skip
                        refine r_bipush (v := nI 9) (pc := 147) dX6_qWordHere_147 (by decide) ?_
                        refine r_iret (pc := 149) dX6_qWordHere_149 ?_
                        exact ⟨_, rfl, by rw [show whN x (word f n p) = some 9 by unfold whN; rw [if_neg h8, if_neg h21, if_neg (fun q => hx3 q.1), if_neg h55, if_neg h68, if_neg h81, if_neg h94, if_neg (fun q => hx3 q.1), if_neg h130, if_pos h144]]; rfl, hR8, hf8⟩
                    · skip
                      refine r_bipush (v := nI 8) (pc := 133) dX6_qWordHere_133 (by decide) ?_
                      refine r_iret (pc := 135) dX6_qWordHere_135 ?_
                      exact ⟨_, rfl, by rw [show whN x (word f n p) = some 8 by unfold whN; rw [if_neg h8, if_neg h21, if_neg (fun q => hx3 q.1), if_neg h55, if_neg h68, if_neg h81, if_neg h94, if_neg (fun q => hx3 q.1), if_pos h130]]; rfl, hR7, hf7⟩
                  · skip
                    exact absurd h105 (by omega)
                · skip
                  refine r_bipush (v := nI 6) (pc := 97) dX6_qWordHere_97 (by decide) ?_
                  refine r_iret (pc := 99) dX6_qWordHere_99 ?_
                  exact ⟨_, rfl, by rw [show whN x (word f n p) = some 6 by unfold whN; rw [if_neg h8, if_neg h21, if_neg (fun q => hx3 q.1), if_neg h55, if_neg h68, if_neg h81, if_pos h94]]; rfl, hR6, hf6⟩
              · skip
                refine r_iconst (v := nI 5) (pc := 84) dX6_qWordHere_84 (by decide) ?_
                refine r_iret (pc := 85) dX6_qWordHere_85 ?_
                exact ⟨_, rfl, by rw [show whN x (word f n p) = some 5 by unfold whN; rw [if_neg h8, if_neg h21, if_neg (fun q => hx3 q.1), if_neg h55, if_neg h68, if_pos h81]]; rfl, hR5, hf5⟩
            · skip
              refine r_iconst (v := nI 4) (pc := 71) dX6_qWordHere_71 (by decide) ?_
              refine r_iret (pc := 72) dX6_qWordHere_72 ?_
              exact ⟨_, rfl, by rw [show whN x (word f n p) = some 4 by unfold whN; rw [if_neg h8, if_neg h21, if_neg (fun q => hx3 q.1), if_neg h55, if_pos h68]]; rfl, hR4, hf4⟩
          · skip
            refine r_iconst (v := nI 3) (pc := 58) dX6_qWordHere_58 (by decide) ?_
            refine r_iret (pc := 59) dX6_qWordHere_59 ?_
            exact ⟨_, rfl, by rw [show whN x (word f n p) = some 3 by unfold whN; rw [if_neg h8, if_neg h21, if_neg (fun q => hx3 q.1), if_pos h55]]; rfl, hR3, hf3⟩
        · skip
          exact absurd h31 (by omega)
      · skip
        refine r_iconst (v := nI 1) (pc := 24) dX6_qWordHere_24 (by decide) ?_
        refine r_iret (pc := 25) dX6_qWordHere_25 ?_
        exact ⟨_, rfl, by rw [show whN x (word f n p) = some 1 by unfold whN; rw [if_neg h8, if_pos h21]]; rfl, hR2, hf2⟩
    · skip
      refine r_iconst (v := nI 0) (pc := 11) dX6_qWordHere_11 (by decide) ?_
      refine r_iret (pc := 12) dX6_qWordHere_12 ?_
      exact ⟨_, rfl, by rw [show whN x (word f n p) = some 0 by unfold whN; rw [if_pos h8]]; rfl, hR1, hf1⟩
theorem ct_X6_isAllowed {k : Nat} (hS : ShM g M o) (h54 : mF s 54 = nI x) (hx : x ≤ 3) (hk : k < 100) : Ct g yX6_isAllowed cX6_isAllowed 2 (some Jvm.ClassFile.FieldType.boolean) 0 0 0 [.ref o, .int (nI k)] (putM M o s) (PQ (putM M o s) (.int (zI (alwQ x k = true)))) noX := by
  refine Ct.of (by decide) (Nat.le_of_ble_eq_true rfl) rfl ?_
  have : x = 0 ∨ x = 1 ∨ x = 2 ∨ x = 3 := by omega
  rcases this with rfl | rfl | rfl | rfl
  · rw [show alwQ 0 k = decide (k < 6) from rfl]
    refine r_ald0 (pc := 0) dX6_isAllowed_0 ?_
    refine m_getI hS (pc := 1) dX6_isAllowed_1 fl_X6_295 ?_
    refine Bd.eqI h54 ?_
    refine r_tableIn (pc := 4) (tgt := 32) (off := 28) dX6_isAllowed_4 (by decide) (by decide) rfl (by decide) ?_
    refine r_ild1 (pc := 32) dX6_isAllowed_32 ?_
    refine r_bipush (v := nI 6) (pc := 33) dX6_isAllowed_33 (by decide) ?_
    first | refine r_icmp_geN (pc := 35) (tgt := 42) dX6_isAllowed_35 (by decide) (by omega) (by omega) (fun h35 => ?_) (fun h35 => ?_) | refine r_icmp_ge (pc := 35) (tgt := 42) dX6_isAllowed_35 (by decide) (fun h35 => ?_) (fun h35 => ?_)
    · skip
      refine r_iconst (v := nI 0) (pc := 42) dX6_isAllowed_42 (by decide) ?_
      refine r_zret (pc := 43) dX6_isAllowed_43 (by first | rfl | exact zI_nar | assumption) ?_
      first | exact ⟨by rw [zI_t (decide_eq_true (by omega))]; rfl, rfl⟩ | exact ⟨by rw [zI_f (fun q => absurd (of_decide_eq_true q) (by omega))]; rfl, rfl⟩
    · skip
      refine r_iconst (v := nI 1) (pc := 38) dX6_isAllowed_38 (by decide) ?_
      refine r_goto (pc := 39) (tgt := 43) dX6_isAllowed_39 (by decide) ?_
      refine r_zret (pc := 43) dX6_isAllowed_43 (by first | rfl | exact zI_nar | assumption) ?_
      first | exact ⟨by rw [zI_t (decide_eq_true (by omega))]; rfl, rfl⟩ | exact ⟨by rw [zI_f (fun q => absurd (of_decide_eq_true q) (by omega))]; rfl, rfl⟩
  · rw [show alwQ 1 k = decide (k < 4 ∨ k = 6) from rfl]
    refine r_ald0 (pc := 0) dX6_isAllowed_0 ?_
    refine m_getI hS (pc := 1) dX6_isAllowed_1 fl_X6_295 ?_
    refine Bd.eqI h54 ?_
    refine r_tableIn (pc := 4) (tgt := 44) (off := 40) dX6_isAllowed_4 (by decide) (by decide) rfl (by decide) ?_
    refine r_ild1 (pc := 44) dX6_isAllowed_44 ?_
    refine r_iconst (v := nI 4) (pc := 45) dX6_isAllowed_45 (by decide) ?_
    first | refine r_icmp_ltN (pc := 46) (tgt := 55) dX6_isAllowed_46 (by decide) (by omega) (by omega) (fun h46 => ?_) (fun h46 => ?_) | refine r_icmp_lt (pc := 46) (tgt := 55) dX6_isAllowed_46 (by decide) (fun h46 => ?_) (fun h46 => ?_)
    · skip
      refine r_iconst (v := nI 1) (pc := 55) dX6_isAllowed_55 (by decide) ?_
      refine r_goto (pc := 56) (tgt := 60) dX6_isAllowed_56 (by decide) ?_
      refine r_zret (pc := 60) dX6_isAllowed_60 (by first | rfl | exact zI_nar | assumption) ?_
      first | exact ⟨by rw [zI_t (decide_eq_true (by omega))]; rfl, rfl⟩ | exact ⟨by rw [zI_f (fun q => absurd (of_decide_eq_true q) (by omega))]; rfl, rfl⟩
    · skip
      refine r_ild1 (pc := 49) dX6_isAllowed_49 ?_
      refine r_bipush (v := nI 6) (pc := 50) dX6_isAllowed_50 (by decide) ?_
      first | refine r_icmp_neN (pc := 52) (tgt := 59) dX6_isAllowed_52 (by decide) (by omega) (by omega) (fun h52 => ?_) (fun h52 => ?_) | refine r_icmp_ne (pc := 52) (tgt := 59) dX6_isAllowed_52 (by decide) (fun h52 => ?_) (fun h52 => ?_)
      · skip
        refine r_iconst (v := nI 0) (pc := 59) dX6_isAllowed_59 (by decide) ?_
        refine r_zret (pc := 60) dX6_isAllowed_60 (by first | rfl | exact zI_nar | assumption) ?_
        first | exact ⟨by rw [zI_t (decide_eq_true (by omega))]; rfl, rfl⟩ | exact ⟨by rw [zI_f (fun q => absurd (of_decide_eq_true q) (by omega))]; rfl, rfl⟩
      · skip
        refine r_iconst (v := nI 1) (pc := 55) dX6_isAllowed_55 (by decide) ?_
        refine r_goto (pc := 56) (tgt := 60) dX6_isAllowed_56 (by decide) ?_
        refine r_zret (pc := 60) dX6_isAllowed_60 (by first | rfl | exact zI_nar | assumption) ?_
        first | exact ⟨by rw [zI_t (decide_eq_true (by omega))]; rfl, rfl⟩ | exact ⟨by rw [zI_f (fun q => absurd (of_decide_eq_true q) (by omega))]; rfl, rfl⟩
  · rw [show alwQ 2 k = decide (k < 4 ∨ k = 7) from rfl]
    refine r_ald0 (pc := 0) dX6_isAllowed_0 ?_
    refine m_getI hS (pc := 1) dX6_isAllowed_1 fl_X6_295 ?_
    refine Bd.eqI h54 ?_
    refine r_tableIn (pc := 4) (tgt := 61) (off := 57) dX6_isAllowed_4 (by decide) (by decide) rfl (by decide) ?_
    refine r_ild1 (pc := 61) dX6_isAllowed_61 ?_
    refine r_iconst (v := nI 4) (pc := 62) dX6_isAllowed_62 (by decide) ?_
    first | refine r_icmp_ltN (pc := 63) (tgt := 72) dX6_isAllowed_63 (by decide) (by omega) (by omega) (fun h63 => ?_) (fun h63 => ?_) | refine r_icmp_lt (pc := 63) (tgt := 72) dX6_isAllowed_63 (by decide) (fun h63 => ?_) (fun h63 => ?_)
    · skip
      refine r_iconst (v := nI 1) (pc := 72) dX6_isAllowed_72 (by decide) ?_
      refine r_goto (pc := 73) (tgt := 77) dX6_isAllowed_73 (by decide) ?_
      refine r_zret (pc := 77) dX6_isAllowed_77 (by first | rfl | exact zI_nar | assumption) ?_
      first | exact ⟨by rw [zI_t (decide_eq_true (by omega))]; rfl, rfl⟩ | exact ⟨by rw [zI_f (fun q => absurd (of_decide_eq_true q) (by omega))]; rfl, rfl⟩
    · skip
      refine r_ild1 (pc := 66) dX6_isAllowed_66 ?_
      refine r_bipush (v := nI 7) (pc := 67) dX6_isAllowed_67 (by decide) ?_
      first | refine r_icmp_neN (pc := 69) (tgt := 76) dX6_isAllowed_69 (by decide) (by omega) (by omega) (fun h69 => ?_) (fun h69 => ?_) | refine r_icmp_ne (pc := 69) (tgt := 76) dX6_isAllowed_69 (by decide) (fun h69 => ?_) (fun h69 => ?_)
      · skip
        refine r_iconst (v := nI 0) (pc := 76) dX6_isAllowed_76 (by decide) ?_
        refine r_zret (pc := 77) dX6_isAllowed_77 (by first | rfl | exact zI_nar | assumption) ?_
        first | exact ⟨by rw [zI_t (decide_eq_true (by omega))]; rfl, rfl⟩ | exact ⟨by rw [zI_f (fun q => absurd (of_decide_eq_true q) (by omega))]; rfl, rfl⟩
      · skip
        refine r_iconst (v := nI 1) (pc := 72) dX6_isAllowed_72 (by decide) ?_
        refine r_goto (pc := 73) (tgt := 77) dX6_isAllowed_73 (by decide) ?_
        refine r_zret (pc := 77) dX6_isAllowed_77 (by first | rfl | exact zI_nar | assumption) ?_
        first | exact ⟨by rw [zI_t (decide_eq_true (by omega))]; rfl, rfl⟩ | exact ⟨by rw [zI_f (fun q => absurd (of_decide_eq_true q) (by omega))]; rfl, rfl⟩
  · rw [show alwQ 3 k = decide (k < 2 ∨ k = 3 ∨ k = 4 ∨ 7 < k) from rfl]
    refine r_ald0 (pc := 0) dX6_isAllowed_0 ?_
    refine m_getI hS (pc := 1) dX6_isAllowed_1 fl_X6_295 ?_
    refine Bd.eqI h54 ?_
    refine r_tableOut (pc := 4) (tgt := 78) dX6_isAllowed_4 (by first | decide | assumption) (by decide) ?_
    refine r_ild1 (pc := 78) dX6_isAllowed_78 ?_
    refine r_iconst (v := nI 2) (pc := 79) dX6_isAllowed_79 (by decide) ?_
    first | refine r_icmp_ltN (pc := 80) (tgt := 99) dX6_isAllowed_80 (by decide) (by omega) (by omega) (fun h80 => ?_) (fun h80 => ?_) | refine r_icmp_lt (pc := 80) (tgt := 99) dX6_isAllowed_80 (by decide) (fun h80 => ?_) (fun h80 => ?_)
    · skip
      refine r_iconst (v := nI 1) (pc := 99) dX6_isAllowed_99 (by decide) ?_
      refine r_goto (pc := 100) (tgt := 104) dX6_isAllowed_100 (by decide) ?_
      refine r_zret (pc := 104) dX6_isAllowed_104 (by first | rfl | exact zI_nar | assumption) ?_
      first | exact ⟨by rw [zI_t (decide_eq_true (by omega))]; rfl, rfl⟩ | exact ⟨by rw [zI_f (fun q => absurd (of_decide_eq_true q) (by omega))]; rfl, rfl⟩
    · skip
      refine r_ild1 (pc := 83) dX6_isAllowed_83 ?_
      refine r_iconst (v := nI 3) (pc := 84) dX6_isAllowed_84 (by decide) ?_
      first | refine r_icmp_eqN (pc := 85) (tgt := 99) dX6_isAllowed_85 (by decide) (by omega) (by omega) (fun h85 => ?_) (fun h85 => ?_) | refine r_icmp_eq (pc := 85) (tgt := 99) dX6_isAllowed_85 (by decide) (fun h85 => ?_) (fun h85 => ?_)
      · skip
        refine r_iconst (v := nI 1) (pc := 99) dX6_isAllowed_99 (by decide) ?_
        refine r_goto (pc := 100) (tgt := 104) dX6_isAllowed_100 (by decide) ?_
        refine r_zret (pc := 104) dX6_isAllowed_104 (by first | rfl | exact zI_nar | assumption) ?_
        first | exact ⟨by rw [zI_t (decide_eq_true (by omega))]; rfl, rfl⟩ | exact ⟨by rw [zI_f (fun q => absurd (of_decide_eq_true q) (by omega))]; rfl, rfl⟩
      · skip
        refine r_ild1 (pc := 88) dX6_isAllowed_88 ?_
        refine r_iconst (v := nI 4) (pc := 89) dX6_isAllowed_89 (by decide) ?_
        first | refine r_icmp_eqN (pc := 90) (tgt := 99) dX6_isAllowed_90 (by decide) (by omega) (by omega) (fun h90 => ?_) (fun h90 => ?_) | refine r_icmp_eq (pc := 90) (tgt := 99) dX6_isAllowed_90 (by decide) (fun h90 => ?_) (fun h90 => ?_)
        · skip
          refine r_iconst (v := nI 1) (pc := 99) dX6_isAllowed_99 (by decide) ?_
          refine r_goto (pc := 100) (tgt := 104) dX6_isAllowed_100 (by decide) ?_
          refine r_zret (pc := 104) dX6_isAllowed_104 (by first | rfl | exact zI_nar | assumption) ?_
          first | exact ⟨by rw [zI_t (decide_eq_true (by omega))]; rfl, rfl⟩ | exact ⟨by rw [zI_f (fun q => absurd (of_decide_eq_true q) (by omega))]; rfl, rfl⟩
        · skip
          refine r_ild1 (pc := 93) dX6_isAllowed_93 ?_
          refine r_bipush (v := nI 7) (pc := 94) dX6_isAllowed_94 (by decide) ?_
          first | refine r_icmp_leN (pc := 96) (tgt := 103) dX6_isAllowed_96 (by decide) (by omega) (by omega) (fun h96 => ?_) (fun h96 => ?_) | refine r_icmp_le (pc := 96) (tgt := 103) dX6_isAllowed_96 (by decide) (fun h96 => ?_) (fun h96 => ?_)
          · skip
            refine r_iconst (v := nI 0) (pc := 103) dX6_isAllowed_103 (by decide) ?_
            refine r_zret (pc := 104) dX6_isAllowed_104 (by first | rfl | exact zI_nar | assumption) ?_
            first | exact ⟨by rw [zI_t (decide_eq_true (by omega))]; rfl, rfl⟩ | exact ⟨by rw [zI_f (fun q => absurd (of_decide_eq_true q) (by omega))]; rfl, rfl⟩
          · skip
            refine r_iconst (v := nI 1) (pc := 99) dX6_isAllowed_99 (by decide) ?_
            refine r_goto (pc := 100) (tgt := 104) dX6_isAllowed_100 (by decide) ?_
            refine r_zret (pc := 104) dX6_isAllowed_104 (by first | rfl | exact zI_nar | assumption) ?_
            first | exact ⟨by rw [zI_t (decide_eq_true (by omega))]; rfl, rfl⟩ | exact ⟨by rw [zI_f (fun q => absurd (of_decide_eq_true q) (by omega))]; rfl, rfl⟩
def awK : Nat → List Nat
  | 0 => wFace
  | 1 => wKind
  | 2 => wThinks
  | 3 => wYear
  | 4 => wLook
  | 5 => wSide
  | 6 => wGain
  | 7 => wBack
  | 8 => wNumber
  | 9 => wHouse
  | 10 => wSpares
  | 11 => wThinks
  | _ => wBack
theorem whN_both {w : Option (List Nat)} {k : Nat} (h : whN x w = some k) : w = some (awK k) ∧ k < 13 := by
  unfold whN at h
  by_cases c0 : w = some wFace
  · rw [if_pos c0] at h; cases h; exact ⟨c0, by decide⟩
  rw [if_neg c0] at h
  by_cases c1 : w = some wKind
  · rw [if_pos c1] at h; cases h; exact ⟨c1, by decide⟩
  rw [if_neg c1] at h
  by_cases c2 : x < 3 ∧ w = some wThinks
  · rw [if_pos c2] at h; cases h; exact ⟨c2.2, by decide⟩
  rw [if_neg c2] at h
  by_cases c3 : w = some wYear
  · rw [if_pos c3] at h; cases h; exact ⟨c3, by decide⟩
  rw [if_neg c3] at h
  by_cases c4 : w = some wLook
  · rw [if_pos c4] at h; cases h; exact ⟨c4, by decide⟩
  rw [if_neg c4] at h
  by_cases c5 : w = some wSide
  · rw [if_pos c5] at h; cases h; exact ⟨c5, by decide⟩
  rw [if_neg c5] at h
  by_cases c6 : w = some wGain
  · rw [if_pos c6] at h; cases h; exact ⟨c6, by decide⟩
  rw [if_neg c6] at h
  by_cases c7 : x < 3 ∧ w = some wBack
  · rw [if_pos c7] at h; cases h; exact ⟨c7.2, by decide⟩
  rw [if_neg c7] at h
  by_cases c8 : w = some wNumber
  · rw [if_pos c8] at h; cases h; exact ⟨c8, by decide⟩
  rw [if_neg c8] at h
  by_cases c9 : w = some wHouse
  · rw [if_pos c9] at h; cases h; exact ⟨c9, by decide⟩
  rw [if_neg c9] at h
  by_cases c10 : w = some wSpares
  · rw [if_pos c10] at h; cases h; exact ⟨c10, by decide⟩
  rw [if_neg c10] at h
  by_cases c11 : w = some wThinks
  · rw [if_pos c11] at h; cases h; exact ⟨c11, by decide⟩
  rw [if_neg c11] at h
  by_cases c12 : w = some wBack
  · rw [if_pos c12] at h; cases h; exact ⟨c12, by decide⟩
  rw [if_neg c12] at h
  cases h
theorem whN_lt {w : Option (List Nat)} {k : Nat} (h : whN x w = some k) : k < 13 := (whN_both h).2
theorem whN_aw {w : Option (List Nat)} {k : Nat} (h : whN x w = some k) : w = some (awK k) := (whN_both h).1
theorem ct_X6_qWordOf {p lo hi : Nat} (hS : ShM g M o) (hR : RP s f n p) (hp : skip f n p = p) (h54 : mF s 54 = nI x) (hx : x ≤ 3) (hlo : lo ≤ 100) (hhi : hi ≤ 100) :
    Ct g yX6_qWordOf cX6_qWordOf 4 (some Jvm.ClassFile.FieldType.int) 3 0 0 [.ref o, .int (nI lo), .int (nI hi)] (putM M o s) (QM M o (fun r s' => r = some (.int (oI (wrdO x lo hi (word f n p)))) ∧ RP s' f n p ∧ Fr [2] [] [] [] s s')) noX := by
  have hwh := ct_X6_qWordHere hS hR hp h54 hx
  refine Ct.of (by decide) (Nat.le_of_ble_eq_true rfl) rfl ?_
  unfold wrdO
  cases hw : whN x (word f n p) with
  | none =>
    rw [hw] at hwh
    refine r_ald0 (pc := 0) dX6_qWordOf_0 ?_
    refine r_cV (pc := 1) dX6_qWordOf_1 cv_X6_608 hS.k hwh rfl rfl (Nat.le_of_ble_eq_true rfl) (by decide) ?_
    rintro _ _ ⟨s1, rfl, rfl, hR1, hf1⟩
    refine r_ist3 (pc := 4) dX6_qWordOf_4 ?_
    refine r_ild3 (pc := 5) dX6_qWordOf_5 ?_
    refine r_ild1 (pc := 6) dX6_qWordOf_6 ?_
    refine r_icmp_lt (pc := 7) (tgt := 27) dX6_qWordOf_7 (by decide) (fun h7 => ?_) (fun h7 => ?_)
    · skip
      refine r_iconst (v := -1) (pc := 27) dX6_qWordOf_27 (by decide) ?_
      refine r_iret (pc := 28) dX6_qWordOf_28 ?_
      exact ⟨_, rfl, rfl, hR1, hf1⟩
    · skip
      exact absurd ((kI_lt (m := 0) (by decide) (by omega)).mpr (Nat.zero_le lo)) h7
  | some k =>
    rw [hw] at hwh
    have hk : k < 13 := whN_lt hw
    have e : oI (some k) = nI k := rfl
    rw [e] at hwh
    show Bd g yX6_qWordOf cX6_qWordOf 4 (some Jvm.ClassFile.FieldType.int) [] 3 0 0 _ _ _ _ (QM M o (fun r s' => r = some (.int (oI (if lo ≤ k ∧ k < hi ∧ alwQ x k = true then some k else none))) ∧ RP s' f n p ∧ Fr [2] [] [] [] s s')) noX
    refine r_ald0 (pc := 0) dX6_qWordOf_0 ?_
    refine r_cV (pc := 1) dX6_qWordOf_1 cv_X6_608 hS.k hwh rfl rfl (Nat.le_of_ble_eq_true rfl) (by decide) ?_
    rintro _ _ ⟨s1, rfl, rfl, hR1, hf1⟩
    refine r_ist3 (pc := 4) dX6_qWordOf_4 ?_
    refine r_ild3 (pc := 5) dX6_qWordOf_5 ?_
    refine r_ild1 (pc := 6) dX6_qWordOf_6 ?_
    first | refine r_icmp_ltN (pc := 7) (tgt := 27) dX6_qWordOf_7 (by decide) (by omega) (by omega) (fun h7 => ?_) (fun h7 => ?_) | refine r_icmp_lt (pc := 7) (tgt := 27) dX6_qWordOf_7 (by decide) (fun h7 => ?_) (fun h7 => ?_)
    · skip
      refine r_iconst (v := -1) (pc := 27) dX6_qWordOf_27 (by decide) ?_
      refine r_iret (pc := 28) dX6_qWordOf_28 ?_
      first | exact ⟨_, rfl, by rw [if_pos ⟨by omega, by omega, h20⟩]; rfl, hR1, hf1⟩ | exact ⟨_, rfl, by rw [if_neg (fun q => h20 q.2.2)]; rfl, hR1, hf1⟩ | exact ⟨_, rfl, by rw [if_neg (by omega)]; rfl, hR1, hf1⟩
    · skip
      refine r_ild3 (pc := 10) dX6_qWordOf_10 ?_
      refine r_ild2 (pc := 11) dX6_qWordOf_11 ?_
      first | refine r_icmp_geN (pc := 12) (tgt := 27) dX6_qWordOf_12 (by decide) (by omega) (by omega) (fun h12 => ?_) (fun h12 => ?_) | refine r_icmp_ge (pc := 12) (tgt := 27) dX6_qWordOf_12 (by decide) (fun h12 => ?_) (fun h12 => ?_)
      · skip
        refine r_iconst (v := -1) (pc := 27) dX6_qWordOf_27 (by decide) ?_
        refine r_iret (pc := 28) dX6_qWordOf_28 ?_
        first | exact ⟨_, rfl, by rw [if_pos ⟨by omega, by omega, h20⟩]; rfl, hR1, hf1⟩ | exact ⟨_, rfl, by rw [if_neg (fun q => h20 q.2.2)]; rfl, hR1, hf1⟩ | exact ⟨_, rfl, by rw [if_neg (by omega)]; rfl, hR1, hf1⟩
      · skip
        refine r_ald0 (pc := 15) dX6_qWordOf_15 ?_
        refine r_ild3 (pc := 16) dX6_qWordOf_16 ?_
        refine r_cV (pc := 17) dX6_qWordOf_17 cv_X6_611 hS.k (ct_X6_isAllowed hS ((hf1.1 54 (by decide)).trans h54) hx (by omega)) rfl rfl (Nat.le_of_ble_eq_true rfl) (by decide) ?_
        rintro _ _ ⟨rfl, rfl⟩
        first | refine r_if_eqZ (pc := 20) (tgt := 27) dX6_qWordOf_20 (by decide) (fun h20 => ?_) (fun h20 => ?_) | refine r_if_eqN (pc := 20) (tgt := 27) dX6_qWordOf_20 (by decide) (by omega) (fun h20 => ?_) (fun h20 => ?_) | refine r_if_eq (pc := 20) (tgt := 27) dX6_qWordOf_20 (by decide) (fun h20 => ?_) (fun h20 => ?_)
        · skip
          refine r_iconst (v := -1) (pc := 27) dX6_qWordOf_27 (by decide) ?_
          refine r_iret (pc := 28) dX6_qWordOf_28 ?_
          first | exact ⟨_, rfl, by rw [if_pos ⟨by omega, by omega, h20⟩]; rfl, hR1, hf1⟩ | exact ⟨_, rfl, by rw [if_neg (fun q => h20 q.2.2)]; rfl, hR1, hf1⟩ | exact ⟨_, rfl, by rw [if_neg (by omega)]; rfl, hR1, hf1⟩
        · skip
          refine r_ild3 (pc := 23) dX6_qWordOf_23 ?_
          refine r_goto (pc := 24) (tgt := 28) dX6_qWordOf_24 (by decide) ?_
          refine r_iret (pc := 28) dX6_qWordOf_28 ?_
          first | exact ⟨_, rfl, by rw [if_pos ⟨by omega, by omega, h20⟩]; rfl, hR1, hf1⟩ | exact ⟨_, rfl, by rw [if_neg (fun q => h20 q.2.2)]; rfl, hR1, hf1⟩ | exact ⟨_, rfl, by rw [if_neg (by omega)]; rfl, hR1, hf1⟩
theorem kw_at {p : Nat} {w : List Nat} (hp : skip f n p = p) (hw : word f n p = some w) : kwP f n w p = .ok (p + w.length) := by
  unfold kwP; rw [hp, if_pos hw]
theorem ct_X6_qAsksWord {p k : Nat} (hS : ShM g M o) (hR : RP s f n p) (hp : skip f n p = p) (hk : k < 13) (hw : word f n p = some (awK k)) :
    Ct g yX6_qAsksWord cX6_qAsksWord 2 none 4 0 0 [.ref o, .int (nI k)] (putM M o s) (QM M o (fun r s' => r = none ∧ RP s' f n (p + (awK k).length) ∧ Fr [2, 4, 5, 6] [] [] [] s s')) noX := by
  have key : ∀ {i c : Nat} {w : List Nat}, AR i c 5 w.length → (i, w) ∈ wdT → word f n p = some w → Ct g yX6_asks cX6_asks 2 none 3 0 0 [.ref o, .ref (o + c)] (putM M o s) (QM M o (fun r s' => r = none ∧ RP s' f n (p + w.length) ∧ Fr [2, 4, 5, 6] [] [] [] s s')) noX := by
    intro i c w h1 h2 h3
    have := ct_X6_asks hS hR h1 h2
    rw [kw_at hp h3] at this
    exact this
  refine Ct.of (by decide) (Nat.le_of_ble_eq_true rfl) rfl ?_
  have : k = 0 ∨ k = 1 ∨ k = 2 ∨ k = 3 ∨ k = 4 ∨ k = 5 ∨ k = 6 ∨ k = 7 ∨ k = 8 ∨ k = 9 ∨ k = 10 ∨ k = 11 ∨ k = 12 := by omega
  rcases this with rfl | rfl | rfl | rfl | rfl | rfl | rfl | rfl | rfl | rfl | rfl | rfl | rfl
  · skip
    refine r_ild1 (pc := 0) dX6_qAsksWord_0 ?_
    refine r_tableIn (pc := 1) (tgt := 64) (off := 63) dX6_qAsksWord_1 (by decide) (by decide) rfl (by decide) ?_
    refine r_ald0 (pc := 64) dX6_qAsksWord_64 ?_
    refine r_ald0 (pc := 65) dX6_qAsksWord_65 ?_
    refine m_getR hS (pc := 66) dX6_qAsksWord_66 fl_X6_183 ar88 ?_
    refine r_cV (pc := 69) dX6_qAsksWord_69 cv_X6_309 hS.k (key ar88 (w := wFace) (by decide) hw) rfl rfl (Nat.le_of_ble_eq_true rfl) (by decide) ?_
    rintro _ _ ⟨s1, rfl, rfl, hR1, hf1⟩
    refine r_goto (pc := 72) (tgt := 204) dX6_qAsksWord_72 (by decide) ?_
    refine r_vret (pc := 204) dX6_qAsksWord_204 ?_
    exact ⟨_, rfl, rfl, hR1, hf1⟩
  · skip
    refine r_ild1 (pc := 0) dX6_qAsksWord_0 ?_
    refine r_tableIn (pc := 1) (tgt := 75) (off := 74) dX6_qAsksWord_1 (by decide) (by decide) rfl (by decide) ?_
    refine r_ald0 (pc := 75) dX6_qAsksWord_75 ?_
    refine r_ald0 (pc := 76) dX6_qAsksWord_76 ?_
    refine m_getR hS (pc := 77) dX6_qAsksWord_77 fl_X6_186 ar89 ?_
    refine r_cV (pc := 80) dX6_qAsksWord_80 cv_X6_309 hS.k (key ar89 (w := wKind) (by decide) hw) rfl rfl (Nat.le_of_ble_eq_true rfl) (by decide) ?_
    rintro _ _ ⟨s1, rfl, rfl, hR1, hf1⟩
    refine r_goto (pc := 83) (tgt := 204) dX6_qAsksWord_83 (by decide) ?_
    refine r_vret (pc := 204) dX6_qAsksWord_204 ?_
    exact ⟨_, rfl, rfl, hR1, hf1⟩
  · skip
    refine r_ild1 (pc := 0) dX6_qAsksWord_0 ?_
    refine r_tableIn (pc := 1) (tgt := 86) (off := 85) dX6_qAsksWord_1 (by decide) (by decide) rfl (by decide) ?_
    refine r_ald0 (pc := 86) dX6_qAsksWord_86 ?_
    refine r_ald0 (pc := 87) dX6_qAsksWord_87 ?_
    refine m_getR hS (pc := 88) dX6_qAsksWord_88 fl_X6_189 ar90 ?_
    refine r_cV (pc := 91) dX6_qAsksWord_91 cv_X6_309 hS.k (key ar90 (w := wThinks) (by decide) hw) rfl rfl (Nat.le_of_ble_eq_true rfl) (by decide) ?_
    rintro _ _ ⟨s1, rfl, rfl, hR1, hf1⟩
    refine r_goto (pc := 94) (tgt := 204) dX6_qAsksWord_94 (by decide) ?_
    refine r_vret (pc := 204) dX6_qAsksWord_204 ?_
    exact ⟨_, rfl, rfl, hR1, hf1⟩
  · skip
    refine r_ild1 (pc := 0) dX6_qAsksWord_0 ?_
    refine r_tableIn (pc := 1) (tgt := 97) (off := 96) dX6_qAsksWord_1 (by decide) (by decide) rfl (by decide) ?_
    refine r_ald0 (pc := 97) dX6_qAsksWord_97 ?_
    refine r_ald0 (pc := 98) dX6_qAsksWord_98 ?_
    refine m_getR hS (pc := 99) dX6_qAsksWord_99 fl_X6_192 ar91 ?_
    refine r_cV (pc := 102) dX6_qAsksWord_102 cv_X6_309 hS.k (key ar91 (w := wYear) (by decide) hw) rfl rfl (Nat.le_of_ble_eq_true rfl) (by decide) ?_
    rintro _ _ ⟨s1, rfl, rfl, hR1, hf1⟩
    refine r_goto (pc := 105) (tgt := 204) dX6_qAsksWord_105 (by decide) ?_
    refine r_vret (pc := 204) dX6_qAsksWord_204 ?_
    exact ⟨_, rfl, rfl, hR1, hf1⟩
  · skip
    refine r_ild1 (pc := 0) dX6_qAsksWord_0 ?_
    refine r_tableIn (pc := 1) (tgt := 108) (off := 107) dX6_qAsksWord_1 (by decide) (by decide) rfl (by decide) ?_
    refine r_ald0 (pc := 108) dX6_qAsksWord_108 ?_
    refine r_ald0 (pc := 109) dX6_qAsksWord_109 ?_
    refine m_getR hS (pc := 110) dX6_qAsksWord_110 fl_X6_195 ar92 ?_
    refine r_cV (pc := 113) dX6_qAsksWord_113 cv_X6_309 hS.k (key ar92 (w := wLook) (by decide) hw) rfl rfl (Nat.le_of_ble_eq_true rfl) (by decide) ?_
    rintro _ _ ⟨s1, rfl, rfl, hR1, hf1⟩
    refine r_goto (pc := 116) (tgt := 204) dX6_qAsksWord_116 (by decide) ?_
    refine r_vret (pc := 204) dX6_qAsksWord_204 ?_
    exact ⟨_, rfl, rfl, hR1, hf1⟩
  · skip
    refine r_ild1 (pc := 0) dX6_qAsksWord_0 ?_
    refine r_tableIn (pc := 1) (tgt := 119) (off := 118) dX6_qAsksWord_1 (by decide) (by decide) rfl (by decide) ?_
    refine r_ald0 (pc := 119) dX6_qAsksWord_119 ?_
    refine r_ald0 (pc := 120) dX6_qAsksWord_120 ?_
    refine m_getR hS (pc := 121) dX6_qAsksWord_121 fl_X6_198 ar93 ?_
    refine r_cV (pc := 124) dX6_qAsksWord_124 cv_X6_309 hS.k (key ar93 (w := wSide) (by decide) hw) rfl rfl (Nat.le_of_ble_eq_true rfl) (by decide) ?_
    rintro _ _ ⟨s1, rfl, rfl, hR1, hf1⟩
    refine r_goto (pc := 127) (tgt := 204) dX6_qAsksWord_127 (by decide) ?_
    refine r_vret (pc := 204) dX6_qAsksWord_204 ?_
    exact ⟨_, rfl, rfl, hR1, hf1⟩
  · skip
    refine r_ild1 (pc := 0) dX6_qAsksWord_0 ?_
    refine r_tableIn (pc := 1) (tgt := 130) (off := 129) dX6_qAsksWord_1 (by decide) (by decide) rfl (by decide) ?_
    refine r_ald0 (pc := 130) dX6_qAsksWord_130 ?_
    refine r_ald0 (pc := 131) dX6_qAsksWord_131 ?_
    refine m_getR hS (pc := 132) dX6_qAsksWord_132 fl_X6_201 ar94 ?_
    refine r_cV (pc := 135) dX6_qAsksWord_135 cv_X6_309 hS.k (key ar94 (w := wGain) (by decide) hw) rfl rfl (Nat.le_of_ble_eq_true rfl) (by decide) ?_
    rintro _ _ ⟨s1, rfl, rfl, hR1, hf1⟩
    refine r_goto (pc := 138) (tgt := 204) dX6_qAsksWord_138 (by decide) ?_
    refine r_vret (pc := 204) dX6_qAsksWord_204 ?_
    exact ⟨_, rfl, rfl, hR1, hf1⟩
  · skip
    refine r_ild1 (pc := 0) dX6_qAsksWord_0 ?_
    refine r_tableIn (pc := 1) (tgt := 141) (off := 140) dX6_qAsksWord_1 (by decide) (by decide) rfl (by decide) ?_
    refine r_ald0 (pc := 141) dX6_qAsksWord_141 ?_
    refine r_ald0 (pc := 142) dX6_qAsksWord_142 ?_
    refine m_getR hS (pc := 143) dX6_qAsksWord_143 fl_X6_204 ar95 ?_
    refine r_cV (pc := 146) dX6_qAsksWord_146 cv_X6_309 hS.k (key ar95 (w := wBack) (by decide) hw) rfl rfl (Nat.le_of_ble_eq_true rfl) (by decide) ?_
    rintro _ _ ⟨s1, rfl, rfl, hR1, hf1⟩
    refine r_goto (pc := 149) (tgt := 204) dX6_qAsksWord_149 (by decide) ?_
    refine r_vret (pc := 204) dX6_qAsksWord_204 ?_
    exact ⟨_, rfl, rfl, hR1, hf1⟩
  · skip
    refine r_ild1 (pc := 0) dX6_qAsksWord_0 ?_
    refine r_tableIn (pc := 1) (tgt := 152) (off := 151) dX6_qAsksWord_1 (by decide) (by decide) rfl (by decide) ?_
    refine r_ald0 (pc := 152) dX6_qAsksWord_152 ?_
    refine r_ald0 (pc := 153) dX6_qAsksWord_153 ?_
    refine m_getR hS (pc := 154) dX6_qAsksWord_154 fl_X6_207 ar96 ?_
    refine r_cV (pc := 157) dX6_qAsksWord_157 cv_X6_309 hS.k (key ar96 (w := wNumber) (by decide) hw) rfl rfl (Nat.le_of_ble_eq_true rfl) (by decide) ?_
    rintro _ _ ⟨s1, rfl, rfl, hR1, hf1⟩
    refine r_goto (pc := 160) (tgt := 204) dX6_qAsksWord_160 (by decide) ?_
    refine r_vret (pc := 204) dX6_qAsksWord_204 ?_
    exact ⟨_, rfl, rfl, hR1, hf1⟩
  · skip
    refine r_ild1 (pc := 0) dX6_qAsksWord_0 ?_
    refine r_tableIn (pc := 1) (tgt := 163) (off := 162) dX6_qAsksWord_1 (by decide) (by decide) rfl (by decide) ?_
    refine r_ald0 (pc := 163) dX6_qAsksWord_163 ?_
    refine r_ald0 (pc := 164) dX6_qAsksWord_164 ?_
    refine m_getR hS (pc := 165) dX6_qAsksWord_165 fl_X6_210 ar97 ?_
    refine r_cV (pc := 168) dX6_qAsksWord_168 cv_X6_309 hS.k (key ar97 (w := wHouse) (by decide) hw) rfl rfl (Nat.le_of_ble_eq_true rfl) (by decide) ?_
    rintro _ _ ⟨s1, rfl, rfl, hR1, hf1⟩
    refine r_goto (pc := 171) (tgt := 204) dX6_qAsksWord_171 (by decide) ?_
    refine r_vret (pc := 204) dX6_qAsksWord_204 ?_
    exact ⟨_, rfl, rfl, hR1, hf1⟩
  · skip
    refine r_ild1 (pc := 0) dX6_qAsksWord_0 ?_
    refine r_tableIn (pc := 1) (tgt := 174) (off := 173) dX6_qAsksWord_1 (by decide) (by decide) rfl (by decide) ?_
    refine r_ald0 (pc := 174) dX6_qAsksWord_174 ?_
    refine r_ald0 (pc := 175) dX6_qAsksWord_175 ?_
    refine m_getR hS (pc := 176) dX6_qAsksWord_176 fl_X6_213 ar98 ?_
    refine r_cV (pc := 179) dX6_qAsksWord_179 cv_X6_309 hS.k (key ar98 (w := wSpares) (by decide) hw) rfl rfl (Nat.le_of_ble_eq_true rfl) (by decide) ?_
    rintro _ _ ⟨s1, rfl, rfl, hR1, hf1⟩
    refine r_goto (pc := 182) (tgt := 204) dX6_qAsksWord_182 (by decide) ?_
    refine r_vret (pc := 204) dX6_qAsksWord_204 ?_
    exact ⟨_, rfl, rfl, hR1, hf1⟩
  · skip
    refine r_ild1 (pc := 0) dX6_qAsksWord_0 ?_
    refine r_tableIn (pc := 1) (tgt := 185) (off := 184) dX6_qAsksWord_1 (by decide) (by decide) rfl (by decide) ?_
    refine r_ald0 (pc := 185) dX6_qAsksWord_185 ?_
    refine r_ald0 (pc := 186) dX6_qAsksWord_186 ?_
    refine m_getR hS (pc := 187) dX6_qAsksWord_187 fl_X6_216 ar99 ?_
    refine r_cV (pc := 190) dX6_qAsksWord_190 cv_X6_309 hS.k (key ar99 (w := wThinks) (by decide) hw) rfl rfl (Nat.le_of_ble_eq_true rfl) (by decide) ?_
    rintro _ _ ⟨s1, rfl, rfl, hR1, hf1⟩
    refine r_goto (pc := 193) (tgt := 204) dX6_qAsksWord_193 (by decide) ?_
    refine r_vret (pc := 204) dX6_qAsksWord_204 ?_
    exact ⟨_, rfl, rfl, hR1, hf1⟩
  · skip
    refine r_ild1 (pc := 0) dX6_qAsksWord_0 ?_
    refine r_tableOut (pc := 1) (tgt := 196) dX6_qAsksWord_1 (by first | decide | assumption) (by decide) ?_
    refine r_ald0 (pc := 196) dX6_qAsksWord_196 ?_
    refine r_ald0 (pc := 197) dX6_qAsksWord_197 ?_
    refine m_getR hS (pc := 198) dX6_qAsksWord_198 fl_X6_219 ar100 ?_
    refine r_cV (pc := 201) dX6_qAsksWord_201 cv_X6_309 hS.k (key ar100 (w := wBack) (by decide) hw) rfl rfl (Nat.le_of_ble_eq_true rfl) (by decide) ?_
    rintro _ _ ⟨s1, rfl, rfl, hR1, hf1⟩
    refine r_vret (pc := 204) dX6_qAsksWord_204 ?_
    exact ⟨_, rfl, rfl, hR1, hf1⟩
theorem ct_X6_qAsksWordB {k : Nat} (hS : ShM g M o) (hb : mF s 5 ≠ nI 0) (hk : k < 13) : Ct g yX6_qAsksWord cX6_qAsksWord 2 none 4 0 0 [.ref o, .int (nI k)] (putM M o s) (VQ (putM M o s)) noX := by
  refine Ct.of (by decide) (Nat.le_of_ble_eq_true rfl) rfl ?_
  have : k = 0 ∨ k = 1 ∨ k = 2 ∨ k = 3 ∨ k = 4 ∨ k = 5 ∨ k = 6 ∨ k = 7 ∨ k = 8 ∨ k = 9 ∨ k = 10 ∨ k = 11 ∨ k = 12 := by omega
  rcases this with rfl | rfl | rfl | rfl | rfl | rfl | rfl | rfl | rfl | rfl | rfl | rfl | rfl
  · skip
    refine r_ild1 (pc := 0) dX6_qAsksWord_0 ?_
    refine r_tableIn (pc := 1) (tgt := 64) (off := 63) dX6_qAsksWord_1 (by decide) (by decide) rfl (by decide) ?_
    refine r_ald0 (pc := 64) dX6_qAsksWord_64 ?_
    refine r_ald0 (pc := 65) dX6_qAsksWord_65 ?_
    refine m_getR hS (pc := 66) dX6_qAsksWord_66 fl_X6_183 ar88 ?_
    refine r_cV (pc := 69) dX6_qAsksWord_69 cv_X6_309 hS.k (ct_X6_asksB (i := 0) hS hb) rfl rfl (Nat.le_of_ble_eq_true rfl) (by decide) ?_
    rintro _ _ ⟨rfl, rfl⟩
    refine r_goto (pc := 72) (tgt := 204) dX6_qAsksWord_72 (by decide) ?_
    refine r_vret (pc := 204) dX6_qAsksWord_204 ?_
    exact ⟨rfl, rfl⟩
  · skip
    refine r_ild1 (pc := 0) dX6_qAsksWord_0 ?_
    refine r_tableIn (pc := 1) (tgt := 75) (off := 74) dX6_qAsksWord_1 (by decide) (by decide) rfl (by decide) ?_
    refine r_ald0 (pc := 75) dX6_qAsksWord_75 ?_
    refine r_ald0 (pc := 76) dX6_qAsksWord_76 ?_
    refine m_getR hS (pc := 77) dX6_qAsksWord_77 fl_X6_186 ar89 ?_
    refine r_cV (pc := 80) dX6_qAsksWord_80 cv_X6_309 hS.k (ct_X6_asksB (i := 0) hS hb) rfl rfl (Nat.le_of_ble_eq_true rfl) (by decide) ?_
    rintro _ _ ⟨rfl, rfl⟩
    refine r_goto (pc := 83) (tgt := 204) dX6_qAsksWord_83 (by decide) ?_
    refine r_vret (pc := 204) dX6_qAsksWord_204 ?_
    exact ⟨rfl, rfl⟩
  · skip
    refine r_ild1 (pc := 0) dX6_qAsksWord_0 ?_
    refine r_tableIn (pc := 1) (tgt := 86) (off := 85) dX6_qAsksWord_1 (by decide) (by decide) rfl (by decide) ?_
    refine r_ald0 (pc := 86) dX6_qAsksWord_86 ?_
    refine r_ald0 (pc := 87) dX6_qAsksWord_87 ?_
    refine m_getR hS (pc := 88) dX6_qAsksWord_88 fl_X6_189 ar90 ?_
    refine r_cV (pc := 91) dX6_qAsksWord_91 cv_X6_309 hS.k (ct_X6_asksB (i := 0) hS hb) rfl rfl (Nat.le_of_ble_eq_true rfl) (by decide) ?_
    rintro _ _ ⟨rfl, rfl⟩
    refine r_goto (pc := 94) (tgt := 204) dX6_qAsksWord_94 (by decide) ?_
    refine r_vret (pc := 204) dX6_qAsksWord_204 ?_
    exact ⟨rfl, rfl⟩
  · skip
    refine r_ild1 (pc := 0) dX6_qAsksWord_0 ?_
    refine r_tableIn (pc := 1) (tgt := 97) (off := 96) dX6_qAsksWord_1 (by decide) (by decide) rfl (by decide) ?_
    refine r_ald0 (pc := 97) dX6_qAsksWord_97 ?_
    refine r_ald0 (pc := 98) dX6_qAsksWord_98 ?_
    refine m_getR hS (pc := 99) dX6_qAsksWord_99 fl_X6_192 ar91 ?_
    refine r_cV (pc := 102) dX6_qAsksWord_102 cv_X6_309 hS.k (ct_X6_asksB (i := 0) hS hb) rfl rfl (Nat.le_of_ble_eq_true rfl) (by decide) ?_
    rintro _ _ ⟨rfl, rfl⟩
    refine r_goto (pc := 105) (tgt := 204) dX6_qAsksWord_105 (by decide) ?_
    refine r_vret (pc := 204) dX6_qAsksWord_204 ?_
    exact ⟨rfl, rfl⟩
  · skip
    refine r_ild1 (pc := 0) dX6_qAsksWord_0 ?_
    refine r_tableIn (pc := 1) (tgt := 108) (off := 107) dX6_qAsksWord_1 (by decide) (by decide) rfl (by decide) ?_
    refine r_ald0 (pc := 108) dX6_qAsksWord_108 ?_
    refine r_ald0 (pc := 109) dX6_qAsksWord_109 ?_
    refine m_getR hS (pc := 110) dX6_qAsksWord_110 fl_X6_195 ar92 ?_
    refine r_cV (pc := 113) dX6_qAsksWord_113 cv_X6_309 hS.k (ct_X6_asksB (i := 0) hS hb) rfl rfl (Nat.le_of_ble_eq_true rfl) (by decide) ?_
    rintro _ _ ⟨rfl, rfl⟩
    refine r_goto (pc := 116) (tgt := 204) dX6_qAsksWord_116 (by decide) ?_
    refine r_vret (pc := 204) dX6_qAsksWord_204 ?_
    exact ⟨rfl, rfl⟩
  · skip
    refine r_ild1 (pc := 0) dX6_qAsksWord_0 ?_
    refine r_tableIn (pc := 1) (tgt := 119) (off := 118) dX6_qAsksWord_1 (by decide) (by decide) rfl (by decide) ?_
    refine r_ald0 (pc := 119) dX6_qAsksWord_119 ?_
    refine r_ald0 (pc := 120) dX6_qAsksWord_120 ?_
    refine m_getR hS (pc := 121) dX6_qAsksWord_121 fl_X6_198 ar93 ?_
    refine r_cV (pc := 124) dX6_qAsksWord_124 cv_X6_309 hS.k (ct_X6_asksB (i := 0) hS hb) rfl rfl (Nat.le_of_ble_eq_true rfl) (by decide) ?_
    rintro _ _ ⟨rfl, rfl⟩
    refine r_goto (pc := 127) (tgt := 204) dX6_qAsksWord_127 (by decide) ?_
    refine r_vret (pc := 204) dX6_qAsksWord_204 ?_
    exact ⟨rfl, rfl⟩
  · skip
    refine r_ild1 (pc := 0) dX6_qAsksWord_0 ?_
    refine r_tableIn (pc := 1) (tgt := 130) (off := 129) dX6_qAsksWord_1 (by decide) (by decide) rfl (by decide) ?_
    refine r_ald0 (pc := 130) dX6_qAsksWord_130 ?_
    refine r_ald0 (pc := 131) dX6_qAsksWord_131 ?_
    refine m_getR hS (pc := 132) dX6_qAsksWord_132 fl_X6_201 ar94 ?_
    refine r_cV (pc := 135) dX6_qAsksWord_135 cv_X6_309 hS.k (ct_X6_asksB (i := 0) hS hb) rfl rfl (Nat.le_of_ble_eq_true rfl) (by decide) ?_
    rintro _ _ ⟨rfl, rfl⟩
    refine r_goto (pc := 138) (tgt := 204) dX6_qAsksWord_138 (by decide) ?_
    refine r_vret (pc := 204) dX6_qAsksWord_204 ?_
    exact ⟨rfl, rfl⟩
  · skip
    refine r_ild1 (pc := 0) dX6_qAsksWord_0 ?_
    refine r_tableIn (pc := 1) (tgt := 141) (off := 140) dX6_qAsksWord_1 (by decide) (by decide) rfl (by decide) ?_
    refine r_ald0 (pc := 141) dX6_qAsksWord_141 ?_
    refine r_ald0 (pc := 142) dX6_qAsksWord_142 ?_
    refine m_getR hS (pc := 143) dX6_qAsksWord_143 fl_X6_204 ar95 ?_
    refine r_cV (pc := 146) dX6_qAsksWord_146 cv_X6_309 hS.k (ct_X6_asksB (i := 0) hS hb) rfl rfl (Nat.le_of_ble_eq_true rfl) (by decide) ?_
    rintro _ _ ⟨rfl, rfl⟩
    refine r_goto (pc := 149) (tgt := 204) dX6_qAsksWord_149 (by decide) ?_
    refine r_vret (pc := 204) dX6_qAsksWord_204 ?_
    exact ⟨rfl, rfl⟩
  · skip
    refine r_ild1 (pc := 0) dX6_qAsksWord_0 ?_
    refine r_tableIn (pc := 1) (tgt := 152) (off := 151) dX6_qAsksWord_1 (by decide) (by decide) rfl (by decide) ?_
    refine r_ald0 (pc := 152) dX6_qAsksWord_152 ?_
    refine r_ald0 (pc := 153) dX6_qAsksWord_153 ?_
    refine m_getR hS (pc := 154) dX6_qAsksWord_154 fl_X6_207 ar96 ?_
    refine r_cV (pc := 157) dX6_qAsksWord_157 cv_X6_309 hS.k (ct_X6_asksB (i := 0) hS hb) rfl rfl (Nat.le_of_ble_eq_true rfl) (by decide) ?_
    rintro _ _ ⟨rfl, rfl⟩
    refine r_goto (pc := 160) (tgt := 204) dX6_qAsksWord_160 (by decide) ?_
    refine r_vret (pc := 204) dX6_qAsksWord_204 ?_
    exact ⟨rfl, rfl⟩
  · skip
    refine r_ild1 (pc := 0) dX6_qAsksWord_0 ?_
    refine r_tableIn (pc := 1) (tgt := 163) (off := 162) dX6_qAsksWord_1 (by decide) (by decide) rfl (by decide) ?_
    refine r_ald0 (pc := 163) dX6_qAsksWord_163 ?_
    refine r_ald0 (pc := 164) dX6_qAsksWord_164 ?_
    refine m_getR hS (pc := 165) dX6_qAsksWord_165 fl_X6_210 ar97 ?_
    refine r_cV (pc := 168) dX6_qAsksWord_168 cv_X6_309 hS.k (ct_X6_asksB (i := 0) hS hb) rfl rfl (Nat.le_of_ble_eq_true rfl) (by decide) ?_
    rintro _ _ ⟨rfl, rfl⟩
    refine r_goto (pc := 171) (tgt := 204) dX6_qAsksWord_171 (by decide) ?_
    refine r_vret (pc := 204) dX6_qAsksWord_204 ?_
    exact ⟨rfl, rfl⟩
  · skip
    refine r_ild1 (pc := 0) dX6_qAsksWord_0 ?_
    refine r_tableIn (pc := 1) (tgt := 174) (off := 173) dX6_qAsksWord_1 (by decide) (by decide) rfl (by decide) ?_
    refine r_ald0 (pc := 174) dX6_qAsksWord_174 ?_
    refine r_ald0 (pc := 175) dX6_qAsksWord_175 ?_
    refine m_getR hS (pc := 176) dX6_qAsksWord_176 fl_X6_213 ar98 ?_
    refine r_cV (pc := 179) dX6_qAsksWord_179 cv_X6_309 hS.k (ct_X6_asksB (i := 0) hS hb) rfl rfl (Nat.le_of_ble_eq_true rfl) (by decide) ?_
    rintro _ _ ⟨rfl, rfl⟩
    refine r_goto (pc := 182) (tgt := 204) dX6_qAsksWord_182 (by decide) ?_
    refine r_vret (pc := 204) dX6_qAsksWord_204 ?_
    exact ⟨rfl, rfl⟩
  · skip
    refine r_ild1 (pc := 0) dX6_qAsksWord_0 ?_
    refine r_tableIn (pc := 1) (tgt := 185) (off := 184) dX6_qAsksWord_1 (by decide) (by decide) rfl (by decide) ?_
    refine r_ald0 (pc := 185) dX6_qAsksWord_185 ?_
    refine r_ald0 (pc := 186) dX6_qAsksWord_186 ?_
    refine m_getR hS (pc := 187) dX6_qAsksWord_187 fl_X6_216 ar99 ?_
    refine r_cV (pc := 190) dX6_qAsksWord_190 cv_X6_309 hS.k (ct_X6_asksB (i := 0) hS hb) rfl rfl (Nat.le_of_ble_eq_true rfl) (by decide) ?_
    rintro _ _ ⟨rfl, rfl⟩
    refine r_goto (pc := 193) (tgt := 204) dX6_qAsksWord_193 (by decide) ?_
    refine r_vret (pc := 204) dX6_qAsksWord_204 ?_
    exact ⟨rfl, rfl⟩
  · skip
    refine r_ild1 (pc := 0) dX6_qAsksWord_0 ?_
    refine r_tableOut (pc := 1) (tgt := 196) dX6_qAsksWord_1 (by first | decide | assumption) (by decide) ?_
    refine r_ald0 (pc := 196) dX6_qAsksWord_196 ?_
    refine r_ald0 (pc := 197) dX6_qAsksWord_197 ?_
    refine m_getR hS (pc := 198) dX6_qAsksWord_198 fl_X6_219 ar100 ?_
    refine r_cV (pc := 201) dX6_qAsksWord_201 cv_X6_309 hS.k (ct_X6_asksB (i := 0) hS hb) rfl rfl (Nat.le_of_ble_eq_true rfl) (by decide) ?_
    rintro _ _ ⟨rfl, rfl⟩
    refine r_vret (pc := 204) dX6_qAsksWord_204 ?_
    exact ⟨rfl, rfl⟩
end M32
