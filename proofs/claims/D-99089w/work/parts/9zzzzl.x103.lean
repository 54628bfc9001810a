set_option maxRecDepth 100000
/-! CONSTRUCTORS: the model, array by array -/
section X103
variable {g : GC} {M0 M : MM} {o d : Nat} {e : Nat → Int32} {f : Nat → Int64} {Q : Option Value → MM → Prop} {X : Nat → MM → Prop}
theorem sg_1 (hb : gb g ≤ o) (h : BM M0 M o 1 e f) (kk : ∀ M', BM M0 M' o 2 e f → Bd g yX6_init cX6_init 1 none [] d 70 15644 M' 13 [some (.ref o)] [] Q X) : Bd g yX6_init cX6_init 1 none [] d 71 17244 M 4 [some (.ref o)] [] Q X := by
  refine r_ald0 (pc := 4) dX6_init_4 ?_
  refine r_sipush (v := nI 1600) (pc := 5) dX6_init_5 (by decide) ?_
  refine r_newa (pc := 8) (t := 1) (n := 1600) (kc' := 70) (ks' := 15644) dX6_init_8 rfl ⟨by decide, by decide⟩ q425 (by omega) (by omega) (by omega) ?_
  rw [h.1]
  generalize hN : nw M 1 1600 = N
  obtain ⟨n1, n2, n3⟩ := h.fresh hN
  refine r_putFQ (pc := 10) (x := some (o + 1)) dX6_init_10 fl_X6_7 ff_X6_0 rfl rfl rfl (n3 (by decide)) hb ?_
  subst hN
  exact kk _ (h.arr (ws := []) (by decide) (by decide) rfl rfl (by decide))
theorem sg_2 (hb : gb g ≤ o) (h : BM M0 M o 2 e f) (kk : ∀ M', BM M0 M' o 3 e f → Bd g yX6_init cX6_init 1 none [] d 69 15638 M' 26 [some (.ref o)] [] Q X) : Bd g yX6_init cX6_init 1 none [] d 70 15644 M 18 [some (.ref o)] [] Q X := by
  refine r_ald0 (pc := 18) dX6_init_18 ?_
  refine r_bipush (v := nI 6) (pc := 19) dX6_init_19 (by decide) ?_
  refine r_newa (pc := 21) (t := 1) (n := 6) (kc' := 69) (ks' := 15638) dX6_init_21 rfl ⟨by decide, by decide⟩ q425 (by omega) (by omega) (by omega) ?_
  rw [h.1]
  generalize hN : nw M 1 6 = N
  obtain ⟨n1, n2, n3⟩ := h.fresh hN
  refine r_putFQ (pc := 23) (x := some (o + 2)) dX6_init_23 fl_X6_17 ff_X6_9 rfl rfl rfl (n3 (by decide)) hb ?_
  subst hN
  exact kk _ (h.arr (ws := []) (by decide) (by decide) rfl rfl (by decide))
theorem sg_3 (hb : gb g ≤ o) (h : BM M0 M o 3 e f) (kk : ∀ M', BM M0 M' o 4 e f → Bd g yX6_init cX6_init 1 none [] d 68 15631 M' 70 [some (.ref o)] [] Q X) : Bd g yX6_init cX6_init 1 none [] d 69 15638 M 26 [some (.ref o)] [] Q X := by
  refine r_ald0 (pc := 26) dX6_init_26 ?_
  refine r_bipush (v := nI 7) (pc := 27) dX6_init_27 (by decide) ?_
  refine r_newa (pc := 29) (t := 5) (n := 7) (kc' := 68) (ks' := 15631) dX6_init_29 rfl ⟨by decide, by decide⟩ q641 (by omega) (by omega) (by omega) ?_
  rw [h.1]
  generalize hN : nw M 5 7 = N
  obtain ⟨n1, n2, n3⟩ := h.fresh hN
  refine r_dup (pc := 31) dX6_init_31 rfl ?_
  refine r_iconst (v := nI 0) (pc := 32) dX6_init_32 (by decide) ?_
  refine r_bipush (v := nI 116) (pc := 33) dX6_init_33 (by decide) ?_
  refine r_cast (pc := 35) (j := 0) dX6_init_35 n1 (n2 0 (by decide)) (by decide) (Nat.le_trans hb (Nat.le_add_right _ _)) ?_
  refine r_dup (pc := 36) dX6_init_36 rfl ?_
  refine r_iconst (v := nI 1) (pc := 37) dX6_init_37 (by decide) ?_
  refine r_bipush (v := nI 101) (pc := 38) dX6_init_38 (by decide) ?_
  refine r_cast (pc := 40) (j := 1) dX6_init_40 n1 (n2 1 (by decide)) (by decide) (Nat.le_trans hb (Nat.le_add_right _ _)) ?_
  refine r_dup (pc := 41) dX6_init_41 rfl ?_
  refine r_iconst (v := nI 2) (pc := 42) dX6_init_42 (by decide) ?_
  refine r_bipush (v := nI 114) (pc := 43) dX6_init_43 (by decide) ?_
  refine r_cast (pc := 45) (j := 2) dX6_init_45 n1 (n2 2 (by decide)) (by decide) (Nat.le_trans hb (Nat.le_add_right _ _)) ?_
  refine r_dup (pc := 46) dX6_init_46 rfl ?_
  refine r_iconst (v := nI 3) (pc := 47) dX6_init_47 (by decide) ?_
  refine r_bipush (v := nI 114) (pc := 48) dX6_init_48 (by decide) ?_
  refine r_cast (pc := 50) (j := 3) dX6_init_50 n1 (n2 3 (by decide)) (by decide) (Nat.le_trans hb (Nat.le_add_right _ _)) ?_
  refine r_dup (pc := 51) dX6_init_51 rfl ?_
  refine r_iconst (v := nI 4) (pc := 52) dX6_init_52 (by decide) ?_
  refine r_bipush (v := nI 97) (pc := 53) dX6_init_53 (by decide) ?_
  refine r_cast (pc := 55) (j := 4) dX6_init_55 n1 (n2 4 (by decide)) (by decide) (Nat.le_trans hb (Nat.le_add_right _ _)) ?_
  refine r_dup (pc := 56) dX6_init_56 rfl ?_
  refine r_iconst (v := nI 5) (pc := 57) dX6_init_57 (by decide) ?_
  refine r_bipush (v := nI 99) (pc := 58) dX6_init_58 (by decide) ?_
  refine r_cast (pc := 60) (j := 5) dX6_init_60 n1 (n2 5 (by decide)) (by decide) (Nat.le_trans hb (Nat.le_add_right _ _)) ?_
  refine r_dup (pc := 61) dX6_init_61 rfl ?_
  refine r_bipush (v := nI 6) (pc := 62) dX6_init_62 (by decide) ?_
  refine r_bipush (v := nI 101) (pc := 64) dX6_init_64 (by decide) ?_
  refine r_cast (pc := 66) (j := 6) dX6_init_66 n1 (n2 6 (by decide)) (by decide) (Nat.le_trans hb (Nat.le_add_right _ _)) ?_
  refine r_putFQ (pc := 67) (x := some (o + 3)) dX6_init_67 fl_X6_20 ff_X6_11 rfl rfl rfl (n3 (by decide)) hb ?_
  subst hN
  exact kk _ (h.arr (ws := [vp_nar .char (nI 116), vp_nar .char (nI 101), vp_nar .char (nI 114), vp_nar .char (nI 114), vp_nar .char (nI 97), vp_nar .char (nI 99), vp_nar .char (nI 101)]) (by decide) (by decide) rfl rfl (by decide))
theorem sg_4 (hb : gb g ≤ o) (h : BM M0 M o 4 e f) (kk : ∀ M', BM M0 M' o 5 e f → Bd g yX6_init cX6_init 1 none [] d 67 15627 M' 97 [some (.ref o)] [] Q X) : Bd g yX6_init cX6_init 1 none [] d 68 15631 M 70 [some (.ref o)] [] Q X := by
  refine r_ald0 (pc := 70) dX6_init_70 ?_
  refine r_iconst (v := nI 4) (pc := 71) dX6_init_71 (by decide) ?_
  refine r_newa (pc := 72) (t := 5) (n := 4) (kc' := 67) (ks' := 15627) dX6_init_72 rfl ⟨by decide, by decide⟩ q641 (by omega) (by omega) (by omega) ?_
  rw [h.1]
  generalize hN : nw M 5 4 = N
  obtain ⟨n1, n2, n3⟩ := h.fresh hN
  refine r_dup (pc := 74) dX6_init_74 rfl ?_
  refine r_iconst (v := nI 0) (pc := 75) dX6_init_75 (by decide) ?_
  refine r_bipush (v := nI 115) (pc := 76) dX6_init_76 (by decide) ?_
  refine r_cast (pc := 78) (j := 0) dX6_init_78 n1 (n2 0 (by decide)) (by decide) (Nat.le_trans hb (Nat.le_add_right _ _)) ?_
  refine r_dup (pc := 79) dX6_init_79 rfl ?_
  refine r_iconst (v := nI 1) (pc := 80) dX6_init_80 (by decide) ?_
  refine r_bipush (v := nI 111) (pc := 81) dX6_init_81 (by decide) ?_
  refine r_cast (pc := 83) (j := 1) dX6_init_83 n1 (n2 1 (by decide)) (by decide) (Nat.le_trans hb (Nat.le_add_right _ _)) ?_
  refine r_dup (pc := 84) dX6_init_84 rfl ?_
  refine r_iconst (v := nI 2) (pc := 85) dX6_init_85 (by decide) ?_
  refine r_bipush (v := nI 117) (pc := 86) dX6_init_86 (by decide) ?_
  refine r_cast (pc := 88) (j := 2) dX6_init_88 n1 (n2 2 (by decide)) (by decide) (Nat.le_trans hb (Nat.le_add_right _ _)) ?_
  refine r_dup (pc := 89) dX6_init_89 rfl ?_
  refine r_iconst (v := nI 3) (pc := 90) dX6_init_90 (by decide) ?_
  refine r_bipush (v := nI 108) (pc := 91) dX6_init_91 (by decide) ?_
  refine r_cast (pc := 93) (j := 3) dX6_init_93 n1 (n2 3 (by decide)) (by decide) (Nat.le_trans hb (Nat.le_add_right _ _)) ?_
  refine r_putFQ (pc := 94) (x := some (o + 4)) dX6_init_94 fl_X6_24 ff_X6_12 rfl rfl rfl (n3 (by decide)) hb ?_
  subst hN
  exact kk _ (h.arr (ws := [vp_nar .char (nI 115), vp_nar .char (nI 111), vp_nar .char (nI 117), vp_nar .char (nI 108)]) (by decide) (by decide) rfl rfl (by decide))
theorem sg_5 (hb : gb g ≤ o) (h : BM M0 M o 5 e f) (kk : ∀ M', BM M0 M' o 6 e f → Bd g yX6_init cX6_init 1 none [] d 66 15625 M' 114 [some (.ref o)] [] Q X) : Bd g yX6_init cX6_init 1 none [] d 67 15627 M 97 [some (.ref o)] [] Q X := by
  refine r_ald0 (pc := 97) dX6_init_97 ?_
  refine r_iconst (v := nI 2) (pc := 98) dX6_init_98 (by decide) ?_
  refine r_newa (pc := 99) (t := 5) (n := 2) (kc' := 66) (ks' := 15625) dX6_init_99 rfl ⟨by decide, by decide⟩ q641 (by omega) (by omega) (by omega) ?_
  rw [h.1]
  generalize hN : nw M 5 2 = N
  obtain ⟨n1, n2, n3⟩ := h.fresh hN
  refine r_dup (pc := 101) dX6_init_101 rfl ?_
  refine r_iconst (v := nI 0) (pc := 102) dX6_init_102 (by decide) ?_
  refine r_bipush (v := nI 97) (pc := 103) dX6_init_103 (by decide) ?_
  refine r_cast (pc := 105) (j := 0) dX6_init_105 n1 (n2 0 (by decide)) (by decide) (Nat.le_trans hb (Nat.le_add_right _ _)) ?_
  refine r_dup (pc := 106) dX6_init_106 rfl ?_
  refine r_iconst (v := nI 1) (pc := 107) dX6_init_107 (by decide) ?_
  refine r_bipush (v := nI 116) (pc := 108) dX6_init_108 (by decide) ?_
  refine r_cast (pc := 110) (j := 1) dX6_init_110 n1 (n2 1 (by decide)) (by decide) (Nat.le_trans hb (Nat.le_add_right _ _)) ?_
  refine r_putFQ (pc := 111) (x := some (o + 5)) dX6_init_111 fl_X6_27 ff_X6_13 rfl rfl rfl (n3 (by decide)) hb ?_
  subst hN
  exact kk _ (h.arr (ws := [vp_nar .char (nI 97), vp_nar .char (nI 116)]) (by decide) (by decide) rfl rfl (by decide))
theorem sg_6 (hb : gb g ≤ o) (h : BM M0 M o 6 e f) (kk : ∀ M', BM M0 M' o 7 e f → Bd g yX6_init cX6_init 1 none [] d 65 15621 M' 141 [some (.ref o)] [] Q X) : Bd g yX6_init cX6_init 1 none [] d 66 15625 M 114 [some (.ref o)] [] Q X := by
  refine r_ald0 (pc := 114) dX6_init_114 ?_
  refine r_iconst (v := nI 4) (pc := 115) dX6_init_115 (by decide) ?_
  refine r_newa (pc := 116) (t := 5) (n := 4) (kc' := 65) (ks' := 15621) dX6_init_116 rfl ⟨by decide, by decide⟩ q641 (by omega) (by omega) (by omega) ?_
  rw [h.1]
  generalize hN : nw M 5 4 = N
  obtain ⟨n1, n2, n3⟩ := h.fresh hN
  refine r_dup (pc := 118) dX6_init_118 rfl ?_
  refine r_iconst (v := nI 0) (pc := 119) dX6_init_119 (by decide) ?_
  refine r_bipush (v := nI 102) (pc := 120) dX6_init_120 (by decide) ?_
  refine r_cast (pc := 122) (j := 0) dX6_init_122 n1 (n2 0 (by decide)) (by decide) (Nat.le_trans hb (Nat.le_add_right _ _)) ?_
  refine r_dup (pc := 123) dX6_init_123 rfl ?_
  refine r_iconst (v := nI 1) (pc := 124) dX6_init_124 (by decide) ?_
  refine r_bipush (v := nI 97) (pc := 125) dX6_init_125 (by decide) ?_
  refine r_cast (pc := 127) (j := 1) dX6_init_127 n1 (n2 1 (by decide)) (by decide) (Nat.le_trans hb (Nat.le_add_right _ _)) ?_
  refine r_dup (pc := 128) dX6_init_128 rfl ?_
  refine r_iconst (v := nI 2) (pc := 129) dX6_init_129 (by decide) ?_
  refine r_bipush (v := nI 99) (pc := 130) dX6_init_130 (by decide) ?_
  refine r_cast (pc := 132) (j := 2) dX6_init_132 n1 (n2 2 (by decide)) (by decide) (Nat.le_trans hb (Nat.le_add_right _ _)) ?_
  refine r_dup (pc := 133) dX6_init_133 rfl ?_
  refine r_iconst (v := nI 3) (pc := 134) dX6_init_134 (by decide) ?_
  refine r_bipush (v := nI 101) (pc := 135) dX6_init_135 (by decide) ?_
  refine r_cast (pc := 137) (j := 3) dX6_init_137 n1 (n2 3 (by decide)) (by decide) (Nat.le_trans hb (Nat.le_add_right _ _)) ?_
  refine r_putFQ (pc := 138) (x := some (o + 6)) dX6_init_138 fl_X6_30 ff_X6_14 rfl rfl rfl (n3 (by decide)) hb ?_
  subst hN
  exact kk _ (h.arr (ws := [vp_nar .char (nI 102), vp_nar .char (nI 97), vp_nar .char (nI 99), vp_nar .char (nI 101)]) (by decide) (by decide) rfl rfl (by decide))
theorem sg_7 (hb : gb g ≤ o) (h : BM M0 M o 7 e f) (kk : ∀ M', BM M0 M' o 8 e f → Bd g yX6_init cX6_init 1 none [] d 64 15617 M' 168 [some (.ref o)] [] Q X) : Bd g yX6_init cX6_init 1 none [] d 65 15621 M 141 [some (.ref o)] [] Q X := by
  refine r_ald0 (pc := 141) dX6_init_141 ?_
  refine r_iconst (v := nI 4) (pc := 142) dX6_init_142 (by decide) ?_
  refine r_newa (pc := 143) (t := 5) (n := 4) (kc' := 64) (ks' := 15617) dX6_init_143 rfl ⟨by decide, by decide⟩ q641 (by omega) (by omega) (by omega) ?_
  rw [h.1]
  generalize hN : nw M 5 4 = N
  obtain ⟨n1, n2, n3⟩ := h.fresh hN
  refine r_dup (pc := 145) dX6_init_145 rfl ?_
  refine r_iconst (v := nI 0) (pc := 146) dX6_init_146 (by decide) ?_
  refine r_bipush (v := nI 107) (pc := 147) dX6_init_147 (by decide) ?_
  refine r_cast (pc := 149) (j := 0) dX6_init_149 n1 (n2 0 (by decide)) (by decide) (Nat.le_trans hb (Nat.le_add_right _ _)) ?_
  refine r_dup (pc := 150) dX6_init_150 rfl ?_
  refine r_iconst (v := nI 1) (pc := 151) dX6_init_151 (by decide) ?_
  refine r_bipush (v := nI 105) (pc := 152) dX6_init_152 (by decide) ?_
  refine r_cast (pc := 154) (j := 1) dX6_init_154 n1 (n2 1 (by decide)) (by decide) (Nat.le_trans hb (Nat.le_add_right _ _)) ?_
  refine r_dup (pc := 155) dX6_init_155 rfl ?_
  refine r_iconst (v := nI 2) (pc := 156) dX6_init_156 (by decide) ?_
  refine r_bipush (v := nI 110) (pc := 157) dX6_init_157 (by decide) ?_
  refine r_cast (pc := 159) (j := 2) dX6_init_159 n1 (n2 2 (by decide)) (by decide) (Nat.le_trans hb (Nat.le_add_right _ _)) ?_
  refine r_dup (pc := 160) dX6_init_160 rfl ?_
  refine r_iconst (v := nI 3) (pc := 161) dX6_init_161 (by decide) ?_
  refine r_bipush (v := nI 100) (pc := 162) dX6_init_162 (by decide) ?_
  refine r_cast (pc := 164) (j := 3) dX6_init_164 n1 (n2 3 (by decide)) (by decide) (Nat.le_trans hb (Nat.le_add_right _ _)) ?_
  refine r_putFQ (pc := 165) (x := some (o + 7)) dX6_init_165 fl_X6_33 ff_X6_15 rfl rfl rfl (n3 (by decide)) hb ?_
  subst hN
  exact kk _ (h.arr (ws := [vp_nar .char (nI 107), vp_nar .char (nI 105), vp_nar .char (nI 110), vp_nar .char (nI 100)]) (by decide) (by decide) rfl rfl (by decide))
theorem sg_8 (hb : gb g ≤ o) (h : BM M0 M o 8 e f) (kk : ∀ M', BM M0 M' o 9 e f → Bd g yX6_init cX6_init 1 none [] d 63 15611 M' 206 [some (.ref o)] [] Q X) : Bd g yX6_init cX6_init 1 none [] d 64 15617 M 168 [some (.ref o)] [] Q X := by
  refine r_ald0 (pc := 168) dX6_init_168 ?_
  refine r_bipush (v := nI 6) (pc := 169) dX6_init_169 (by decide) ?_
  refine r_newa (pc := 171) (t := 5) (n := 6) (kc' := 63) (ks' := 15611) dX6_init_171 rfl ⟨by decide, by decide⟩ q641 (by omega) (by omega) (by omega) ?_
  rw [h.1]
  generalize hN : nw M 5 6 = N
  obtain ⟨n1, n2, n3⟩ := h.fresh hN
  refine r_dup (pc := 173) dX6_init_173 rfl ?_
  refine r_iconst (v := nI 0) (pc := 174) dX6_init_174 (by decide) ?_
  refine r_bipush (v := nI 116) (pc := 175) dX6_init_175 (by decide) ?_
  refine r_cast (pc := 177) (j := 0) dX6_init_177 n1 (n2 0 (by decide)) (by decide) (Nat.le_trans hb (Nat.le_add_right _ _)) ?_
  refine r_dup (pc := 178) dX6_init_178 rfl ?_
  refine r_iconst (v := nI 1) (pc := 179) dX6_init_179 (by decide) ?_
  refine r_bipush (v := nI 104) (pc := 180) dX6_init_180 (by decide) ?_
  refine r_cast (pc := 182) (j := 1) dX6_init_182 n1 (n2 1 (by decide)) (by decide) (Nat.le_trans hb (Nat.le_add_right _ _)) ?_
  refine r_dup (pc := 183) dX6_init_183 rfl ?_
  refine r_iconst (v := nI 2) (pc := 184) dX6_init_184 (by decide) ?_
  refine r_bipush (v := nI 105) (pc := 185) dX6_init_185 (by decide) ?_
  refine r_cast (pc := 187) (j := 2) dX6_init_187 n1 (n2 2 (by decide)) (by decide) (Nat.le_trans hb (Nat.le_add_right _ _)) ?_
  refine r_dup (pc := 188) dX6_init_188 rfl ?_
  refine r_iconst (v := nI 3) (pc := 189) dX6_init_189 (by decide) ?_
  refine r_bipush (v := nI 110) (pc := 190) dX6_init_190 (by decide) ?_
  refine r_cast (pc := 192) (j := 3) dX6_init_192 n1 (n2 3 (by decide)) (by decide) (Nat.le_trans hb (Nat.le_add_right _ _)) ?_
  refine r_dup (pc := 193) dX6_init_193 rfl ?_
  refine r_iconst (v := nI 4) (pc := 194) dX6_init_194 (by decide) ?_
  refine r_bipush (v := nI 107) (pc := 195) dX6_init_195 (by decide) ?_
  refine r_cast (pc := 197) (j := 4) dX6_init_197 n1 (n2 4 (by decide)) (by decide) (Nat.le_trans hb (Nat.le_add_right _ _)) ?_
  refine r_dup (pc := 198) dX6_init_198 rfl ?_
  refine r_iconst (v := nI 5) (pc := 199) dX6_init_199 (by decide) ?_
  refine r_bipush (v := nI 115) (pc := 200) dX6_init_200 (by decide) ?_
  refine r_cast (pc := 202) (j := 5) dX6_init_202 n1 (n2 5 (by decide)) (by decide) (Nat.le_trans hb (Nat.le_add_right _ _)) ?_
  refine r_putFQ (pc := 203) (x := some (o + 8)) dX6_init_203 fl_X6_36 ff_X6_16 rfl rfl rfl (n3 (by decide)) hb ?_
  subst hN
  exact kk _ (h.arr (ws := [vp_nar .char (nI 116), vp_nar .char (nI 104), vp_nar .char (nI 105), vp_nar .char (nI 110), vp_nar .char (nI 107), vp_nar .char (nI 115)]) (by decide) (by decide) rfl rfl (by decide))
theorem sg_9 (hb : gb g ≤ o) (h : BM M0 M o 9 e f) (kk : ∀ M', BM M0 M' o 10 e f → Bd g yX6_init cX6_init 1 none [] d 62 15609 M' 223 [some (.ref o)] [] Q X) : Bd g yX6_init cX6_init 1 none [] d 63 15611 M 206 [some (.ref o)] [] Q X := by
  refine r_ald0 (pc := 206) dX6_init_206 ?_
  refine r_iconst (v := nI 2) (pc := 207) dX6_init_207 (by decide) ?_
  refine r_newa (pc := 208) (t := 5) (n := 2) (kc' := 62) (ks' := 15609) dX6_init_208 rfl ⟨by decide, by decide⟩ q641 (by omega) (by omega) (by omega) ?_
  rw [h.1]
  generalize hN : nw M 5 2 = N
  obtain ⟨n1, n2, n3⟩ := h.fresh hN
  refine r_dup (pc := 210) dX6_init_210 rfl ?_
  refine r_iconst (v := nI 0) (pc := 211) dX6_init_211 (by decide) ?_
  refine r_bipush (v := nI 111) (pc := 212) dX6_init_212 (by decide) ?_
  refine r_cast (pc := 214) (j := 0) dX6_init_214 n1 (n2 0 (by decide)) (by decide) (Nat.le_trans hb (Nat.le_add_right _ _)) ?_
  refine r_dup (pc := 215) dX6_init_215 rfl ?_
  refine r_iconst (v := nI 1) (pc := 216) dX6_init_216 (by decide) ?_
  refine r_bipush (v := nI 102) (pc := 217) dX6_init_217 (by decide) ?_
  refine r_cast (pc := 219) (j := 1) dX6_init_219 n1 (n2 1 (by decide)) (by decide) (Nat.le_trans hb (Nat.le_add_right _ _)) ?_
  refine r_putFQ (pc := 220) (x := some (o + 9)) dX6_init_220 fl_X6_39 ff_X6_17 rfl rfl rfl (n3 (by decide)) hb ?_
  subst hN
  exact kk _ (h.arr (ws := [vp_nar .char (nI 111), vp_nar .char (nI 102)]) (by decide) (by decide) rfl rfl (by decide))
theorem sg_10 (hb : gb g ≤ o) (h : BM M0 M o 10 e f) (kk : ∀ M', BM M0 M' o 11 e f → Bd g yX6_init cX6_init 1 none [] d 61 15603 M' 261 [some (.ref o)] [] Q X) : Bd g yX6_init cX6_init 1 none [] d 62 15609 M 223 [some (.ref o)] [] Q X := by
  refine r_ald0 (pc := 223) dX6_init_223 ?_
  refine r_bipush (v := nI 6) (pc := 224) dX6_init_224 (by decide) ?_
  refine r_newa (pc := 226) (t := 5) (n := 6) (kc' := 61) (ks' := 15603) dX6_init_226 rfl ⟨by decide, by decide⟩ q641 (by omega) (by omega) (by omega) ?_
  rw [h.1]
  generalize hN : nw M 5 6 = N
  obtain ⟨n1, n2, n3⟩ := h.fresh hN
  refine r_dup (pc := 228) dX6_init_228 rfl ?_
  refine r_iconst (v := nI 0) (pc := 229) dX6_init_229 (by decide) ?_
  refine r_bipush (v := nI 112) (pc := 230) dX6_init_230 (by decide) ?_
  refine r_cast (pc := 232) (j := 0) dX6_init_232 n1 (n2 0 (by decide)) (by decide) (Nat.le_trans hb (Nat.le_add_right _ _)) ?_
  refine r_dup (pc := 233) dX6_init_233 rfl ?_
  refine r_iconst (v := nI 1) (pc := 234) dX6_init_234 (by decide) ?_
  refine r_bipush (v := nI 97) (pc := 235) dX6_init_235 (by decide) ?_
  refine r_cast (pc := 237) (j := 1) dX6_init_237 n1 (n2 1 (by decide)) (by decide) (Nat.le_trans hb (Nat.le_add_right _ _)) ?_
  refine r_dup (pc := 238) dX6_init_238 rfl ?_
  refine r_iconst (v := nI 2) (pc := 239) dX6_init_239 (by decide) ?_
  refine r_bipush (v := nI 105) (pc := 240) dX6_init_240 (by decide) ?_
  refine r_cast (pc := 242) (j := 2) dX6_init_242 n1 (n2 2 (by decide)) (by decide) (Nat.le_trans hb (Nat.le_add_right _ _)) ?_
  refine r_dup (pc := 243) dX6_init_243 rfl ?_
  refine r_iconst (v := nI 3) (pc := 244) dX6_init_244 (by decide) ?_
  refine r_bipush (v := nI 110) (pc := 245) dX6_init_245 (by decide) ?_
  refine r_cast (pc := 247) (j := 3) dX6_init_247 n1 (n2 3 (by decide)) (by decide) (Nat.le_trans hb (Nat.le_add_right _ _)) ?_
  refine r_dup (pc := 248) dX6_init_248 rfl ?_
  refine r_iconst (v := nI 4) (pc := 249) dX6_init_249 (by decide) ?_
  refine r_bipush (v := nI 116) (pc := 250) dX6_init_250 (by decide) ?_
  refine r_cast (pc := 252) (j := 4) dX6_init_252 n1 (n2 4 (by decide)) (by decide) (Nat.le_trans hb (Nat.le_add_right _ _)) ?_
  refine r_dup (pc := 253) dX6_init_253 rfl ?_
  refine r_iconst (v := nI 5) (pc := 254) dX6_init_254 (by decide) ?_
  refine r_bipush (v := nI 115) (pc := 255) dX6_init_255 (by decide) ?_
  refine r_cast (pc := 257) (j := 5) dX6_init_257 n1 (n2 5 (by decide)) (by decide) (Nat.le_trans hb (Nat.le_add_right _ _)) ?_
  refine r_putFQ (pc := 258) (x := some (o + 10)) dX6_init_258 fl_X6_42 ff_X6_18 rfl rfl rfl (n3 (by decide)) hb ?_
  subst hN
  exact kk _ (h.arr (ws := [vp_nar .char (nI 112), vp_nar .char (nI 97), vp_nar .char (nI 105), vp_nar .char (nI 110), vp_nar .char (nI 116), vp_nar .char (nI 115)]) (by decide) (by decide) rfl rfl (by decide))
theorem sg_11 (hb : gb g ≤ o) (h : BM M0 M o 11 e f) (kk : ∀ M', BM M0 M' o 12 e f → Bd g yX6_init cX6_init 1 none [] d 60 15598 M' 293 [some (.ref o)] [] Q X) : Bd g yX6_init cX6_init 1 none [] d 61 15603 M 261 [some (.ref o)] [] Q X := by
  refine r_ald0 (pc := 261) dX6_init_261 ?_
  refine r_iconst (v := nI 5) (pc := 262) dX6_init_262 (by decide) ?_
  refine r_newa (pc := 263) (t := 5) (n := 5) (kc' := 60) (ks' := 15598) dX6_init_263 rfl ⟨by decide, by decide⟩ q641 (by omega) (by omega) (by omega) ?_
  rw [h.1]
  generalize hN : nw M 5 5 = N
  obtain ⟨n1, n2, n3⟩ := h.fresh hN
  refine r_dup (pc := 265) dX6_init_265 rfl ?_
  refine r_iconst (v := nI 0) (pc := 266) dX6_init_266 (by decide) ?_
  refine r_bipush (v := nI 109) (pc := 267) dX6_init_267 (by decide) ?_
  refine r_cast (pc := 269) (j := 0) dX6_init_269 n1 (n2 0 (by decide)) (by decide) (Nat.le_trans hb (Nat.le_add_right _ _)) ?_
  refine r_dup (pc := 270) dX6_init_270 rfl ?_
  refine r_iconst (v := nI 1) (pc := 271) dX6_init_271 (by decide) ?_
  refine r_bipush (v := nI 105) (pc := 272) dX6_init_272 (by decide) ?_
  refine r_cast (pc := 274) (j := 1) dX6_init_274 n1 (n2 1 (by decide)) (by decide) (Nat.le_trans hb (Nat.le_add_right _ _)) ?_
  refine r_dup (pc := 275) dX6_init_275 rfl ?_
  refine r_iconst (v := nI 2) (pc := 276) dX6_init_276 (by decide) ?_
  refine r_bipush (v := nI 110) (pc := 277) dX6_init_277 (by decide) ?_
  refine r_cast (pc := 279) (j := 2) dX6_init_279 n1 (n2 2 (by decide)) (by decide) (Nat.le_trans hb (Nat.le_add_right _ _)) ?_
  refine r_dup (pc := 280) dX6_init_280 rfl ?_
  refine r_iconst (v := nI 3) (pc := 281) dX6_init_281 (by decide) ?_
  refine r_bipush (v := nI 100) (pc := 282) dX6_init_282 (by decide) ?_
  refine r_cast (pc := 284) (j := 3) dX6_init_284 n1 (n2 3 (by decide)) (by decide) (Nat.le_trans hb (Nat.le_add_right _ _)) ?_
  refine r_dup (pc := 285) dX6_init_285 rfl ?_
  refine r_iconst (v := nI 4) (pc := 286) dX6_init_286 (by decide) ?_
  refine r_bipush (v := nI 115) (pc := 287) dX6_init_287 (by decide) ?_
  refine r_cast (pc := 289) (j := 4) dX6_init_289 n1 (n2 4 (by decide)) (by decide) (Nat.le_trans hb (Nat.le_add_right _ _)) ?_
  refine r_putFQ (pc := 290) (x := some (o + 11)) dX6_init_290 fl_X6_45 ff_X6_19 rfl rfl rfl (n3 (by decide)) hb ?_
  subst hN
  exact kk _ (h.arr (ws := [vp_nar .char (nI 109), vp_nar .char (nI 105), vp_nar .char (nI 110), vp_nar .char (nI 100), vp_nar .char (nI 115)]) (by decide) (by decide) rfl rfl (by decide))
theorem sg_12 (hb : gb g ≤ o) (h : BM M0 M o 12 e f) (kk : ∀ M', BM M0 M' o 13 e f → Bd g yX6_init cX6_init 1 none [] d 59 15594 M' 320 [some (.ref o)] [] Q X) : Bd g yX6_init cX6_init 1 none [] d 60 15598 M 293 [some (.ref o)] [] Q X := by
  refine r_ald0 (pc := 293) dX6_init_293 ?_
  refine r_iconst (v := nI 4) (pc := 294) dX6_init_294 (by decide) ?_
  refine r_newa (pc := 295) (t := 5) (n := 4) (kc' := 59) (ks' := 15594) dX6_init_295 rfl ⟨by decide, by decide⟩ q641 (by omega) (by omega) (by omega) ?_
  rw [h.1]
  generalize hN : nw M 5 4 = N
  obtain ⟨n1, n2, n3⟩ := h.fresh hN
  refine r_dup (pc := 297) dX6_init_297 rfl ?_
  refine r_iconst (v := nI 0) (pc := 298) dX6_init_298 (by decide) ?_
  refine r_bipush (v := nI 102) (pc := 299) dX6_init_299 (by decide) ?_
  refine r_cast (pc := 301) (j := 0) dX6_init_301 n1 (n2 0 (by decide)) (by decide) (Nat.le_trans hb (Nat.le_add_right _ _)) ?_
  refine r_dup (pc := 302) dX6_init_302 rfl ?_
  refine r_iconst (v := nI 1) (pc := 303) dX6_init_303 (by decide) ?_
  refine r_bipush (v := nI 101) (pc := 304) dX6_init_304 (by decide) ?_
  refine r_cast (pc := 306) (j := 1) dX6_init_306 n1 (n2 1 (by decide)) (by decide) (Nat.le_trans hb (Nat.le_add_right _ _)) ?_
  refine r_dup (pc := 307) dX6_init_307 rfl ?_
  refine r_iconst (v := nI 2) (pc := 308) dX6_init_308 (by decide) ?_
  refine r_bipush (v := nI 117) (pc := 309) dX6_init_309 (by decide) ?_
  refine r_cast (pc := 311) (j := 2) dX6_init_311 n1 (n2 2 (by decide)) (by decide) (Nat.le_trans hb (Nat.le_add_right _ _)) ?_
  refine r_dup (pc := 312) dX6_init_312 rfl ?_
  refine r_iconst (v := nI 3) (pc := 313) dX6_init_313 (by decide) ?_
  refine r_bipush (v := nI 100) (pc := 314) dX6_init_314 (by decide) ?_
  refine r_cast (pc := 316) (j := 3) dX6_init_316 n1 (n2 3 (by decide)) (by decide) (Nat.le_trans hb (Nat.le_add_right _ _)) ?_
  refine r_putFQ (pc := 317) (x := some (o + 12)) dX6_init_317 fl_X6_48 ff_X6_20 rfl rfl rfl (n3 (by decide)) hb ?_
  subst hN
  exact kk _ (h.arr (ws := [vp_nar .char (nI 102), vp_nar .char (nI 101), vp_nar .char (nI 117), vp_nar .char (nI 100)]) (by decide) (by decide) rfl rfl (by decide))
theorem sg_13 (hb : gb g ≤ o) (h : BM M0 M o 13 e f) (kk : ∀ M', BM M0 M' o 14 e f → Bd g yX6_init cX6_init 1 none [] d 58 15590 M' 347 [some (.ref o)] [] Q X) : Bd g yX6_init cX6_init 1 none [] d 59 15594 M 320 [some (.ref o)] [] Q X := by
  refine r_ald0 (pc := 320) dX6_init_320 ?_
  refine r_iconst (v := nI 4) (pc := 321) dX6_init_321 (by decide) ?_
  refine r_newa (pc := 322) (t := 5) (n := 4) (kc' := 58) (ks' := 15590) dX6_init_322 rfl ⟨by decide, by decide⟩ q641 (by omega) (by omega) (by omega) ?_
  rw [h.1]
  generalize hN : nw M 5 4 = N
  obtain ⟨n1, n2, n3⟩ := h.fresh hN
  refine r_dup (pc := 324) dX6_init_324 rfl ?_
  refine r_iconst (v := nI 0) (pc := 325) dX6_init_325 (by decide) ?_
  refine r_bipush (v := nI 115) (pc := 326) dX6_init_326 (by decide) ?_
  refine r_cast (pc := 328) (j := 0) dX6_init_328 n1 (n2 0 (by decide)) (by decide) (Nat.le_trans hb (Nat.le_add_right _ _)) ?_
  refine r_dup (pc := 329) dX6_init_329 rfl ?_
  refine r_iconst (v := nI 1) (pc := 330) dX6_init_330 (by decide) ?_
  refine r_bipush (v := nI 108) (pc := 331) dX6_init_331 (by decide) ?_
  refine r_cast (pc := 333) (j := 1) dX6_init_333 n1 (n2 1 (by decide)) (by decide) (Nat.le_trans hb (Nat.le_add_right _ _)) ?_
  refine r_dup (pc := 334) dX6_init_334 rfl ?_
  refine r_iconst (v := nI 2) (pc := 335) dX6_init_335 (by decide) ?_
  refine r_bipush (v := nI 105) (pc := 336) dX6_init_336 (by decide) ?_
  refine r_cast (pc := 338) (j := 2) dX6_init_338 n1 (n2 2 (by decide)) (by decide) (Nat.le_trans hb (Nat.le_add_right _ _)) ?_
  refine r_dup (pc := 339) dX6_init_339 rfl ?_
  refine r_iconst (v := nI 3) (pc := 340) dX6_init_340 (by decide) ?_
  refine r_bipush (v := nI 112) (pc := 341) dX6_init_341 (by decide) ?_
  refine r_cast (pc := 343) (j := 3) dX6_init_343 n1 (n2 3 (by decide)) (by decide) (Nat.le_trans hb (Nat.le_add_right _ _)) ?_
  refine r_putFQ (pc := 344) (x := some (o + 13)) dX6_init_344 fl_X6_51 ff_X6_21 rfl rfl rfl (n3 (by decide)) hb ?_
  subst hN
  exact kk _ (h.arr (ws := [vp_nar .char (nI 115), vp_nar .char (nI 108), vp_nar .char (nI 105), vp_nar .char (nI 112)]) (by decide) (by decide) rfl rfl (by decide))
theorem sg_14 (hb : gb g ≤ o) (h : BM M0 M o 14 e f) (kk : ∀ M', BM M0 M' o 15 e f → Bd g yX6_init cX6_init 1 none [] d 57 15586 M' 374 [some (.ref o)] [] Q X) : Bd g yX6_init cX6_init 1 none [] d 58 15590 M 347 [some (.ref o)] [] Q X := by
  refine r_ald0 (pc := 347) dX6_init_347 ?_
  refine r_iconst (v := nI 4) (pc := 348) dX6_init_348 (by decide) ?_
  refine r_newa (pc := 349) (t := 5) (n := 4) (kc' := 57) (ks' := 15586) dX6_init_349 rfl ⟨by decide, by decide⟩ q641 (by omega) (by omega) (by omega) ?_
  rw [h.1]
  generalize hN : nw M 5 4 = N
  obtain ⟨n1, n2, n3⟩ := h.fresh hN
  refine r_dup (pc := 351) dX6_init_351 rfl ?_
  refine r_iconst (v := nI 0) (pc := 352) dX6_init_352 (by decide) ?_
  refine r_bipush (v := nI 108) (pc := 353) dX6_init_353 (by decide) ?_
  refine r_cast (pc := 355) (j := 0) dX6_init_355 n1 (n2 0 (by decide)) (by decide) (Nat.le_trans hb (Nat.le_add_right _ _)) ?_
  refine r_dup (pc := 356) dX6_init_356 rfl ?_
  refine r_iconst (v := nI 1) (pc := 357) dX6_init_357 (by decide) ?_
  refine r_bipush (v := nI 111) (pc := 358) dX6_init_358 (by decide) ?_
  refine r_cast (pc := 360) (j := 1) dX6_init_360 n1 (n2 1 (by decide)) (by decide) (Nat.le_trans hb (Nat.le_add_right _ _)) ?_
  refine r_dup (pc := 361) dX6_init_361 rfl ?_
  refine r_iconst (v := nI 2) (pc := 362) dX6_init_362 (by decide) ?_
  refine r_bipush (v := nI 111) (pc := 363) dX6_init_363 (by decide) ?_
  refine r_cast (pc := 365) (j := 2) dX6_init_365 n1 (n2 2 (by decide)) (by decide) (Nat.le_trans hb (Nat.le_add_right _ _)) ?_
  refine r_dup (pc := 366) dX6_init_366 rfl ?_
  refine r_iconst (v := nI 3) (pc := 367) dX6_init_367 (by decide) ?_
  refine r_bipush (v := nI 107) (pc := 368) dX6_init_368 (by decide) ?_
  refine r_cast (pc := 370) (j := 3) dX6_init_370 n1 (n2 3 (by decide)) (by decide) (Nat.le_trans hb (Nat.le_add_right _ _)) ?_
  refine r_putFQ (pc := 371) (x := some (o + 14)) dX6_init_371 fl_X6_54 ff_X6_22 rfl rfl rfl (n3 (by decide)) hb ?_
  subst hN
  exact kk _ (h.arr (ws := [vp_nar .char (nI 108), vp_nar .char (nI 111), vp_nar .char (nI 111), vp_nar .char (nI 107)]) (by decide) (by decide) rfl rfl (by decide))
theorem sg_15 (hb : gb g ≤ o) (h : BM M0 M o 15 e f) (kk : ∀ M', BM M0 M' o 16 e f → Bd g yX6_init cX6_init 1 none [] d 56 15582 M' 401 [some (.ref o)] [] Q X) : Bd g yX6_init cX6_init 1 none [] d 57 15586 M 374 [some (.ref o)] [] Q X := by
  refine r_ald0 (pc := 374) dX6_init_374 ?_
  refine r_iconst (v := nI 4) (pc := 375) dX6_init_375 (by decide) ?_
  refine r_newa (pc := 376) (t := 5) (n := 4) (kc' := 56) (ks' := 15582) dX6_init_376 rfl ⟨by decide, by decide⟩ q641 (by omega) (by omega) (by omega) ?_
  rw [h.1]
  generalize hN : nw M 5 4 = N
  obtain ⟨n1, n2, n3⟩ := h.fresh hN
  refine r_dup (pc := 378) dX6_init_378 rfl ?_
  refine r_iconst (v := nI 0) (pc := 379) dX6_init_379 (by decide) ?_
  refine r_bipush (v := nI 115) (pc := 380) dX6_init_380 (by decide) ?_
  refine r_cast (pc := 382) (j := 0) dX6_init_382 n1 (n2 0 (by decide)) (by decide) (Nat.le_trans hb (Nat.le_add_right _ _)) ?_
  refine r_dup (pc := 383) dX6_init_383 rfl ?_
  refine r_iconst (v := nI 1) (pc := 384) dX6_init_384 (by decide) ?_
  refine r_bipush (v := nI 105) (pc := 385) dX6_init_385 (by decide) ?_
  refine r_cast (pc := 387) (j := 1) dX6_init_387 n1 (n2 1 (by decide)) (by decide) (Nat.le_trans hb (Nat.le_add_right _ _)) ?_
  refine r_dup (pc := 388) dX6_init_388 rfl ?_
  refine r_iconst (v := nI 2) (pc := 389) dX6_init_389 (by decide) ?_
  refine r_bipush (v := nI 100) (pc := 390) dX6_init_390 (by decide) ?_
  refine r_cast (pc := 392) (j := 2) dX6_init_392 n1 (n2 2 (by decide)) (by decide) (Nat.le_trans hb (Nat.le_add_right _ _)) ?_
  refine r_dup (pc := 393) dX6_init_393 rfl ?_
  refine r_iconst (v := nI 3) (pc := 394) dX6_init_394 (by decide) ?_
  refine r_bipush (v := nI 101) (pc := 395) dX6_init_395 (by decide) ?_
  refine r_cast (pc := 397) (j := 3) dX6_init_397 n1 (n2 3 (by decide)) (by decide) (Nat.le_trans hb (Nat.le_add_right _ _)) ?_
  refine r_putFQ (pc := 398) (x := some (o + 15)) dX6_init_398 fl_X6_57 ff_X6_23 rfl rfl rfl (n3 (by decide)) hb ?_
  subst hN
  exact kk _ (h.arr (ws := [vp_nar .char (nI 115), vp_nar .char (nI 105), vp_nar .char (nI 100), vp_nar .char (nI 101)]) (by decide) (by decide) rfl rfl (by decide))
theorem sg_16 (hb : gb g ≤ o) (h : BM M0 M o 16 e f) (kk : ∀ M', BM M0 M' o 17 e f → Bd g yX6_init cX6_init 1 none [] d 55 15578 M' 428 [some (.ref o)] [] Q X) : Bd g yX6_init cX6_init 1 none [] d 56 15582 M 401 [some (.ref o)] [] Q X := by
  refine r_ald0 (pc := 401) dX6_init_401 ?_
  refine r_iconst (v := nI 4) (pc := 402) dX6_init_402 (by decide) ?_
  refine r_newa (pc := 403) (t := 5) (n := 4) (kc' := 55) (ks' := 15578) dX6_init_403 rfl ⟨by decide, by decide⟩ q641 (by omega) (by omega) (by omega) ?_
  rw [h.1]
  generalize hN : nw M 5 4 = N
  obtain ⟨n1, n2, n3⟩ := h.fresh hN
  refine r_dup (pc := 405) dX6_init_405 rfl ?_
  refine r_iconst (v := nI 0) (pc := 406) dX6_init_406 (by decide) ?_
  refine r_bipush (v := nI 103) (pc := 407) dX6_init_407 (by decide) ?_
  refine r_cast (pc := 409) (j := 0) dX6_init_409 n1 (n2 0 (by decide)) (by decide) (Nat.le_trans hb (Nat.le_add_right _ _)) ?_
  refine r_dup (pc := 410) dX6_init_410 rfl ?_
  refine r_iconst (v := nI 1) (pc := 411) dX6_init_411 (by decide) ?_
  refine r_bipush (v := nI 97) (pc := 412) dX6_init_412 (by decide) ?_
  refine r_cast (pc := 414) (j := 1) dX6_init_414 n1 (n2 1 (by decide)) (by decide) (Nat.le_trans hb (Nat.le_add_right _ _)) ?_
  refine r_dup (pc := 415) dX6_init_415 rfl ?_
  refine r_iconst (v := nI 2) (pc := 416) dX6_init_416 (by decide) ?_
  refine r_bipush (v := nI 105) (pc := 417) dX6_init_417 (by decide) ?_
  refine r_cast (pc := 419) (j := 2) dX6_init_419 n1 (n2 2 (by decide)) (by decide) (Nat.le_trans hb (Nat.le_add_right _ _)) ?_
  refine r_dup (pc := 420) dX6_init_420 rfl ?_
  refine r_iconst (v := nI 3) (pc := 421) dX6_init_421 (by decide) ?_
  refine r_bipush (v := nI 110) (pc := 422) dX6_init_422 (by decide) ?_
  refine r_cast (pc := 424) (j := 3) dX6_init_424 n1 (n2 3 (by decide)) (by decide) (Nat.le_trans hb (Nat.le_add_right _ _)) ?_
  refine r_putFQ (pc := 425) (x := some (o + 16)) dX6_init_425 fl_X6_60 ff_X6_24 rfl rfl rfl (n3 (by decide)) hb ?_
  subst hN
  exact kk _ (h.arr (ws := [vp_nar .char (nI 103), vp_nar .char (nI 97), vp_nar .char (nI 105), vp_nar .char (nI 110)]) (by decide) (by decide) rfl rfl (by decide))
theorem sg_17 (hb : gb g ≤ o) (h : BM M0 M o 17 e f) (kk : ∀ M', BM M0 M' o 18 e f → Bd g yX6_init cX6_init 1 none [] d 54 15574 M' 455 [some (.ref o)] [] Q X) : Bd g yX6_init cX6_init 1 none [] d 55 15578 M 428 [some (.ref o)] [] Q X := by
  refine r_ald0 (pc := 428) dX6_init_428 ?_
  refine r_iconst (v := nI 4) (pc := 429) dX6_init_429 (by decide) ?_
  refine r_newa (pc := 430) (t := 5) (n := 4) (kc' := 54) (ks' := 15574) dX6_init_430 rfl ⟨by decide, by decide⟩ q641 (by omega) (by omega) (by omega) ?_
  rw [h.1]
  generalize hN : nw M 5 4 = N
  obtain ⟨n1, n2, n3⟩ := h.fresh hN
  refine r_dup (pc := 432) dX6_init_432 rfl ?_
  refine r_iconst (v := nI 0) (pc := 433) dX6_init_433 (by decide) ?_
  refine r_bipush (v := nI 98) (pc := 434) dX6_init_434 (by decide) ?_
  refine r_cast (pc := 436) (j := 0) dX6_init_436 n1 (n2 0 (by decide)) (by decide) (Nat.le_trans hb (Nat.le_add_right _ _)) ?_
  refine r_dup (pc := 437) dX6_init_437 rfl ?_
  refine r_iconst (v := nI 1) (pc := 438) dX6_init_438 (by decide) ?_
  refine r_bipush (v := nI 97) (pc := 439) dX6_init_439 (by decide) ?_
  refine r_cast (pc := 441) (j := 1) dX6_init_441 n1 (n2 1 (by decide)) (by decide) (Nat.le_trans hb (Nat.le_add_right _ _)) ?_
  refine r_dup (pc := 442) dX6_init_442 rfl ?_
  refine r_iconst (v := nI 2) (pc := 443) dX6_init_443 (by decide) ?_
  refine r_bipush (v := nI 99) (pc := 444) dX6_init_444 (by decide) ?_
  refine r_cast (pc := 446) (j := 2) dX6_init_446 n1 (n2 2 (by decide)) (by decide) (Nat.le_trans hb (Nat.le_add_right _ _)) ?_
  refine r_dup (pc := 447) dX6_init_447 rfl ?_
  refine r_iconst (v := nI 3) (pc := 448) dX6_init_448 (by decide) ?_
  refine r_bipush (v := nI 107) (pc := 449) dX6_init_449 (by decide) ?_
  refine r_cast (pc := 451) (j := 3) dX6_init_451 n1 (n2 3 (by decide)) (by decide) (Nat.le_trans hb (Nat.le_add_right _ _)) ?_
  refine r_putFQ (pc := 452) (x := some (o + 17)) dX6_init_452 fl_X6_63 ff_X6_25 rfl rfl rfl (n3 (by decide)) hb ?_
  subst hN
  exact kk _ (h.arr (ws := [vp_nar .char (nI 98), vp_nar .char (nI 97), vp_nar .char (nI 99), vp_nar .char (nI 107)]) (by decide) (by decide) rfl rfl (by decide))
theorem sg_18 (hb : gb g ≤ o) (h : BM M0 M o 18 e f) (kk : ∀ M', BM M0 M' o 19 e f → Bd g yX6_init cX6_init 1 none [] d 53 15570 M' 482 [some (.ref o)] [] Q X) : Bd g yX6_init cX6_init 1 none [] d 54 15574 M 455 [some (.ref o)] [] Q X := by
  refine r_ald0 (pc := 455) dX6_init_455 ?_
  refine r_iconst (v := nI 4) (pc := 456) dX6_init_456 (by decide) ?_
  refine r_newa (pc := 457) (t := 5) (n := 4) (kc' := 53) (ks' := 15570) dX6_init_457 rfl ⟨by decide, by decide⟩ q641 (by omega) (by omega) (by omega) ?_
  rw [h.1]
  generalize hN : nw M 5 4 = N
  obtain ⟨n1, n2, n3⟩ := h.fresh hN
  refine r_dup (pc := 459) dX6_init_459 rfl ?_
  refine r_iconst (v := nI 0) (pc := 460) dX6_init_460 (by decide) ?_
  refine r_bipush (v := nI 121) (pc := 461) dX6_init_461 (by decide) ?_
  refine r_cast (pc := 463) (j := 0) dX6_init_463 n1 (n2 0 (by decide)) (by decide) (Nat.le_trans hb (Nat.le_add_right _ _)) ?_
  refine r_dup (pc := 464) dX6_init_464 rfl ?_
  refine r_iconst (v := nI 1) (pc := 465) dX6_init_465 (by decide) ?_
  refine r_bipush (v := nI 101) (pc := 466) dX6_init_466 (by decide) ?_
  refine r_cast (pc := 468) (j := 1) dX6_init_468 n1 (n2 1 (by decide)) (by decide) (Nat.le_trans hb (Nat.le_add_right _ _)) ?_
  refine r_dup (pc := 469) dX6_init_469 rfl ?_
  refine r_iconst (v := nI 2) (pc := 470) dX6_init_470 (by decide) ?_
  refine r_bipush (v := nI 97) (pc := 471) dX6_init_471 (by decide) ?_
  refine r_cast (pc := 473) (j := 2) dX6_init_473 n1 (n2 2 (by decide)) (by decide) (Nat.le_trans hb (Nat.le_add_right _ _)) ?_
  refine r_dup (pc := 474) dX6_init_474 rfl ?_
  refine r_iconst (v := nI 3) (pc := 475) dX6_init_475 (by decide) ?_
  refine r_bipush (v := nI 114) (pc := 476) dX6_init_476 (by decide) ?_
  refine r_cast (pc := 478) (j := 3) dX6_init_478 n1 (n2 3 (by decide)) (by decide) (Nat.le_trans hb (Nat.le_add_right _ _)) ?_
  refine r_putFQ (pc := 479) (x := some (o + 18)) dX6_init_479 fl_X6_66 ff_X6_26 rfl rfl rfl (n3 (by decide)) hb ?_
  subst hN
  exact kk _ (h.arr (ws := [vp_nar .char (nI 121), vp_nar .char (nI 101), vp_nar .char (nI 97), vp_nar .char (nI 114)]) (by decide) (by decide) rfl rfl (by decide))
theorem sg_19 (hb : gb g ≤ o) (h : BM M0 M o 19 e f) (kk : ∀ M', BM M0 M' o 20 e f → Bd g yX6_init cX6_init 1 none [] d 52 15564 M' 520 [some (.ref o)] [] Q X) : Bd g yX6_init cX6_init 1 none [] d 53 15570 M 482 [some (.ref o)] [] Q X := by
  refine r_ald0 (pc := 482) dX6_init_482 ?_
  refine r_bipush (v := nI 6) (pc := 483) dX6_init_483 (by decide) ?_
  refine r_newa (pc := 485) (t := 5) (n := 6) (kc' := 52) (ks' := 15564) dX6_init_485 rfl ⟨by decide, by decide⟩ q641 (by omega) (by omega) (by omega) ?_
  rw [h.1]
  generalize hN : nw M 5 6 = N
  obtain ⟨n1, n2, n3⟩ := h.fresh hN
  refine r_dup (pc := 487) dX6_init_487 rfl ?_
  refine r_iconst (v := nI 0) (pc := 488) dX6_init_488 (by decide) ?_
  refine r_bipush (v := nI 110) (pc := 489) dX6_init_489 (by decide) ?_
  refine r_cast (pc := 491) (j := 0) dX6_init_491 n1 (n2 0 (by decide)) (by decide) (Nat.le_trans hb (Nat.le_add_right _ _)) ?_
  refine r_dup (pc := 492) dX6_init_492 rfl ?_
  refine r_iconst (v := nI 1) (pc := 493) dX6_init_493 (by decide) ?_
  refine r_bipush (v := nI 117) (pc := 494) dX6_init_494 (by decide) ?_
  refine r_cast (pc := 496) (j := 1) dX6_init_496 n1 (n2 1 (by decide)) (by decide) (Nat.le_trans hb (Nat.le_add_right _ _)) ?_
  refine r_dup (pc := 497) dX6_init_497 rfl ?_
  refine r_iconst (v := nI 2) (pc := 498) dX6_init_498 (by decide) ?_
  refine r_bipush (v := nI 109) (pc := 499) dX6_init_499 (by decide) ?_
  refine r_cast (pc := 501) (j := 2) dX6_init_501 n1 (n2 2 (by decide)) (by decide) (Nat.le_trans hb (Nat.le_add_right _ _)) ?_
  refine r_dup (pc := 502) dX6_init_502 rfl ?_
  refine r_iconst (v := nI 3) (pc := 503) dX6_init_503 (by decide) ?_
  refine r_bipush (v := nI 98) (pc := 504) dX6_init_504 (by decide) ?_
  refine r_cast (pc := 506) (j := 3) dX6_init_506 n1 (n2 3 (by decide)) (by decide) (Nat.le_trans hb (Nat.le_add_right _ _)) ?_
  refine r_dup (pc := 507) dX6_init_507 rfl ?_
  refine r_iconst (v := nI 4) (pc := 508) dX6_init_508 (by decide) ?_
  refine r_bipush (v := nI 101) (pc := 509) dX6_init_509 (by decide) ?_
  refine r_cast (pc := 511) (j := 4) dX6_init_511 n1 (n2 4 (by decide)) (by decide) (Nat.le_trans hb (Nat.le_add_right _ _)) ?_
  refine r_dup (pc := 512) dX6_init_512 rfl ?_
  refine r_iconst (v := nI 5) (pc := 513) dX6_init_513 (by decide) ?_
  refine r_bipush (v := nI 114) (pc := 514) dX6_init_514 (by decide) ?_
  refine r_cast (pc := 516) (j := 5) dX6_init_516 n1 (n2 5 (by decide)) (by decide) (Nat.le_trans hb (Nat.le_add_right _ _)) ?_
  refine r_putFQ (pc := 517) (x := some (o + 19)) dX6_init_517 fl_X6_69 ff_X6_27 rfl rfl rfl (n3 (by decide)) hb ?_
  subst hN
  exact kk _ (h.arr (ws := [vp_nar .char (nI 110), vp_nar .char (nI 117), vp_nar .char (nI 109), vp_nar .char (nI 98), vp_nar .char (nI 101), vp_nar .char (nI 114)]) (by decide) (by decide) rfl rfl (by decide))
theorem sg_20 (hb : gb g ≤ o) (h : BM M0 M o 20 e f) (kk : ∀ M', BM M0 M' o 21 e f → Bd g yX6_init cX6_init 1 none [] d 51 15559 M' 552 [some (.ref o)] [] Q X) : Bd g yX6_init cX6_init 1 none [] d 52 15564 M 520 [some (.ref o)] [] Q X := by
  refine r_ald0 (pc := 520) dX6_init_520 ?_
  refine r_iconst (v := nI 5) (pc := 521) dX6_init_521 (by decide) ?_
  refine r_newa (pc := 522) (t := 5) (n := 5) (kc' := 51) (ks' := 15559) dX6_init_522 rfl ⟨by decide, by decide⟩ q641 (by omega) (by omega) (by omega) ?_
  rw [h.1]
  generalize hN : nw M 5 5 = N
  obtain ⟨n1, n2, n3⟩ := h.fresh hN
  refine r_dup (pc := 524) dX6_init_524 rfl ?_
  refine r_iconst (v := nI 0) (pc := 525) dX6_init_525 (by decide) ?_
  refine r_bipush (v := nI 104) (pc := 526) dX6_init_526 (by decide) ?_
  refine r_cast (pc := 528) (j := 0) dX6_init_528 n1 (n2 0 (by decide)) (by decide) (Nat.le_trans hb (Nat.le_add_right _ _)) ?_
  refine r_dup (pc := 529) dX6_init_529 rfl ?_
  refine r_iconst (v := nI 1) (pc := 530) dX6_init_530 (by decide) ?_
  refine r_bipush (v := nI 111) (pc := 531) dX6_init_531 (by decide) ?_
  refine r_cast (pc := 533) (j := 1) dX6_init_533 n1 (n2 1 (by decide)) (by decide) (Nat.le_trans hb (Nat.le_add_right _ _)) ?_
  refine r_dup (pc := 534) dX6_init_534 rfl ?_
  refine r_iconst (v := nI 2) (pc := 535) dX6_init_535 (by decide) ?_
  refine r_bipush (v := nI 117) (pc := 536) dX6_init_536 (by decide) ?_
  refine r_cast (pc := 538) (j := 2) dX6_init_538 n1 (n2 2 (by decide)) (by decide) (Nat.le_trans hb (Nat.le_add_right _ _)) ?_
  refine r_dup (pc := 539) dX6_init_539 rfl ?_
  refine r_iconst (v := nI 3) (pc := 540) dX6_init_540 (by decide) ?_
  refine r_bipush (v := nI 115) (pc := 541) dX6_init_541 (by decide) ?_
  refine r_cast (pc := 543) (j := 3) dX6_init_543 n1 (n2 3 (by decide)) (by decide) (Nat.le_trans hb (Nat.le_add_right _ _)) ?_
  refine r_dup (pc := 544) dX6_init_544 rfl ?_
  refine r_iconst (v := nI 4) (pc := 545) dX6_init_545 (by decide) ?_
  refine r_bipush (v := nI 101) (pc := 546) dX6_init_546 (by decide) ?_
  refine r_cast (pc := 548) (j := 4) dX6_init_548 n1 (n2 4 (by decide)) (by decide) (Nat.le_trans hb (Nat.le_add_right _ _)) ?_
  refine r_putFQ (pc := 549) (x := some (o + 20)) dX6_init_549 fl_X6_72 ff_X6_28 rfl rfl rfl (n3 (by decide)) hb ?_
  subst hN
  exact kk _ (h.arr (ws := [vp_nar .char (nI 104), vp_nar .char (nI 111), vp_nar .char (nI 117), vp_nar .char (nI 115), vp_nar .char (nI 101)]) (by decide) (by decide) rfl rfl (by decide))
theorem sg_21 (hb : gb g ≤ o) (h : BM M0 M o 21 e f) (kk : ∀ M', BM M0 M' o 22 e f → Bd g yX6_init cX6_init 1 none [] d 50 15553 M' 590 [some (.ref o)] [] Q X) : Bd g yX6_init cX6_init 1 none [] d 51 15559 M 552 [some (.ref o)] [] Q X := by
  refine r_ald0 (pc := 552) dX6_init_552 ?_
  refine r_bipush (v := nI 6) (pc := 553) dX6_init_553 (by decide) ?_
  refine r_newa (pc := 555) (t := 5) (n := 6) (kc' := 50) (ks' := 15553) dX6_init_555 rfl ⟨by decide, by decide⟩ q641 (by omega) (by omega) (by omega) ?_
  rw [h.1]
  generalize hN : nw M 5 6 = N
  obtain ⟨n1, n2, n3⟩ := h.fresh hN
  refine r_dup (pc := 557) dX6_init_557 rfl ?_
  refine r_iconst (v := nI 0) (pc := 558) dX6_init_558 (by decide) ?_
  refine r_bipush (v := nI 115) (pc := 559) dX6_init_559 (by decide) ?_
  refine r_cast (pc := 561) (j := 0) dX6_init_561 n1 (n2 0 (by decide)) (by decide) (Nat.le_trans hb (Nat.le_add_right _ _)) ?_
  refine r_dup (pc := 562) dX6_init_562 rfl ?_
  refine r_iconst (v := nI 1) (pc := 563) dX6_init_563 (by decide) ?_
  refine r_bipush (v := nI 112) (pc := 564) dX6_init_564 (by decide) ?_
  refine r_cast (pc := 566) (j := 1) dX6_init_566 n1 (n2 1 (by decide)) (by decide) (Nat.le_trans hb (Nat.le_add_right _ _)) ?_
  refine r_dup (pc := 567) dX6_init_567 rfl ?_
  refine r_iconst (v := nI 2) (pc := 568) dX6_init_568 (by decide) ?_
  refine r_bipush (v := nI 97) (pc := 569) dX6_init_569 (by decide) ?_
  refine r_cast (pc := 571) (j := 2) dX6_init_571 n1 (n2 2 (by decide)) (by decide) (Nat.le_trans hb (Nat.le_add_right _ _)) ?_
  refine r_dup (pc := 572) dX6_init_572 rfl ?_
  refine r_iconst (v := nI 3) (pc := 573) dX6_init_573 (by decide) ?_
  refine r_bipush (v := nI 114) (pc := 574) dX6_init_574 (by decide) ?_
  refine r_cast (pc := 576) (j := 3) dX6_init_576 n1 (n2 3 (by decide)) (by decide) (Nat.le_trans hb (Nat.le_add_right _ _)) ?_
  refine r_dup (pc := 577) dX6_init_577 rfl ?_
  refine r_iconst (v := nI 4) (pc := 578) dX6_init_578 (by decide) ?_
  refine r_bipush (v := nI 101) (pc := 579) dX6_init_579 (by decide) ?_
  refine r_cast (pc := 581) (j := 4) dX6_init_581 n1 (n2 4 (by decide)) (by decide) (Nat.le_trans hb (Nat.le_add_right _ _)) ?_
  refine r_dup (pc := 582) dX6_init_582 rfl ?_
  refine r_iconst (v := nI 5) (pc := 583) dX6_init_583 (by decide) ?_
  refine r_bipush (v := nI 115) (pc := 584) dX6_init_584 (by decide) ?_
  refine r_cast (pc := 586) (j := 5) dX6_init_586 n1 (n2 5 (by decide)) (by decide) (Nat.le_trans hb (Nat.le_add_right _ _)) ?_
  refine r_putFQ (pc := 587) (x := some (o + 21)) dX6_init_587 fl_X6_75 ff_X6_29 rfl rfl rfl (n3 (by decide)) hb ?_
  subst hN
  exact kk _ (h.arr (ws := [vp_nar .char (nI 115), vp_nar .char (nI 112), vp_nar .char (nI 97), vp_nar .char (nI 114), vp_nar .char (nI 101), vp_nar .char (nI 115)]) (by decide) (by decide) rfl rfl (by decide))
theorem sg_22 (hb : gb g ≤ o) (h : BM M0 M o 22 e f) (kk : ∀ M', BM M0 M' o 23 e f → Bd g yX6_init cX6_init 1 none [] d 49 15551 M' 607 [some (.ref o)] [] Q X) : Bd g yX6_init cX6_init 1 none [] d 50 15553 M 590 [some (.ref o)] [] Q X := by
  refine r_ald0 (pc := 590) dX6_init_590 ?_
  refine r_iconst (v := nI 2) (pc := 591) dX6_init_591 (by decide) ?_
  refine r_newa (pc := 592) (t := 5) (n := 2) (kc' := 49) (ks' := 15551) dX6_init_592 rfl ⟨by decide, by decide⟩ q641 (by omega) (by omega) (by omega) ?_
  rw [h.1]
  generalize hN : nw M 5 2 = N
  obtain ⟨n1, n2, n3⟩ := h.fresh hN
  refine r_dup (pc := 594) dX6_init_594 rfl ?_
  refine r_iconst (v := nI 0) (pc := 595) dX6_init_595 (by decide) ?_
  refine r_bipush (v := nI 111) (pc := 596) dX6_init_596 (by decide) ?_
  refine r_cast (pc := 598) (j := 0) dX6_init_598 n1 (n2 0 (by decide)) (by decide) (Nat.le_trans hb (Nat.le_add_right _ _)) ?_
  refine r_dup (pc := 599) dX6_init_599 rfl ?_
  refine r_iconst (v := nI 1) (pc := 600) dX6_init_600 (by decide) ?_
  refine r_bipush (v := nI 114) (pc := 601) dX6_init_601 (by decide) ?_
  refine r_cast (pc := 603) (j := 1) dX6_init_603 n1 (n2 1 (by decide)) (by decide) (Nat.le_trans hb (Nat.le_add_right _ _)) ?_
  refine r_putFQ (pc := 604) (x := some (o + 22)) dX6_init_604 fl_X6_78 ff_X6_30 rfl rfl rfl (n3 (by decide)) hb ?_
  subst hN
  exact kk _ (h.arr (ws := [vp_nar .char (nI 111), vp_nar .char (nI 114)]) (by decide) (by decide) rfl rfl (by decide))
theorem sg_23 (hb : gb g ≤ o) (h : BM M0 M o 23 e f) (kk : ∀ M', BM M0 M' o 24 e f → Bd g yX6_init cX6_init 1 none [] d 48 15548 M' 629 [some (.ref o)] [] Q X) : Bd g yX6_init cX6_init 1 none [] d 49 15551 M 607 [some (.ref o)] [] Q X := by
  refine r_ald0 (pc := 607) dX6_init_607 ?_
  refine r_iconst (v := nI 3) (pc := 608) dX6_init_608 (by decide) ?_
  refine r_newa (pc := 609) (t := 5) (n := 3) (kc' := 48) (ks' := 15548) dX6_init_609 rfl ⟨by decide, by decide⟩ q641 (by omega) (by omega) (by omega) ?_
  rw [h.1]
  generalize hN : nw M 5 3 = N
  obtain ⟨n1, n2, n3⟩ := h.fresh hN
  refine r_dup (pc := 611) dX6_init_611 rfl ?_
  refine r_iconst (v := nI 0) (pc := 612) dX6_init_612 (by decide) ?_
  refine r_bipush (v := nI 97) (pc := 613) dX6_init_613 (by decide) ?_
  refine r_cast (pc := 615) (j := 0) dX6_init_615 n1 (n2 0 (by decide)) (by decide) (Nat.le_trans hb (Nat.le_add_right _ _)) ?_
  refine r_dup (pc := 616) dX6_init_616 rfl ?_
  refine r_iconst (v := nI 1) (pc := 617) dX6_init_617 (by decide) ?_
  refine r_bipush (v := nI 110) (pc := 618) dX6_init_618 (by decide) ?_
  refine r_cast (pc := 620) (j := 1) dX6_init_620 n1 (n2 1 (by decide)) (by decide) (Nat.le_trans hb (Nat.le_add_right _ _)) ?_
  refine r_dup (pc := 621) dX6_init_621 rfl ?_
  refine r_iconst (v := nI 2) (pc := 622) dX6_init_622 (by decide) ?_
  refine r_bipush (v := nI 100) (pc := 623) dX6_init_623 (by decide) ?_
  refine r_cast (pc := 625) (j := 2) dX6_init_625 n1 (n2 2 (by decide)) (by decide) (Nat.le_trans hb (Nat.le_add_right _ _)) ?_
  refine r_putFQ (pc := 626) (x := some (o + 23)) dX6_init_626 fl_X6_81 ff_X6_31 rfl rfl rfl (n3 (by decide)) hb ?_
  subst hN
  exact kk _ (h.arr (ws := [vp_nar .char (nI 97), vp_nar .char (nI 110), vp_nar .char (nI 100)]) (by decide) (by decide) rfl rfl (by decide))
theorem sg_24 (hb : gb g ≤ o) (h : BM M0 M o 24 e f) (kk : ∀ M', BM M0 M' o 25 e f → Bd g yX6_init cX6_init 1 none [] d 47 15545 M' 651 [some (.ref o)] [] Q X) : Bd g yX6_init cX6_init 1 none [] d 48 15548 M 629 [some (.ref o)] [] Q X := by
  refine r_ald0 (pc := 629) dX6_init_629 ?_
  refine r_iconst (v := nI 3) (pc := 630) dX6_init_630 (by decide) ?_
  refine r_newa (pc := 631) (t := 5) (n := 3) (kc' := 47) (ks' := 15545) dX6_init_631 rfl ⟨by decide, by decide⟩ q641 (by omega) (by omega) (by omega) ?_
  rw [h.1]
  generalize hN : nw M 5 3 = N
  obtain ⟨n1, n2, n3⟩ := h.fresh hN
  refine r_dup (pc := 633) dX6_init_633 rfl ?_
  refine r_iconst (v := nI 0) (pc := 634) dX6_init_634 (by decide) ?_
  refine r_bipush (v := nI 110) (pc := 635) dX6_init_635 (by decide) ?_
  refine r_cast (pc := 637) (j := 0) dX6_init_637 n1 (n2 0 (by decide)) (by decide) (Nat.le_trans hb (Nat.le_add_right _ _)) ?_
  refine r_dup (pc := 638) dX6_init_638 rfl ?_
  refine r_iconst (v := nI 1) (pc := 639) dX6_init_639 (by decide) ?_
  refine r_bipush (v := nI 111) (pc := 640) dX6_init_640 (by decide) ?_
  refine r_cast (pc := 642) (j := 1) dX6_init_642 n1 (n2 1 (by decide)) (by decide) (Nat.le_trans hb (Nat.le_add_right _ _)) ?_
  refine r_dup (pc := 643) dX6_init_643 rfl ?_
  refine r_iconst (v := nI 2) (pc := 644) dX6_init_644 (by decide) ?_
  refine r_bipush (v := nI 116) (pc := 645) dX6_init_645 (by decide) ?_
  refine r_cast (pc := 647) (j := 2) dX6_init_647 n1 (n2 2 (by decide)) (by decide) (Nat.le_trans hb (Nat.le_add_right _ _)) ?_
  refine r_putFQ (pc := 648) (x := some (o + 24)) dX6_init_648 fl_X6_84 ff_X6_32 rfl rfl rfl (n3 (by decide)) hb ?_
  subst hN
  exact kk _ (h.arr (ws := [vp_nar .char (nI 110), vp_nar .char (nI 111), vp_nar .char (nI 116)]) (by decide) (by decide) rfl rfl (by decide))
theorem sg_25 (hb : gb g ≤ o) (h : BM M0 M o 25 e f) (kk : ∀ M', BM M0 M' o 26 e f → Bd g yX6_init cX6_init 1 none [] d 46 15542 M' 673 [some (.ref o)] [] Q X) : Bd g yX6_init cX6_init 1 none [] d 47 15545 M 651 [some (.ref o)] [] Q X := by
  refine r_ald0 (pc := 651) dX6_init_651 ?_
  refine r_iconst (v := nI 3) (pc := 652) dX6_init_652 (by decide) ?_
  refine r_newa (pc := 653) (t := 5) (n := 3) (kc' := 46) (ks' := 15542) dX6_init_653 rfl ⟨by decide, by decide⟩ q641 (by omega) (by omega) (by omega) ?_
  rw [h.1]
  generalize hN : nw M 5 3 = N
  obtain ⟨n1, n2, n3⟩ := h.fresh hN
  refine r_dup (pc := 655) dX6_init_655 rfl ?_
  refine r_iconst (v := nI 0) (pc := 656) dX6_init_656 (by decide) ?_
  refine r_bipush (v := nI 97) (pc := 657) dX6_init_657 (by decide) ?_
  refine r_cast (pc := 659) (j := 0) dX6_init_659 n1 (n2 0 (by decide)) (by decide) (Nat.le_trans hb (Nat.le_add_right _ _)) ?_
  refine r_dup (pc := 660) dX6_init_660 rfl ?_
  refine r_iconst (v := nI 1) (pc := 661) dX6_init_661 (by decide) ?_
  refine r_bipush (v := nI 108) (pc := 662) dX6_init_662 (by decide) ?_
  refine r_cast (pc := 664) (j := 1) dX6_init_664 n1 (n2 1 (by decide)) (by decide) (Nat.le_trans hb (Nat.le_add_right _ _)) ?_
  refine r_dup (pc := 665) dX6_init_665 rfl ?_
  refine r_iconst (v := nI 2) (pc := 666) dX6_init_666 (by decide) ?_
  refine r_bipush (v := nI 108) (pc := 667) dX6_init_667 (by decide) ?_
  refine r_cast (pc := 669) (j := 2) dX6_init_669 n1 (n2 2 (by decide)) (by decide) (Nat.le_trans hb (Nat.le_add_right _ _)) ?_
  refine r_putFQ (pc := 670) (x := some (o + 25)) dX6_init_670 fl_X6_87 ff_X6_33 rfl rfl rfl (n3 (by decide)) hb ?_
  subst hN
  exact kk _ (h.arr (ws := [vp_nar .char (nI 97), vp_nar .char (nI 108), vp_nar .char (nI 108)]) (by decide) (by decide) rfl rfl (by decide))
theorem sg_26 (hb : gb g ≤ o) (h : BM M0 M o 26 e f) (kk : ∀ M', BM M0 M' o 27 e f → Bd g yX6_init cX6_init 1 none [] d 45 15539 M' 695 [some (.ref o)] [] Q X) : Bd g yX6_init cX6_init 1 none [] d 46 15542 M 673 [some (.ref o)] [] Q X := by
  refine r_ald0 (pc := 673) dX6_init_673 ?_
  refine r_iconst (v := nI 3) (pc := 674) dX6_init_674 (by decide) ?_
  refine r_newa (pc := 675) (t := 5) (n := 3) (kc' := 45) (ks' := 15539) dX6_init_675 rfl ⟨by decide, by decide⟩ q641 (by omega) (by omega) (by omega) ?_
  rw [h.1]
  generalize hN : nw M 5 3 = N
  obtain ⟨n1, n2, n3⟩ := h.fresh hN
  refine r_dup (pc := 677) dX6_init_677 rfl ?_
  refine r_iconst (v := nI 0) (pc := 678) dX6_init_678 (by decide) ?_
  refine r_bipush (v := nI 109) (pc := 679) dX6_init_679 (by decide) ?_
  refine r_cast (pc := 681) (j := 0) dX6_init_681 n1 (n2 0 (by decide)) (by decide) (Nat.le_trans hb (Nat.le_add_right _ _)) ?_
  refine r_dup (pc := 682) dX6_init_682 rfl ?_
  refine r_iconst (v := nI 1) (pc := 683) dX6_init_683 (by decide) ?_
  refine r_bipush (v := nI 105) (pc := 684) dX6_init_684 (by decide) ?_
  refine r_cast (pc := 686) (j := 1) dX6_init_686 n1 (n2 1 (by decide)) (by decide) (Nat.le_trans hb (Nat.le_add_right _ _)) ?_
  refine r_dup (pc := 687) dX6_init_687 rfl ?_
  refine r_iconst (v := nI 2) (pc := 688) dX6_init_688 (by decide) ?_
  refine r_bipush (v := nI 110) (pc := 689) dX6_init_689 (by decide) ?_
  refine r_cast (pc := 691) (j := 2) dX6_init_691 n1 (n2 2 (by decide)) (by decide) (Nat.le_trans hb (Nat.le_add_right _ _)) ?_
  refine r_putFQ (pc := 692) (x := some (o + 26)) dX6_init_692 fl_X6_90 ff_X6_34 rfl rfl rfl (n3 (by decide)) hb ?_
  subst hN
  exact kk _ (h.arr (ws := [vp_nar .char (nI 109), vp_nar .char (nI 105), vp_nar .char (nI 110)]) (by decide) (by decide) rfl rfl (by decide))
theorem sg_27 (hb : gb g ≤ o) (h : BM M0 M o 27 e f) (kk : ∀ M', BM M0 M' o 28 e f → Bd g yX6_init cX6_init 1 none [] d 44 15536 M' 717 [some (.ref o)] [] Q X) : Bd g yX6_init cX6_init 1 none [] d 45 15539 M 695 [some (.ref o)] [] Q X := by
  refine r_ald0 (pc := 695) dX6_init_695 ?_
  refine r_iconst (v := nI 3) (pc := 696) dX6_init_696 (by decide) ?_
  refine r_newa (pc := 697) (t := 5) (n := 3) (kc' := 44) (ks' := 15536) dX6_init_697 rfl ⟨by decide, by decide⟩ q641 (by omega) (by omega) (by omega) ?_
  rw [h.1]
  generalize hN : nw M 5 3 = N
  obtain ⟨n1, n2, n3⟩ := h.fresh hN
  refine r_dup (pc := 699) dX6_init_699 rfl ?_
  refine r_iconst (v := nI 0) (pc := 700) dX6_init_700 (by decide) ?_
  refine r_bipush (v := nI 109) (pc := 701) dX6_init_701 (by decide) ?_
  refine r_cast (pc := 703) (j := 0) dX6_init_703 n1 (n2 0 (by decide)) (by decide) (Nat.le_trans hb (Nat.le_add_right _ _)) ?_
  refine r_dup (pc := 704) dX6_init_704 rfl ?_
  refine r_iconst (v := nI 1) (pc := 705) dX6_init_705 (by decide) ?_
  refine r_bipush (v := nI 97) (pc := 706) dX6_init_706 (by decide) ?_
  refine r_cast (pc := 708) (j := 1) dX6_init_708 n1 (n2 1 (by decide)) (by decide) (Nat.le_trans hb (Nat.le_add_right _ _)) ?_
  refine r_dup (pc := 709) dX6_init_709 rfl ?_
  refine r_iconst (v := nI 2) (pc := 710) dX6_init_710 (by decide) ?_
  refine r_bipush (v := nI 120) (pc := 711) dX6_init_711 (by decide) ?_
  refine r_cast (pc := 713) (j := 2) dX6_init_713 n1 (n2 2 (by decide)) (by decide) (Nat.le_trans hb (Nat.le_add_right _ _)) ?_
  refine r_putFQ (pc := 714) (x := some (o + 27)) dX6_init_714 fl_X6_93 ff_X6_35 rfl rfl rfl (n3 (by decide)) hb ?_
  subst hN
  exact kk _ (h.arr (ws := [vp_nar .char (nI 109), vp_nar .char (nI 97), vp_nar .char (nI 120)]) (by decide) (by decide) rfl rfl (by decide))
theorem sg_28 (hb : gb g ≤ o) (h : BM M0 M o 28 e f) (kk : ∀ M', BM M0 M' o 29 e f → Bd g yX6_init cX6_init 1 none [] d 43 15520 M' 725 [some (.ref o)] [] Q X) : Bd g yX6_init cX6_init 1 none [] d 44 15536 M 717 [some (.ref o)] [] Q X := by
  refine r_ald0 (pc := 717) dX6_init_717 ?_
  refine r_bipush (v := nI 16) (pc := 718) dX6_init_718 (by decide) ?_
  refine r_newa (pc := 720) (t := 2) (n := 16) (kc' := 43) (ks' := 15520) dX6_init_720 rfl ⟨by decide, by decide⟩ q373 (by omega) (by omega) (by omega) ?_
  rw [h.1]
  generalize hN : nw M 2 16 = N
  obtain ⟨n1, n2, n3⟩ := h.fresh hN
  refine r_putFQ (pc := 722) (x := some (o + 28)) dX6_init_722 fl_X6_96 ff_X6_41 rfl rfl rfl (n3 (by decide)) hb ?_
  subst hN
  exact kk _ (h.arr (ws := []) (by decide) (by decide) rfl rfl (by decide))
theorem sg_29 (hb : gb g ≤ o) (h : BM M0 M o 29 e f) (kk : ∀ M', BM M0 M' o 30 e f → Bd g yX6_init cX6_init 1 none [] d 42 15512 M' 733 [some (.ref o)] [] Q X) : Bd g yX6_init cX6_init 1 none [] d 43 15520 M 725 [some (.ref o)] [] Q X := by
  refine r_ald0 (pc := 725) dX6_init_725 ?_
  refine r_bipush (v := nI 8) (pc := 726) dX6_init_726 (by decide) ?_
  refine r_newa (pc := 728) (t := 1) (n := 8) (kc' := 42) (ks' := 15512) dX6_init_728 rfl ⟨by decide, by decide⟩ q425 (by omega) (by omega) (by omega) ?_
  rw [h.1]
  generalize hN : nw M 1 8 = N
  obtain ⟨n1, n2, n3⟩ := h.fresh hN
  refine r_putFQ (pc := 730) (x := some (o + 29)) dX6_init_730 fl_X6_100 ff_X6_42 rfl rfl rfl (n3 (by decide)) hb ?_
  subst hN
  exact kk _ (h.arr (ws := []) (by decide) (by decide) rfl rfl (by decide))
theorem sg_30 (hb : gb g ≤ o) (h : BM M0 M o 30 e f) (kk : ∀ M', BM M0 M' o 31 e f → Bd g yX6_init cX6_init 1 none [] d 41 15496 M' 741 [some (.ref o)] [] Q X) : Bd g yX6_init cX6_init 1 none [] d 42 15512 M 733 [some (.ref o)] [] Q X := by
  refine r_ald0 (pc := 733) dX6_init_733 ?_
  refine r_bipush (v := nI 16) (pc := 734) dX6_init_734 (by decide) ?_
  refine r_newa (pc := 736) (t := 1) (n := 16) (kc' := 41) (ks' := 15496) dX6_init_736 rfl ⟨by decide, by decide⟩ q425 (by omega) (by omega) (by omega) ?_
  rw [h.1]
  generalize hN : nw M 1 16 = N
  obtain ⟨n1, n2, n3⟩ := h.fresh hN
  refine r_putFQ (pc := 738) (x := some (o + 30)) dX6_init_738 fl_X6_103 ff_X6_43 rfl rfl rfl (n3 (by decide)) hb ?_
  subst hN
  exact kk _ (h.arr (ws := []) (by decide) (by decide) rfl rfl (by decide))
theorem sg_31 (hb : gb g ≤ o) (h : BM M0 M o 31 e f) (kk : ∀ M', BM M0 M' o 32 e f → Bd g yX6_init cX6_init 1 none [] d 40 15480 M' 749 [some (.ref o)] [] Q X) : Bd g yX6_init cX6_init 1 none [] d 41 15496 M 741 [some (.ref o)] [] Q X := by
  refine r_ald0 (pc := 741) dX6_init_741 ?_
  refine r_bipush (v := nI 16) (pc := 742) dX6_init_742 (by decide) ?_
  refine r_newa (pc := 744) (t := 1) (n := 16) (kc' := 40) (ks' := 15480) dX6_init_744 rfl ⟨by decide, by decide⟩ q425 (by omega) (by omega) (by omega) ?_
  rw [h.1]
  generalize hN : nw M 1 16 = N
  obtain ⟨n1, n2, n3⟩ := h.fresh hN
  refine r_putFQ (pc := 746) (x := some (o + 31)) dX6_init_746 fl_X6_106 ff_X6_44 rfl rfl rfl (n3 (by decide)) hb ?_
  subst hN
  exact kk _ (h.arr (ws := []) (by decide) (by decide) rfl rfl (by decide))
theorem sg_32 (hb : gb g ≤ o) (h : BM M0 M o 32 e f) (kk : ∀ M', BM M0 M' o 33 e f → Bd g yX6_init cX6_init 1 none [] d 39 15416 M' 757 [some (.ref o)] [] Q X) : Bd g yX6_init cX6_init 1 none [] d 40 15480 M 749 [some (.ref o)] [] Q X := by
  refine r_ald0 (pc := 749) dX6_init_749 ?_
  refine r_bipush (v := nI 64) (pc := 750) dX6_init_750 (by decide) ?_
  refine r_newa (pc := 752) (t := 1) (n := 64) (kc' := 39) (ks' := 15416) dX6_init_752 rfl ⟨by decide, by decide⟩ q425 (by omega) (by omega) (by omega) ?_
  rw [h.1]
  generalize hN : nw M 1 64 = N
  obtain ⟨n1, n2, n3⟩ := h.fresh hN
  refine r_putFQ (pc := 754) (x := some (o + 32)) dX6_init_754 fl_X6_109 ff_X6_45 rfl rfl rfl (n3 (by decide)) hb ?_
  subst hN
  exact kk _ (h.arr (ws := []) (by decide) (by decide) rfl rfl (by decide))
theorem sg_33 (hb : gb g ≤ o) (h : BM M0 M o 33 e f) (kk : ∀ M', BM M0 M' o 34 e f → Bd g yX6_init cX6_init 1 none [] d 38 15410 M' 789 [some (.ref o)] [] Q X) : Bd g yX6_init cX6_init 1 none [] d 39 15416 M 757 [some (.ref o)] [] Q X := by
  refine r_ald0 (pc := 757) dX6_init_757 ?_
  refine r_bipush (v := nI 6) (pc := 758) dX6_init_758 (by decide) ?_
  refine r_newa (pc := 760) (t := 1) (n := 6) (kc' := 38) (ks' := 15410) dX6_init_760 rfl ⟨by decide, by decide⟩ q425 (by omega) (by omega) (by omega) ?_
  rw [h.1]
  generalize hN : nw M 1 6 = N
  obtain ⟨n1, n2, n3⟩ := h.fresh hN
  refine r_dup (pc := 762) dX6_init_762 rfl ?_
  refine r_iconst (v := nI 0) (pc := 763) dX6_init_763 (by decide) ?_
  refine r_iconst (v := -1) (pc := 764) dX6_init_764 (by decide) ?_
  refine r_iast (pc := 765) (j := 0) dX6_init_765 n1 (n2 0 (by decide)) (by decide) (Nat.le_trans hb (Nat.le_add_right _ _)) ?_
  refine r_dup (pc := 766) dX6_init_766 rfl ?_
  refine r_iconst (v := nI 1) (pc := 767) dX6_init_767 (by decide) ?_
  refine r_iconst (v := -1) (pc := 768) dX6_init_768 (by decide) ?_
  refine r_iast (pc := 769) (j := 1) dX6_init_769 n1 (n2 1 (by decide)) (by decide) (Nat.le_trans hb (Nat.le_add_right _ _)) ?_
  refine r_dup (pc := 770) dX6_init_770 rfl ?_
  refine r_iconst (v := nI 2) (pc := 771) dX6_init_771 (by decide) ?_
  refine r_iconst (v := -1) (pc := 772) dX6_init_772 (by decide) ?_
  refine r_iast (pc := 773) (j := 2) dX6_init_773 n1 (n2 2 (by decide)) (by decide) (Nat.le_trans hb (Nat.le_add_right _ _)) ?_
  refine r_dup (pc := 774) dX6_init_774 rfl ?_
  refine r_iconst (v := nI 3) (pc := 775) dX6_init_775 (by decide) ?_
  refine r_iconst (v := -1) (pc := 776) dX6_init_776 (by decide) ?_
  refine r_iast (pc := 777) (j := 3) dX6_init_777 n1 (n2 3 (by decide)) (by decide) (Nat.le_trans hb (Nat.le_add_right _ _)) ?_
  refine r_dup (pc := 778) dX6_init_778 rfl ?_
  refine r_iconst (v := nI 4) (pc := 779) dX6_init_779 (by decide) ?_
  refine r_iconst (v := -1) (pc := 780) dX6_init_780 (by decide) ?_
  refine r_iast (pc := 781) (j := 4) dX6_init_781 n1 (n2 4 (by decide)) (by decide) (Nat.le_trans hb (Nat.le_add_right _ _)) ?_
  refine r_dup (pc := 782) dX6_init_782 rfl ?_
  refine r_iconst (v := nI 5) (pc := 783) dX6_init_783 (by decide) ?_
  refine r_iconst (v := -1) (pc := 784) dX6_init_784 (by decide) ?_
  refine r_iast (pc := 785) (j := 5) dX6_init_785 n1 (n2 5 (by decide)) (by decide) (Nat.le_trans hb (Nat.le_add_right _ _)) ?_
  refine r_putFQ (pc := 786) (x := some (o + 33)) dX6_init_786 fl_X6_112 ff_X6_48 rfl rfl rfl (n3 (by decide)) hb ?_
  subst hN
  exact kk _ (h.arr (ws := [-1, -1, -1, -1, -1, -1]) (by decide) (by decide) rfl rfl (by decide))
theorem sg_34 (hb : gb g ≤ o) (h : BM M0 M o 34 e f) (kk : ∀ M', BM M0 M' o 35 e f → Bd g yX6_init cX6_init 1 none [] d 37 15404 M' 797 [some (.ref o)] [] Q X) : Bd g yX6_init cX6_init 1 none [] d 38 15410 M 789 [some (.ref o)] [] Q X := by
  refine r_ald0 (pc := 789) dX6_init_789 ?_
  refine r_bipush (v := nI 6) (pc := 790) dX6_init_790 (by decide) ?_
  refine r_newa (pc := 792) (t := 1) (n := 6) (kc' := 37) (ks' := 15404) dX6_init_792 rfl ⟨by decide, by decide⟩ q425 (by omega) (by omega) (by omega) ?_
  rw [h.1]
  generalize hN : nw M 1 6 = N
  obtain ⟨n1, n2, n3⟩ := h.fresh hN
  refine r_putFQ (pc := 794) (x := some (o + 34)) dX6_init_794 fl_X6_115 ff_X6_49 rfl rfl rfl (n3 (by decide)) hb ?_
  subst hN
  exact kk _ (h.arr (ws := []) (by decide) (by decide) rfl rfl (by decide))
theorem sg_35 (hb : gb g ≤ o) (h : BM M0 M o 35 e f) (kk : ∀ M', BM M0 M' o 36 e f → Bd g yX6_init cX6_init 1 none [] d 36 12204 M' 806 [some (.ref o)] [] Q X) : Bd g yX6_init cX6_init 1 none [] d 37 15404 M 797 [some (.ref o)] [] Q X := by
  refine r_ald0 (pc := 797) dX6_init_797 ?_
  refine r_sipush (v := nI 3200) (pc := 798) dX6_init_798 (by decide) ?_
  refine r_newa (pc := 801) (t := 1) (n := 3200) (kc' := 36) (ks' := 12204) dX6_init_801 rfl ⟨by decide, by decide⟩ q425 (by omega) (by omega) (by omega) ?_
  rw [h.1]
  generalize hN : nw M 1 3200 = N
  obtain ⟨n1, n2, n3⟩ := h.fresh hN
  refine r_putFQ (pc := 803) (x := some (o + 35)) dX6_init_803 fl_X6_118 ff_X6_50 rfl rfl rfl (n3 (by decide)) hb ?_
  subst hN
  exact kk _ (h.arr (ws := []) (by decide) (by decide) rfl rfl (by decide))
theorem sg_36 (hb : gb g ≤ o) (h : BM M0 M o 36 e f) (kk : ∀ M', BM M0 M' o 37 e f → Bd g yX6_init cX6_init 1 none [] d 35 11994 M' 815 [some (.ref o)] [] Q X) : Bd g yX6_init cX6_init 1 none [] d 36 12204 M 806 [some (.ref o)] [] Q X := by
  refine r_ald0 (pc := 806) dX6_init_806 ?_
  refine r_sipush (v := nI 210) (pc := 807) dX6_init_807 (by decide) ?_
  refine r_newa (pc := 810) (t := 1) (n := 210) (kc' := 35) (ks' := 11994) dX6_init_810 rfl ⟨by decide, by decide⟩ q425 (by omega) (by omega) (by omega) ?_
  rw [h.1]
  generalize hN : nw M 1 210 = N
  obtain ⟨n1, n2, n3⟩ := h.fresh hN
  refine r_putFQ (pc := 812) (x := some (o + 36)) dX6_init_812 fl_X6_121 ff_X6_55 rfl rfl rfl (n3 (by decide)) hb ?_
  subst hN
  exact kk _ (h.arr (ws := []) (by decide) (by decide) rfl rfl (by decide))
theorem sg_37 (hb : gb g ≤ o) (h : BM M0 M o 37 e f) (kk : ∀ M', BM M0 M' o 38 e f → Bd g yX6_init cX6_init 1 none [] d 34 11905 M' 823 [some (.ref o)] [] Q X) : Bd g yX6_init cX6_init 1 none [] d 35 11994 M 815 [some (.ref o)] [] Q X := by
  refine r_ald0 (pc := 815) dX6_init_815 ?_
  refine r_bipush (v := nI 89) (pc := 816) dX6_init_816 (by decide) ?_
  refine r_newa (pc := 818) (t := 1) (n := 89) (kc' := 34) (ks' := 11905) dX6_init_818 rfl ⟨by decide, by decide⟩ q425 (by omega) (by omega) (by omega) ?_
  rw [h.1]
  generalize hN : nw M 1 89 = N
  obtain ⟨n1, n2, n3⟩ := h.fresh hN
  refine r_putFQ (pc := 820) (x := some (o + 37)) dX6_init_820 fl_X6_124 ff_X6_56 rfl rfl rfl (n3 (by decide)) hb ?_
  subst hN
  exact kk _ (h.arr (ws := []) (by decide) (by decide) rfl rfl (by decide))
theorem sg_38 (hb : gb g ≤ o) (h : BM M0 M o 38 e f) (kk : ∀ M', BM M0 M' o 39 e f → Bd g yX6_init cX6_init 1 none [] d 33 9857 M' 832 [some (.ref o)] [] Q X) : Bd g yX6_init cX6_init 1 none [] d 34 11905 M 823 [some (.ref o)] [] Q X := by
  refine r_ald0 (pc := 823) dX6_init_823 ?_
  refine r_sipush (v := nI 2048) (pc := 824) dX6_init_824 (by decide) ?_
  refine r_newa (pc := 827) (t := 1) (n := 2048) (kc' := 33) (ks' := 9857) dX6_init_827 rfl ⟨by decide, by decide⟩ q425 (by omega) (by omega) (by omega) ?_
  rw [h.1]
  generalize hN : nw M 1 2048 = N
  obtain ⟨n1, n2, n3⟩ := h.fresh hN
  refine r_putFQ (pc := 829) (x := some (o + 38)) dX6_init_829 fl_X6_127 ff_X6_66 rfl rfl rfl (n3 (by decide)) hb ?_
  subst hN
  exact kk _ (h.arr (ws := []) (by decide) (by decide) rfl rfl (by decide))
theorem sg_39 (hb : gb g ≤ o) (h : BM M0 M o 39 e f) (kk : ∀ M', BM M0 M' o 40 e f → Bd g yX6_init cX6_init 1 none [] d 32 9809 M' 840 [some (.ref o)] [] Q X) : Bd g yX6_init cX6_init 1 none [] d 33 9857 M 832 [some (.ref o)] [] Q X := by
  refine r_ald0 (pc := 832) dX6_init_832 ?_
  refine r_bipush (v := nI 48) (pc := 833) dX6_init_833 (by decide) ?_
  refine r_newa (pc := 835) (t := 1) (n := 48) (kc' := 32) (ks' := 9809) dX6_init_835 rfl ⟨by decide, by decide⟩ q425 (by omega) (by omega) (by omega) ?_
  rw [h.1]
  generalize hN : nw M 1 48 = N
  obtain ⟨n1, n2, n3⟩ := h.fresh hN
  refine r_putFQ (pc := 837) (x := some (o + 39)) dX6_init_837 fl_X6_130 ff_X6_68 rfl rfl rfl (n3 (by decide)) hb ?_
  subst hN
  exact kk _ (h.arr (ws := []) (by decide) (by decide) rfl rfl (by decide))
theorem sg_40 (hb : gb g ≤ o) (h : BM M0 M o 40 e f) (kk : ∀ M', BM M0 M' o 41 e f → Bd g yX6_init cX6_init 1 none [] d 31 9499 M' 849 [some (.ref o)] [] Q X) : Bd g yX6_init cX6_init 1 none [] d 32 9809 M 840 [some (.ref o)] [] Q X := by
  refine r_ald0 (pc := 840) dX6_init_840 ?_
  refine r_sipush (v := nI 310) (pc := 841) dX6_init_841 (by decide) ?_
  refine r_newa (pc := 844) (t := 1) (n := 310) (kc' := 31) (ks' := 9499) dX6_init_844 rfl ⟨by decide, by decide⟩ q425 (by omega) (by omega) (by omega) ?_
  rw [h.1]
  generalize hN : nw M 1 310 = N
  obtain ⟨n1, n2, n3⟩ := h.fresh hN
  refine r_putFQ (pc := 846) (x := some (o + 40)) dX6_init_846 fl_X6_133 ff_X6_69 rfl rfl rfl (n3 (by decide)) hb ?_
  subst hN
  exact kk _ (h.arr (ws := []) (by decide) (by decide) rfl rfl (by decide))
theorem sg_41 (hb : gb g ≤ o) (h : BM M0 M o 41 e f) (kk : ∀ M', BM M0 M' o 42 e f → Bd g yX6_init cX6_init 1 none [] d 30 9489 M' 857 [some (.ref o)] [] Q X) : Bd g yX6_init cX6_init 1 none [] d 31 9499 M 849 [some (.ref o)] [] Q X := by
  refine r_ald0 (pc := 849) dX6_init_849 ?_
  refine r_bipush (v := nI 10) (pc := 850) dX6_init_850 (by decide) ?_
  refine r_newa (pc := 852) (t := 4) (n := 10) (kc' := 30) (ks' := 9489) dX6_init_852 rfl ⟨by decide, by decide⟩ q426 (by omega) (by omega) (by omega) ?_
  rw [h.1]
  generalize hN : nw M 4 10 = N
  obtain ⟨n1, n2, n3⟩ := h.fresh hN
  refine r_putFQ (pc := 854) (x := some (o + 41)) dX6_init_854 fl_X6_136 ff_X6_70 rfl rfl rfl (n3 (by decide)) hb ?_
  subst hN
  exact kk _ (h.arr (ws := []) (by decide) (by decide) rfl rfl (by decide))
theorem sg_42 (hb : gb g ≤ o) (h : BM M0 M o 42 e f) (kk : ∀ M', BM M0 M' o 43 e f → Bd g yX6_init cX6_init 1 none [] d 29 5289 M' 866 [some (.ref o)] [] Q X) : Bd g yX6_init cX6_init 1 none [] d 30 9489 M 857 [some (.ref o)] [] Q X := by
  refine r_ald0 (pc := 857) dX6_init_857 ?_
  refine r_sipush (v := nI 4200) (pc := 858) dX6_init_858 (by decide) ?_
  refine r_newa (pc := 861) (t := 1) (n := 4200) (kc' := 29) (ks' := 5289) dX6_init_861 rfl ⟨by decide, by decide⟩ q425 (by omega) (by omega) (by omega) ?_
  rw [h.1]
  generalize hN : nw M 1 4200 = N
  obtain ⟨n1, n2, n3⟩ := h.fresh hN
  refine r_putFQ (pc := 863) (x := some (o + 42)) dX6_init_863 fl_X6_140 ff_X6_72 rfl rfl rfl (n3 (by decide)) hb ?_
  subst hN
  exact kk _ (h.arr (ws := []) (by decide) (by decide) rfl rfl (by decide))
theorem sg_43 (hb : gb g ≤ o) (h : BM M0 M o 43 e f) (kk : ∀ M', BM M0 M' o 44 e f → Bd g yX6_init cX6_init 1 none [] d 28 5284 M' 903 [some (.ref o)] [] Q X) : Bd g yX6_init cX6_init 1 none [] d 29 5289 M 871 [some (.ref o)] [] Q X := by
  refine r_ald0 (pc := 871) dX6_init_871 ?_
  refine r_iconst (v := nI 5) (pc := 872) dX6_init_872 (by decide) ?_
  refine r_newa (pc := 873) (t := 5) (n := 5) (kc' := 28) (ks' := 5284) dX6_init_873 rfl ⟨by decide, by decide⟩ q641 (by omega) (by omega) (by omega) ?_
  rw [h.1]
  generalize hN : nw M 5 5 = N
  obtain ⟨n1, n2, n3⟩ := h.fresh hN
  refine r_dup (pc := 875) dX6_init_875 rfl ?_
  refine r_iconst (v := nI 0) (pc := 876) dX6_init_876 (by decide) ?_
  refine r_bipush (v := nI 102) (pc := 877) dX6_init_877 (by decide) ?_
  refine r_cast (pc := 879) (j := 0) dX6_init_879 n1 (n2 0 (by decide)) (by decide) (Nat.le_trans hb (Nat.le_add_right _ _)) ?_
  refine r_dup (pc := 880) dX6_init_880 rfl ?_
  refine r_iconst (v := nI 1) (pc := 881) dX6_init_881 (by decide) ?_
  refine r_bipush (v := nI 105) (pc := 882) dX6_init_882 (by decide) ?_
  refine r_cast (pc := 884) (j := 1) dX6_init_884 n1 (n2 1 (by decide)) (by decide) (Nat.le_trans hb (Nat.le_add_right _ _)) ?_
  refine r_dup (pc := 885) dX6_init_885 rfl ?_
  refine r_iconst (v := nI 2) (pc := 886) dX6_init_886 (by decide) ?_
  refine r_bipush (v := nI 114) (pc := 887) dX6_init_887 (by decide) ?_
  refine r_cast (pc := 889) (j := 2) dX6_init_889 n1 (n2 2 (by decide)) (by decide) (Nat.le_trans hb (Nat.le_add_right _ _)) ?_
  refine r_dup (pc := 890) dX6_init_890 rfl ?_
  refine r_iconst (v := nI 3) (pc := 891) dX6_init_891 (by decide) ?_
  refine r_bipush (v := nI 115) (pc := 892) dX6_init_892 (by decide) ?_
  refine r_cast (pc := 894) (j := 3) dX6_init_894 n1 (n2 3 (by decide)) (by decide) (Nat.le_trans hb (Nat.le_add_right _ _)) ?_
  refine r_dup (pc := 895) dX6_init_895 rfl ?_
  refine r_iconst (v := nI 4) (pc := 896) dX6_init_896 (by decide) ?_
  refine r_bipush (v := nI 116) (pc := 897) dX6_init_897 (by decide) ?_
  refine r_cast (pc := 899) (j := 4) dX6_init_899 n1 (n2 4 (by decide)) (by decide) (Nat.le_trans hb (Nat.le_add_right _ _)) ?_
  refine r_putFQ (pc := 900) (x := some (o + 43)) dX6_init_900 fl_X6_147 ff_X6_76 rfl rfl rfl (n3 (by decide)) hb ?_
  subst hN
  exact kk _ (h.arr (ws := [vp_nar .char (nI 102), vp_nar .char (nI 105), vp_nar .char (nI 114), vp_nar .char (nI 115), vp_nar .char (nI 116)]) (by decide) (by decide) rfl rfl (by decide))
theorem sg_44 (hb : gb g ≤ o) (h : BM M0 M o 44 e f) (kk : ∀ M', BM M0 M' o 45 e f → Bd g yX6_init cX6_init 1 none [] d 27 5280 M' 930 [some (.ref o)] [] Q X) : Bd g yX6_init cX6_init 1 none [] d 28 5284 M 903 [some (.ref o)] [] Q X := by
  refine r_ald0 (pc := 903) dX6_init_903 ?_
  refine r_iconst (v := nI 4) (pc := 904) dX6_init_904 (by decide) ?_
  refine r_newa (pc := 905) (t := 5) (n := 4) (kc' := 27) (ks' := 5280) dX6_init_905 rfl ⟨by decide, by decide⟩ q641 (by omega) (by omega) (by omega) ?_
  rw [h.1]
  generalize hN : nw M 5 4 = N
  obtain ⟨n1, n2, n3⟩ := h.fresh hN
  refine r_dup (pc := 907) dX6_init_907 rfl ?_
  refine r_iconst (v := nI 0) (pc := 908) dX6_init_908 (by decide) ?_
  refine r_bipush (v := nI 108) (pc := 909) dX6_init_909 (by decide) ?_
  refine r_cast (pc := 911) (j := 0) dX6_init_911 n1 (n2 0 (by decide)) (by decide) (Nat.le_trans hb (Nat.le_add_right _ _)) ?_
  refine r_dup (pc := 912) dX6_init_912 rfl ?_
  refine r_iconst (v := nI 1) (pc := 913) dX6_init_913 (by decide) ?_
  refine r_bipush (v := nI 97) (pc := 914) dX6_init_914 (by decide) ?_
  refine r_cast (pc := 916) (j := 1) dX6_init_916 n1 (n2 1 (by decide)) (by decide) (Nat.le_trans hb (Nat.le_add_right _ _)) ?_
  refine r_dup (pc := 917) dX6_init_917 rfl ?_
  refine r_iconst (v := nI 2) (pc := 918) dX6_init_918 (by decide) ?_
  refine r_bipush (v := nI 115) (pc := 919) dX6_init_919 (by decide) ?_
  refine r_cast (pc := 921) (j := 2) dX6_init_921 n1 (n2 2 (by decide)) (by decide) (Nat.le_trans hb (Nat.le_add_right _ _)) ?_
  refine r_dup (pc := 922) dX6_init_922 rfl ?_
  refine r_iconst (v := nI 3) (pc := 923) dX6_init_923 (by decide) ?_
  refine r_bipush (v := nI 116) (pc := 924) dX6_init_924 (by decide) ?_
  refine r_cast (pc := 926) (j := 3) dX6_init_926 n1 (n2 3 (by decide)) (by decide) (Nat.le_trans hb (Nat.le_add_right _ _)) ?_
  refine r_putFQ (pc := 927) (x := some (o + 44)) dX6_init_927 fl_X6_150 ff_X6_77 rfl rfl rfl (n3 (by decide)) hb ?_
  subst hN
  exact kk _ (h.arr (ws := [vp_nar .char (nI 108), vp_nar .char (nI 97), vp_nar .char (nI 115), vp_nar .char (nI 116)]) (by decide) (by decide) rfl rfl (by decide))
theorem sg_45 (hb : gb g ≤ o) (h : BM M0 M o 45 e f) (kk : ∀ M', BM M0 M' o 46 e f → Bd g yX6_init cX6_init 1 none [] d 26 5275 M' 962 [some (.ref o)] [] Q X) : Bd g yX6_init cX6_init 1 none [] d 27 5280 M 930 [some (.ref o)] [] Q X := by
  refine r_ald0 (pc := 930) dX6_init_930 ?_
  refine r_iconst (v := nI 5) (pc := 931) dX6_init_931 (by decide) ?_
  refine r_newa (pc := 932) (t := 5) (n := 5) (kc' := 26) (ks' := 5275) dX6_init_932 rfl ⟨by decide, by decide⟩ q641 (by omega) (by omega) (by omega) ?_
  rw [h.1]
  generalize hN : nw M 5 5 = N
  obtain ⟨n1, n2, n3⟩ := h.fresh hN
  refine r_dup (pc := 934) dX6_init_934 rfl ?_
  refine r_iconst (v := nI 0) (pc := 935) dX6_init_935 (by decide) ?_
  refine r_bipush (v := nI 111) (pc := 936) dX6_init_936 (by decide) ?_
  refine r_cast (pc := 938) (j := 0) dX6_init_938 n1 (n2 0 (by decide)) (by decide) (Nat.le_trans hb (Nat.le_add_right _ _)) ?_
  refine r_dup (pc := 939) dX6_init_939 rfl ?_
  refine r_iconst (v := nI 1) (pc := 940) dX6_init_940 (by decide) ?_
  refine r_bipush (v := nI 102) (pc := 941) dX6_init_941 (by decide) ?_
  refine r_cast (pc := 943) (j := 1) dX6_init_943 n1 (n2 1 (by decide)) (by decide) (Nat.le_trans hb (Nat.le_add_right _ _)) ?_
  refine r_dup (pc := 944) dX6_init_944 rfl ?_
  refine r_iconst (v := nI 2) (pc := 945) dX6_init_945 (by decide) ?_
  refine r_bipush (v := nI 116) (pc := 946) dX6_init_946 (by decide) ?_
  refine r_cast (pc := 948) (j := 2) dX6_init_948 n1 (n2 2 (by decide)) (by decide) (Nat.le_trans hb (Nat.le_add_right _ _)) ?_
  refine r_dup (pc := 949) dX6_init_949 rfl ?_
  refine r_iconst (v := nI 3) (pc := 950) dX6_init_950 (by decide) ?_
  refine r_bipush (v := nI 101) (pc := 951) dX6_init_951 (by decide) ?_
  refine r_cast (pc := 953) (j := 3) dX6_init_953 n1 (n2 3 (by decide)) (by decide) (Nat.le_trans hb (Nat.le_add_right _ _)) ?_
  refine r_dup (pc := 954) dX6_init_954 rfl ?_
  refine r_iconst (v := nI 4) (pc := 955) dX6_init_955 (by decide) ?_
  refine r_bipush (v := nI 110) (pc := 956) dX6_init_956 (by decide) ?_
  refine r_cast (pc := 958) (j := 4) dX6_init_958 n1 (n2 4 (by decide)) (by decide) (Nat.le_trans hb (Nat.le_add_right _ _)) ?_
  refine r_putFQ (pc := 959) (x := some (o + 45)) dX6_init_959 fl_X6_153 ff_X6_78 rfl rfl rfl (n3 (by decide)) hb ?_
  subst hN
  exact kk _ (h.arr (ws := [vp_nar .char (nI 111), vp_nar .char (nI 102), vp_nar .char (nI 116), vp_nar .char (nI 101), vp_nar .char (nI 110)]) (by decide) (by decide) rfl rfl (by decide))
theorem sg_46 (hb : gb g ≤ o) (h : BM M0 M o 46 e f) (kk : ∀ M', BM M0 M' o 47 e f → Bd g yX6_init cX6_init 1 none [] d 25 5270 M' 994 [some (.ref o)] [] Q X) : Bd g yX6_init cX6_init 1 none [] d 26 5275 M 962 [some (.ref o)] [] Q X := by
  refine r_ald0 (pc := 962) dX6_init_962 ?_
  refine r_iconst (v := nI 5) (pc := 963) dX6_init_963 (by decide) ?_
  refine r_newa (pc := 964) (t := 5) (n := 5) (kc' := 25) (ks' := 5270) dX6_init_964 rfl ⟨by decide, by decide⟩ q641 (by omega) (by omega) (by omega) ?_
  rw [h.1]
  generalize hN : nw M 5 5 = N
  obtain ⟨n1, n2, n3⟩ := h.fresh hN
  refine r_dup (pc := 966) dX6_init_966 rfl ?_
  refine r_iconst (v := nI 0) (pc := 967) dX6_init_967 (by decide) ?_
  refine r_bipush (v := nI 116) (pc := 968) dX6_init_968 (by decide) ?_
  refine r_cast (pc := 970) (j := 0) dX6_init_970 n1 (n2 0 (by decide)) (by decide) (Nat.le_trans hb (Nat.le_add_right _ _)) ?_
  refine r_dup (pc := 971) dX6_init_971 rfl ?_
  refine r_iconst (v := nI 1) (pc := 972) dX6_init_972 (by decide) ?_
  refine r_bipush (v := nI 111) (pc := 973) dX6_init_973 (by decide) ?_
  refine r_cast (pc := 975) (j := 1) dX6_init_975 n1 (n2 1 (by decide)) (by decide) (Nat.le_trans hb (Nat.le_add_right _ _)) ?_
  refine r_dup (pc := 976) dX6_init_976 rfl ?_
  refine r_iconst (v := nI 2) (pc := 977) dX6_init_977 (by decide) ?_
  refine r_bipush (v := nI 116) (pc := 978) dX6_init_978 (by decide) ?_
  refine r_cast (pc := 980) (j := 2) dX6_init_980 n1 (n2 2 (by decide)) (by decide) (Nat.le_trans hb (Nat.le_add_right _ _)) ?_
  refine r_dup (pc := 981) dX6_init_981 rfl ?_
  refine r_iconst (v := nI 3) (pc := 982) dX6_init_982 (by decide) ?_
  refine r_bipush (v := nI 97) (pc := 983) dX6_init_983 (by decide) ?_
  refine r_cast (pc := 985) (j := 3) dX6_init_985 n1 (n2 3 (by decide)) (by decide) (Nat.le_trans hb (Nat.le_add_right _ _)) ?_
  refine r_dup (pc := 986) dX6_init_986 rfl ?_
  refine r_iconst (v := nI 4) (pc := 987) dX6_init_987 (by decide) ?_
  refine r_bipush (v := nI 108) (pc := 988) dX6_init_988 (by decide) ?_
  refine r_cast (pc := 990) (j := 4) dX6_init_990 n1 (n2 4 (by decide)) (by decide) (Nat.le_trans hb (Nat.le_add_right _ _)) ?_
  refine r_putFQ (pc := 991) (x := some (o + 46)) dX6_init_991 fl_X6_156 ff_X6_79 rfl rfl rfl (n3 (by decide)) hb ?_
  subst hN
  exact kk _ (h.arr (ws := [vp_nar .char (nI 116), vp_nar .char (nI 111), vp_nar .char (nI 116), vp_nar .char (nI 97), vp_nar .char (nI 108)]) (by decide) (by decide) rfl rfl (by decide))
theorem sg_47 (hb : gb g ≤ o) (h : BM M0 M o 47 e f) (kk : ∀ M', BM M0 M' o 48 e f → Bd g yX6_init cX6_init 1 none [] d 24 5266 M' 1021 [some (.ref o)] [] Q X) : Bd g yX6_init cX6_init 1 none [] d 25 5270 M 994 [some (.ref o)] [] Q X := by
  refine r_ald0 (pc := 994) dX6_init_994 ?_
  refine r_iconst (v := nI 4) (pc := 995) dX6_init_995 (by decide) ?_
  refine r_newa (pc := 996) (t := 5) (n := 4) (kc' := 24) (ks' := 5266) dX6_init_996 rfl ⟨by decide, by decide⟩ q641 (by omega) (by omega) (by omega) ?_
  rw [h.1]
  generalize hN : nw M 5 4 = N
  obtain ⟨n1, n2, n3⟩ := h.fresh hN
  refine r_dup (pc := 998) dX6_init_998 rfl ?_
  refine r_iconst (v := nI 0) (pc := 999) dX6_init_999 (by decide) ?_
  refine r_bipush (v := nI 109) (pc := 1000) dX6_init_1000 (by decide) ?_
  refine r_cast (pc := 1002) (j := 0) dX6_init_1002 n1 (n2 0 (by decide)) (by decide) (Nat.le_trans hb (Nat.le_add_right _ _)) ?_
  refine r_dup (pc := 1003) dX6_init_1003 rfl ?_
  refine r_iconst (v := nI 1) (pc := 1004) dX6_init_1004 (by decide) ?_
  refine r_bipush (v := nI 111) (pc := 1005) dX6_init_1005 (by decide) ?_
  refine r_cast (pc := 1007) (j := 1) dX6_init_1007 n1 (n2 1 (by decide)) (by decide) (Nat.le_trans hb (Nat.le_add_right _ _)) ?_
  refine r_dup (pc := 1008) dX6_init_1008 rfl ?_
  refine r_iconst (v := nI 2) (pc := 1009) dX6_init_1009 (by decide) ?_
  refine r_bipush (v := nI 115) (pc := 1010) dX6_init_1010 (by decide) ?_
  refine r_cast (pc := 1012) (j := 2) dX6_init_1012 n1 (n2 2 (by decide)) (by decide) (Nat.le_trans hb (Nat.le_add_right _ _)) ?_
  refine r_dup (pc := 1013) dX6_init_1013 rfl ?_
  refine r_iconst (v := nI 3) (pc := 1014) dX6_init_1014 (by decide) ?_
  refine r_bipush (v := nI 116) (pc := 1015) dX6_init_1015 (by decide) ?_
  refine r_cast (pc := 1017) (j := 3) dX6_init_1017 n1 (n2 3 (by decide)) (by decide) (Nat.le_trans hb (Nat.le_add_right _ _)) ?_
  refine r_putFQ (pc := 1018) (x := some (o + 47)) dX6_init_1018 fl_X6_159 ff_X6_80 rfl rfl rfl (n3 (by decide)) hb ?_
  subst hN
  exact kk _ (h.arr (ws := [vp_nar .char (nI 109), vp_nar .char (nI 111), vp_nar .char (nI 115), vp_nar .char (nI 116)]) (by decide) (by decide) rfl rfl (by decide))
theorem sg_48 (hb : gb g ≤ o) (h : BM M0 M o 48 e f) (kk : ∀ M', BM M0 M' o 49 e f → Bd g yX6_init cX6_init 1 none [] d 23 5261 M' 1053 [some (.ref o)] [] Q X) : Bd g yX6_init cX6_init 1 none [] d 24 5266 M 1021 [some (.ref o)] [] Q X := by
  refine r_ald0 (pc := 1021) dX6_init_1021 ?_
  refine r_iconst (v := nI 5) (pc := 1022) dX6_init_1022 (by decide) ?_
  refine r_newa (pc := 1023) (t := 5) (n := 5) (kc' := 23) (ks' := 5261) dX6_init_1023 rfl ⟨by decide, by decide⟩ q641 (by omega) (by omega) (by omega) ?_
  rw [h.1]
  generalize hN : nw M 5 5 = N
  obtain ⟨n1, n2, n3⟩ := h.fresh hN
  refine r_dup (pc := 1025) dX6_init_1025 rfl ?_
  refine r_iconst (v := nI 0) (pc := 1026) dX6_init_1026 (by decide) ?_
  refine r_bipush (v := nI 108) (pc := 1027) dX6_init_1027 (by decide) ?_
  refine r_cast (pc := 1029) (j := 0) dX6_init_1029 n1 (n2 0 (by decide)) (by decide) (Nat.le_trans hb (Nat.le_add_right _ _)) ?_
  refine r_dup (pc := 1030) dX6_init_1030 rfl ?_
  refine r_iconst (v := nI 1) (pc := 1031) dX6_init_1031 (by decide) ?_
  refine r_bipush (v := nI 101) (pc := 1032) dX6_init_1032 (by decide) ?_
  refine r_cast (pc := 1034) (j := 1) dX6_init_1034 n1 (n2 1 (by decide)) (by decide) (Nat.le_trans hb (Nat.le_add_right _ _)) ?_
  refine r_dup (pc := 1035) dX6_init_1035 rfl ?_
  refine r_iconst (v := nI 2) (pc := 1036) dX6_init_1036 (by decide) ?_
  refine r_bipush (v := nI 97) (pc := 1037) dX6_init_1037 (by decide) ?_
  refine r_cast (pc := 1039) (j := 2) dX6_init_1039 n1 (n2 2 (by decide)) (by decide) (Nat.le_trans hb (Nat.le_add_right _ _)) ?_
  refine r_dup (pc := 1040) dX6_init_1040 rfl ?_
  refine r_iconst (v := nI 3) (pc := 1041) dX6_init_1041 (by decide) ?_
  refine r_bipush (v := nI 115) (pc := 1042) dX6_init_1042 (by decide) ?_
  refine r_cast (pc := 1044) (j := 3) dX6_init_1044 n1 (n2 3 (by decide)) (by decide) (Nat.le_trans hb (Nat.le_add_right _ _)) ?_
  refine r_dup (pc := 1045) dX6_init_1045 rfl ?_
  refine r_iconst (v := nI 4) (pc := 1046) dX6_init_1046 (by decide) ?_
  refine r_bipush (v := nI 116) (pc := 1047) dX6_init_1047 (by decide) ?_
  refine r_cast (pc := 1049) (j := 4) dX6_init_1049 n1 (n2 4 (by decide)) (by decide) (Nat.le_trans hb (Nat.le_add_right _ _)) ?_
  refine r_putFQ (pc := 1050) (x := some (o + 48)) dX6_init_1050 fl_X6_162 ff_X6_81 rfl rfl rfl (n3 (by decide)) hb ?_
  subst hN
  exact kk _ (h.arr (ws := [vp_nar .char (nI 108), vp_nar .char (nI 101), vp_nar .char (nI 97), vp_nar .char (nI 115), vp_nar .char (nI 116)]) (by decide) (by decide) rfl rfl (by decide))
theorem sg_49 (hb : gb g ≤ o) (h : BM M0 M o 49 e f) (kk : ∀ M', BM M0 M' o 50 e f → Bd g yX6_init cX6_init 1 none [] d 22 5258 M' 1075 [some (.ref o)] [] Q X) : Bd g yX6_init cX6_init 1 none [] d 23 5261 M 1053 [some (.ref o)] [] Q X := by
  refine r_ald0 (pc := 1053) dX6_init_1053 ?_
  refine r_iconst (v := nI 3) (pc := 1054) dX6_init_1054 (by decide) ?_
  refine r_newa (pc := 1055) (t := 5) (n := 3) (kc' := 22) (ks' := 5258) dX6_init_1055 rfl ⟨by decide, by decide⟩ q641 (by omega) (by omega) (by omega) ?_
  rw [h.1]
  generalize hN : nw M 5 3 = N
  obtain ⟨n1, n2, n3⟩ := h.fresh hN
  refine r_dup (pc := 1057) dX6_init_1057 rfl ?_
  refine r_iconst (v := nI 0) (pc := 1058) dX6_init_1058 (by decide) ?_
  refine r_bipush (v := nI 110) (pc := 1059) dX6_init_1059 (by decide) ?_
  refine r_cast (pc := 1061) (j := 0) dX6_init_1061 n1 (n2 0 (by decide)) (by decide) (Nat.le_trans hb (Nat.le_add_right _ _)) ?_
  refine r_dup (pc := 1062) dX6_init_1062 rfl ?_
  refine r_iconst (v := nI 1) (pc := 1063) dX6_init_1063 (by decide) ?_
  refine r_bipush (v := nI 111) (pc := 1064) dX6_init_1064 (by decide) ?_
  refine r_cast (pc := 1066) (j := 1) dX6_init_1066 n1 (n2 1 (by decide)) (by decide) (Nat.le_trans hb (Nat.le_add_right _ _)) ?_
  refine r_dup (pc := 1067) dX6_init_1067 rfl ?_
  refine r_iconst (v := nI 2) (pc := 1068) dX6_init_1068 (by decide) ?_
  refine r_bipush (v := nI 116) (pc := 1069) dX6_init_1069 (by decide) ?_
  refine r_cast (pc := 1071) (j := 2) dX6_init_1071 n1 (n2 2 (by decide)) (by decide) (Nat.le_trans hb (Nat.le_add_right _ _)) ?_
  refine r_putFQ (pc := 1072) (x := some (o + 49)) dX6_init_1072 fl_X6_165 ff_X6_82 rfl rfl rfl (n3 (by decide)) hb ?_
  subst hN
  exact kk _ (h.arr (ws := [vp_nar .char (nI 110), vp_nar .char (nI 111), vp_nar .char (nI 116)]) (by decide) (by decide) rfl rfl (by decide))
theorem sg_50 (hb : gb g ≤ o) (h : BM M0 M o 50 e f) (kk : ∀ M', BM M0 M' o 51 e f → Bd g yX6_init cX6_init 1 none [] d 21 5255 M' 1097 [some (.ref o)] [] Q X) : Bd g yX6_init cX6_init 1 none [] d 22 5258 M 1075 [some (.ref o)] [] Q X := by
  refine r_ald0 (pc := 1075) dX6_init_1075 ?_
  refine r_iconst (v := nI 3) (pc := 1076) dX6_init_1076 (by decide) ?_
  refine r_newa (pc := 1077) (t := 5) (n := 3) (kc' := 21) (ks' := 5255) dX6_init_1077 rfl ⟨by decide, by decide⟩ q641 (by omega) (by omega) (by omega) ?_
  rw [h.1]
  generalize hN : nw M 5 3 = N
  obtain ⟨n1, n2, n3⟩ := h.fresh hN
  refine r_dup (pc := 1079) dX6_init_1079 rfl ?_
  refine r_iconst (v := nI 0) (pc := 1080) dX6_init_1080 (by decide) ?_
  refine r_bipush (v := nI 97) (pc := 1081) dX6_init_1081 (by decide) ?_
  refine r_cast (pc := 1083) (j := 0) dX6_init_1083 n1 (n2 0 (by decide)) (by decide) (Nat.le_trans hb (Nat.le_add_right _ _)) ?_
  refine r_dup (pc := 1084) dX6_init_1084 rfl ?_
  refine r_iconst (v := nI 1) (pc := 1085) dX6_init_1085 (by decide) ?_
  refine r_bipush (v := nI 110) (pc := 1086) dX6_init_1086 (by decide) ?_
  refine r_cast (pc := 1088) (j := 1) dX6_init_1088 n1 (n2 1 (by decide)) (by decide) (Nat.le_trans hb (Nat.le_add_right _ _)) ?_
  refine r_dup (pc := 1089) dX6_init_1089 rfl ?_
  refine r_iconst (v := nI 2) (pc := 1090) dX6_init_1090 (by decide) ?_
  refine r_bipush (v := nI 100) (pc := 1091) dX6_init_1091 (by decide) ?_
  refine r_cast (pc := 1093) (j := 2) dX6_init_1093 n1 (n2 2 (by decide)) (by decide) (Nat.le_trans hb (Nat.le_add_right _ _)) ?_
  refine r_putFQ (pc := 1094) (x := some (o + 50)) dX6_init_1094 fl_X6_168 ff_X6_83 rfl rfl rfl (n3 (by decide)) hb ?_
  subst hN
  exact kk _ (h.arr (ws := [vp_nar .char (nI 97), vp_nar .char (nI 110), vp_nar .char (nI 100)]) (by decide) (by decide) rfl rfl (by decide))
theorem sg_51 (hb : gb g ≤ o) (h : BM M0 M o 51 e f) (kk : ∀ M', BM M0 M' o 52 e f → Bd g yX6_init cX6_init 1 none [] d 20 5253 M' 1114 [some (.ref o)] [] Q X) : Bd g yX6_init cX6_init 1 none [] d 21 5255 M 1097 [some (.ref o)] [] Q X := by
  refine r_ald0 (pc := 1097) dX6_init_1097 ?_
  refine r_iconst (v := nI 2) (pc := 1098) dX6_init_1098 (by decide) ?_
  refine r_newa (pc := 1099) (t := 5) (n := 2) (kc' := 20) (ks' := 5253) dX6_init_1099 rfl ⟨by decide, by decide⟩ q641 (by omega) (by omega) (by omega) ?_
  rw [h.1]
  generalize hN : nw M 5 2 = N
  obtain ⟨n1, n2, n3⟩ := h.fresh hN
  refine r_dup (pc := 1101) dX6_init_1101 rfl ?_
  refine r_iconst (v := nI 0) (pc := 1102) dX6_init_1102 (by decide) ?_
  refine r_bipush (v := nI 111) (pc := 1103) dX6_init_1103 (by decide) ?_
  refine r_cast (pc := 1105) (j := 0) dX6_init_1105 n1 (n2 0 (by decide)) (by decide) (Nat.le_trans hb (Nat.le_add_right _ _)) ?_
  refine r_dup (pc := 1106) dX6_init_1106 rfl ?_
  refine r_iconst (v := nI 1) (pc := 1107) dX6_init_1107 (by decide) ?_
  refine r_bipush (v := nI 114) (pc := 1108) dX6_init_1108 (by decide) ?_
  refine r_cast (pc := 1110) (j := 1) dX6_init_1110 n1 (n2 1 (by decide)) (by decide) (Nat.le_trans hb (Nat.le_add_right _ _)) ?_
  refine r_putFQ (pc := 1111) (x := some (o + 51)) dX6_init_1111 fl_X6_171 ff_X6_84 rfl rfl rfl (n3 (by decide)) hb ?_
  subst hN
  exact kk _ (h.arr (ws := [vp_nar .char (nI 111), vp_nar .char (nI 114)]) (by decide) (by decide) rfl rfl (by decide))
theorem sg_52 (hb : gb g ≤ o) (h : BM M0 M o 52 e f) (kk : ∀ M', BM M0 M' o 53 e f → Bd g yX6_init cX6_init 1 none [] d 19 5250 M' 1136 [some (.ref o)] [] Q X) : Bd g yX6_init cX6_init 1 none [] d 20 5253 M 1114 [some (.ref o)] [] Q X := by
  refine r_ald0 (pc := 1114) dX6_init_1114 ?_
  refine r_iconst (v := nI 3) (pc := 1115) dX6_init_1115 (by decide) ?_
  refine r_newa (pc := 1116) (t := 5) (n := 3) (kc' := 19) (ks' := 5250) dX6_init_1116 rfl ⟨by decide, by decide⟩ q641 (by omega) (by omega) (by omega) ?_
  rw [h.1]
  generalize hN : nw M 5 3 = N
  obtain ⟨n1, n2, n3⟩ := h.fresh hN
  refine r_dup (pc := 1118) dX6_init_1118 rfl ?_
  refine r_iconst (v := nI 0) (pc := 1119) dX6_init_1119 (by decide) ?_
  refine r_bipush (v := nI 97) (pc := 1120) dX6_init_1120 (by decide) ?_
  refine r_cast (pc := 1122) (j := 0) dX6_init_1122 n1 (n2 0 (by decide)) (by decide) (Nat.le_trans hb (Nat.le_add_right _ _)) ?_
  refine r_dup (pc := 1123) dX6_init_1123 rfl ?_
  refine r_iconst (v := nI 1) (pc := 1124) dX6_init_1124 (by decide) ?_
  refine r_bipush (v := nI 108) (pc := 1125) dX6_init_1125 (by decide) ?_
  refine r_cast (pc := 1127) (j := 1) dX6_init_1127 n1 (n2 1 (by decide)) (by decide) (Nat.le_trans hb (Nat.le_add_right _ _)) ?_
  refine r_dup (pc := 1128) dX6_init_1128 rfl ?_
  refine r_iconst (v := nI 2) (pc := 1129) dX6_init_1129 (by decide) ?_
  refine r_bipush (v := nI 108) (pc := 1130) dX6_init_1130 (by decide) ?_
  refine r_cast (pc := 1132) (j := 2) dX6_init_1132 n1 (n2 2 (by decide)) (by decide) (Nat.le_trans hb (Nat.le_add_right _ _)) ?_
  refine r_putFQ (pc := 1133) (x := some (o + 52)) dX6_init_1133 fl_X6_174 ff_X6_85 rfl rfl rfl (n3 (by decide)) hb ?_
  subst hN
  exact kk _ (h.arr (ws := [vp_nar .char (nI 97), vp_nar .char (nI 108), vp_nar .char (nI 108)]) (by decide) (by decide) rfl rfl (by decide))
theorem sg_53 (hb : gb g ≤ o) (h : BM M0 M o 53 e f) (kk : ∀ M', BM M0 M' o 54 e f → Bd g yX6_init cX6_init 1 none [] d 18 5247 M' 1158 [some (.ref o)] [] Q X) : Bd g yX6_init cX6_init 1 none [] d 19 5250 M 1136 [some (.ref o)] [] Q X := by
  refine r_ald0 (pc := 1136) dX6_init_1136 ?_
  refine r_iconst (v := nI 3) (pc := 1137) dX6_init_1137 (by decide) ?_
  refine r_newa (pc := 1138) (t := 5) (n := 3) (kc' := 18) (ks' := 5247) dX6_init_1138 rfl ⟨by decide, by decide⟩ q641 (by omega) (by omega) (by omega) ?_
  rw [h.1]
  generalize hN : nw M 5 3 = N
  obtain ⟨n1, n2, n3⟩ := h.fresh hN
  refine r_dup (pc := 1140) dX6_init_1140 rfl ?_
  refine r_iconst (v := nI 0) (pc := 1141) dX6_init_1141 (by decide) ?_
  refine r_bipush (v := nI 109) (pc := 1142) dX6_init_1142 (by decide) ?_
  refine r_cast (pc := 1144) (j := 0) dX6_init_1144 n1 (n2 0 (by decide)) (by decide) (Nat.le_trans hb (Nat.le_add_right _ _)) ?_
  refine r_dup (pc := 1145) dX6_init_1145 rfl ?_
  refine r_iconst (v := nI 1) (pc := 1146) dX6_init_1146 (by decide) ?_
  refine r_bipush (v := nI 105) (pc := 1147) dX6_init_1147 (by decide) ?_
  refine r_cast (pc := 1149) (j := 1) dX6_init_1149 n1 (n2 1 (by decide)) (by decide) (Nat.le_trans hb (Nat.le_add_right _ _)) ?_
  refine r_dup (pc := 1150) dX6_init_1150 rfl ?_
  refine r_iconst (v := nI 2) (pc := 1151) dX6_init_1151 (by decide) ?_
  refine r_bipush (v := nI 110) (pc := 1152) dX6_init_1152 (by decide) ?_
  refine r_cast (pc := 1154) (j := 2) dX6_init_1154 n1 (n2 2 (by decide)) (by decide) (Nat.le_trans hb (Nat.le_add_right _ _)) ?_
  refine r_putFQ (pc := 1155) (x := some (o + 53)) dX6_init_1155 fl_X6_177 ff_X6_86 rfl rfl rfl (n3 (by decide)) hb ?_
  subst hN
  exact kk _ (h.arr (ws := [vp_nar .char (nI 109), vp_nar .char (nI 105), vp_nar .char (nI 110)]) (by decide) (by decide) rfl rfl (by decide))
theorem sg_54 (hb : gb g ≤ o) (h : BM M0 M o 54 e f) (kk : ∀ M', BM M0 M' o 55 e f → Bd g yX6_init cX6_init 1 none [] d 17 5244 M' 1180 [some (.ref o)] [] Q X) : Bd g yX6_init cX6_init 1 none [] d 18 5247 M 1158 [some (.ref o)] [] Q X := by
  refine r_ald0 (pc := 1158) dX6_init_1158 ?_
  refine r_iconst (v := nI 3) (pc := 1159) dX6_init_1159 (by decide) ?_
  refine r_newa (pc := 1160) (t := 5) (n := 3) (kc' := 17) (ks' := 5244) dX6_init_1160 rfl ⟨by decide, by decide⟩ q641 (by omega) (by omega) (by omega) ?_
  rw [h.1]
  generalize hN : nw M 5 3 = N
  obtain ⟨n1, n2, n3⟩ := h.fresh hN
  refine r_dup (pc := 1162) dX6_init_1162 rfl ?_
  refine r_iconst (v := nI 0) (pc := 1163) dX6_init_1163 (by decide) ?_
  refine r_bipush (v := nI 109) (pc := 1164) dX6_init_1164 (by decide) ?_
  refine r_cast (pc := 1166) (j := 0) dX6_init_1166 n1 (n2 0 (by decide)) (by decide) (Nat.le_trans hb (Nat.le_add_right _ _)) ?_
  refine r_dup (pc := 1167) dX6_init_1167 rfl ?_
  refine r_iconst (v := nI 1) (pc := 1168) dX6_init_1168 (by decide) ?_
  refine r_bipush (v := nI 97) (pc := 1169) dX6_init_1169 (by decide) ?_
  refine r_cast (pc := 1171) (j := 1) dX6_init_1171 n1 (n2 1 (by decide)) (by decide) (Nat.le_trans hb (Nat.le_add_right _ _)) ?_
  refine r_dup (pc := 1172) dX6_init_1172 rfl ?_
  refine r_iconst (v := nI 2) (pc := 1173) dX6_init_1173 (by decide) ?_
  refine r_bipush (v := nI 120) (pc := 1174) dX6_init_1174 (by decide) ?_
  refine r_cast (pc := 1176) (j := 2) dX6_init_1176 n1 (n2 2 (by decide)) (by decide) (Nat.le_trans hb (Nat.le_add_right _ _)) ?_
  refine r_putFQ (pc := 1177) (x := some (o + 54)) dX6_init_1177 fl_X6_180 ff_X6_87 rfl rfl rfl (n3 (by decide)) hb ?_
  subst hN
  exact kk _ (h.arr (ws := [vp_nar .char (nI 109), vp_nar .char (nI 97), vp_nar .char (nI 120)]) (by decide) (by decide) rfl rfl (by decide))
theorem sg_55 (hb : gb g ≤ o) (h : BM M0 M o 55 e f) (kk : ∀ M', BM M0 M' o 56 e f → Bd g yX6_init cX6_init 1 none [] d 16 5240 M' 1207 [some (.ref o)] [] Q X) : Bd g yX6_init cX6_init 1 none [] d 17 5244 M 1180 [some (.ref o)] [] Q X := by
  refine r_ald0 (pc := 1180) dX6_init_1180 ?_
  refine r_iconst (v := nI 4) (pc := 1181) dX6_init_1181 (by decide) ?_
  refine r_newa (pc := 1182) (t := 5) (n := 4) (kc' := 16) (ks' := 5240) dX6_init_1182 rfl ⟨by decide, by decide⟩ q641 (by omega) (by omega) (by omega) ?_
  rw [h.1]
  generalize hN : nw M 5 4 = N
  obtain ⟨n1, n2, n3⟩ := h.fresh hN
  refine r_dup (pc := 1184) dX6_init_1184 rfl ?_
  refine r_iconst (v := nI 0) (pc := 1185) dX6_init_1185 (by decide) ?_
  refine r_bipush (v := nI 102) (pc := 1186) dX6_init_1186 (by decide) ?_
  refine r_cast (pc := 1188) (j := 0) dX6_init_1188 n1 (n2 0 (by decide)) (by decide) (Nat.le_trans hb (Nat.le_add_right _ _)) ?_
  refine r_dup (pc := 1189) dX6_init_1189 rfl ?_
  refine r_iconst (v := nI 1) (pc := 1190) dX6_init_1190 (by decide) ?_
  refine r_bipush (v := nI 97) (pc := 1191) dX6_init_1191 (by decide) ?_
  refine r_cast (pc := 1193) (j := 1) dX6_init_1193 n1 (n2 1 (by decide)) (by decide) (Nat.le_trans hb (Nat.le_add_right _ _)) ?_
  refine r_dup (pc := 1194) dX6_init_1194 rfl ?_
  refine r_iconst (v := nI 2) (pc := 1195) dX6_init_1195 (by decide) ?_
  refine r_bipush (v := nI 99) (pc := 1196) dX6_init_1196 (by decide) ?_
  refine r_cast (pc := 1198) (j := 2) dX6_init_1198 n1 (n2 2 (by decide)) (by decide) (Nat.le_trans hb (Nat.le_add_right _ _)) ?_
  refine r_dup (pc := 1199) dX6_init_1199 rfl ?_
  refine r_iconst (v := nI 3) (pc := 1200) dX6_init_1200 (by decide) ?_
  refine r_bipush (v := nI 101) (pc := 1201) dX6_init_1201 (by decide) ?_
  refine r_cast (pc := 1203) (j := 3) dX6_init_1203 n1 (n2 3 (by decide)) (by decide) (Nat.le_trans hb (Nat.le_add_right _ _)) ?_
  refine r_putFQ (pc := 1204) (x := some (o + 55)) dX6_init_1204 fl_X6_183 ff_X6_88 rfl rfl rfl (n3 (by decide)) hb ?_
  subst hN
  exact kk _ (h.arr (ws := [vp_nar .char (nI 102), vp_nar .char (nI 97), vp_nar .char (nI 99), vp_nar .char (nI 101)]) (by decide) (by decide) rfl rfl (by decide))
theorem sg_56 (hb : gb g ≤ o) (h : BM M0 M o 56 e f) (kk : ∀ M', BM M0 M' o 57 e f → Bd g yX6_init cX6_init 1 none [] d 15 5236 M' 1234 [some (.ref o)] [] Q X) : Bd g yX6_init cX6_init 1 none [] d 16 5240 M 1207 [some (.ref o)] [] Q X := by
  refine r_ald0 (pc := 1207) dX6_init_1207 ?_
  refine r_iconst (v := nI 4) (pc := 1208) dX6_init_1208 (by decide) ?_
  refine r_newa (pc := 1209) (t := 5) (n := 4) (kc' := 15) (ks' := 5236) dX6_init_1209 rfl ⟨by decide, by decide⟩ q641 (by omega) (by omega) (by omega) ?_
  rw [h.1]
  generalize hN : nw M 5 4 = N
  obtain ⟨n1, n2, n3⟩ := h.fresh hN
  refine r_dup (pc := 1211) dX6_init_1211 rfl ?_
  refine r_iconst (v := nI 0) (pc := 1212) dX6_init_1212 (by decide) ?_
  refine r_bipush (v := nI 107) (pc := 1213) dX6_init_1213 (by decide) ?_
  refine r_cast (pc := 1215) (j := 0) dX6_init_1215 n1 (n2 0 (by decide)) (by decide) (Nat.le_trans hb (Nat.le_add_right _ _)) ?_
  refine r_dup (pc := 1216) dX6_init_1216 rfl ?_
  refine r_iconst (v := nI 1) (pc := 1217) dX6_init_1217 (by decide) ?_
  refine r_bipush (v := nI 105) (pc := 1218) dX6_init_1218 (by decide) ?_
  refine r_cast (pc := 1220) (j := 1) dX6_init_1220 n1 (n2 1 (by decide)) (by decide) (Nat.le_trans hb (Nat.le_add_right _ _)) ?_
  refine r_dup (pc := 1221) dX6_init_1221 rfl ?_
  refine r_iconst (v := nI 2) (pc := 1222) dX6_init_1222 (by decide) ?_
  refine r_bipush (v := nI 110) (pc := 1223) dX6_init_1223 (by decide) ?_
  refine r_cast (pc := 1225) (j := 2) dX6_init_1225 n1 (n2 2 (by decide)) (by decide) (Nat.le_trans hb (Nat.le_add_right _ _)) ?_
  refine r_dup (pc := 1226) dX6_init_1226 rfl ?_
  refine r_iconst (v := nI 3) (pc := 1227) dX6_init_1227 (by decide) ?_
  refine r_bipush (v := nI 100) (pc := 1228) dX6_init_1228 (by decide) ?_
  refine r_cast (pc := 1230) (j := 3) dX6_init_1230 n1 (n2 3 (by decide)) (by decide) (Nat.le_trans hb (Nat.le_add_right _ _)) ?_
  refine r_putFQ (pc := 1231) (x := some (o + 56)) dX6_init_1231 fl_X6_186 ff_X6_89 rfl rfl rfl (n3 (by decide)) hb ?_
  subst hN
  exact kk _ (h.arr (ws := [vp_nar .char (nI 107), vp_nar .char (nI 105), vp_nar .char (nI 110), vp_nar .char (nI 100)]) (by decide) (by decide) rfl rfl (by decide))
theorem sg_57 (hb : gb g ≤ o) (h : BM M0 M o 57 e f) (kk : ∀ M', BM M0 M' o 58 e f → Bd g yX6_init cX6_init 1 none [] d 14 5230 M' 1272 [some (.ref o)] [] Q X) : Bd g yX6_init cX6_init 1 none [] d 15 5236 M 1234 [some (.ref o)] [] Q X := by
  refine r_ald0 (pc := 1234) dX6_init_1234 ?_
  refine r_bipush (v := nI 6) (pc := 1235) dX6_init_1235 (by decide) ?_
  refine r_newa (pc := 1237) (t := 5) (n := 6) (kc' := 14) (ks' := 5230) dX6_init_1237 rfl ⟨by decide, by decide⟩ q641 (by omega) (by omega) (by omega) ?_
  rw [h.1]
  generalize hN : nw M 5 6 = N
  obtain ⟨n1, n2, n3⟩ := h.fresh hN
  refine r_dup (pc := 1239) dX6_init_1239 rfl ?_
  refine r_iconst (v := nI 0) (pc := 1240) dX6_init_1240 (by decide) ?_
  refine r_bipush (v := nI 116) (pc := 1241) dX6_init_1241 (by decide) ?_
  refine r_cast (pc := 1243) (j := 0) dX6_init_1243 n1 (n2 0 (by decide)) (by decide) (Nat.le_trans hb (Nat.le_add_right _ _)) ?_
  refine r_dup (pc := 1244) dX6_init_1244 rfl ?_
  refine r_iconst (v := nI 1) (pc := 1245) dX6_init_1245 (by decide) ?_
  refine r_bipush (v := nI 104) (pc := 1246) dX6_init_1246 (by decide) ?_
  refine r_cast (pc := 1248) (j := 1) dX6_init_1248 n1 (n2 1 (by decide)) (by decide) (Nat.le_trans hb (Nat.le_add_right _ _)) ?_
  refine r_dup (pc := 1249) dX6_init_1249 rfl ?_
  refine r_iconst (v := nI 2) (pc := 1250) dX6_init_1250 (by decide) ?_
  refine r_bipush (v := nI 105) (pc := 1251) dX6_init_1251 (by decide) ?_
  refine r_cast (pc := 1253) (j := 2) dX6_init_1253 n1 (n2 2 (by decide)) (by decide) (Nat.le_trans hb (Nat.le_add_right _ _)) ?_
  refine r_dup (pc := 1254) dX6_init_1254 rfl ?_
  refine r_iconst (v := nI 3) (pc := 1255) dX6_init_1255 (by decide) ?_
  refine r_bipush (v := nI 110) (pc := 1256) dX6_init_1256 (by decide) ?_
  refine r_cast (pc := 1258) (j := 3) dX6_init_1258 n1 (n2 3 (by decide)) (by decide) (Nat.le_trans hb (Nat.le_add_right _ _)) ?_
  refine r_dup (pc := 1259) dX6_init_1259 rfl ?_
  refine r_iconst (v := nI 4) (pc := 1260) dX6_init_1260 (by decide) ?_
  refine r_bipush (v := nI 107) (pc := 1261) dX6_init_1261 (by decide) ?_
  refine r_cast (pc := 1263) (j := 4) dX6_init_1263 n1 (n2 4 (by decide)) (by decide) (Nat.le_trans hb (Nat.le_add_right _ _)) ?_
  refine r_dup (pc := 1264) dX6_init_1264 rfl ?_
  refine r_iconst (v := nI 5) (pc := 1265) dX6_init_1265 (by decide) ?_
  refine r_bipush (v := nI 115) (pc := 1266) dX6_init_1266 (by decide) ?_
  refine r_cast (pc := 1268) (j := 5) dX6_init_1268 n1 (n2 5 (by decide)) (by decide) (Nat.le_trans hb (Nat.le_add_right _ _)) ?_
  refine r_putFQ (pc := 1269) (x := some (o + 57)) dX6_init_1269 fl_X6_189 ff_X6_90 rfl rfl rfl (n3 (by decide)) hb ?_
  subst hN
  exact kk _ (h.arr (ws := [vp_nar .char (nI 116), vp_nar .char (nI 104), vp_nar .char (nI 105), vp_nar .char (nI 110), vp_nar .char (nI 107), vp_nar .char (nI 115)]) (by decide) (by decide) rfl rfl (by decide))
theorem sg_58 (hb : gb g ≤ o) (h : BM M0 M o 58 e f) (kk : ∀ M', BM M0 M' o 59 e f → Bd g yX6_init cX6_init 1 none [] d 13 5226 M' 1299 [some (.ref o)] [] Q X) : Bd g yX6_init cX6_init 1 none [] d 14 5230 M 1272 [some (.ref o)] [] Q X := by
  refine r_ald0 (pc := 1272) dX6_init_1272 ?_
  refine r_iconst (v := nI 4) (pc := 1273) dX6_init_1273 (by decide) ?_
  refine r_newa (pc := 1274) (t := 5) (n := 4) (kc' := 13) (ks' := 5226) dX6_init_1274 rfl ⟨by decide, by decide⟩ q641 (by omega) (by omega) (by omega) ?_
  rw [h.1]
  generalize hN : nw M 5 4 = N
  obtain ⟨n1, n2, n3⟩ := h.fresh hN
  refine r_dup (pc := 1276) dX6_init_1276 rfl ?_
  refine r_iconst (v := nI 0) (pc := 1277) dX6_init_1277 (by decide) ?_
  refine r_bipush (v := nI 121) (pc := 1278) dX6_init_1278 (by decide) ?_
  refine r_cast (pc := 1280) (j := 0) dX6_init_1280 n1 (n2 0 (by decide)) (by decide) (Nat.le_trans hb (Nat.le_add_right _ _)) ?_
  refine r_dup (pc := 1281) dX6_init_1281 rfl ?_
  refine r_iconst (v := nI 1) (pc := 1282) dX6_init_1282 (by decide) ?_
  refine r_bipush (v := nI 101) (pc := 1283) dX6_init_1283 (by decide) ?_
  refine r_cast (pc := 1285) (j := 1) dX6_init_1285 n1 (n2 1 (by decide)) (by decide) (Nat.le_trans hb (Nat.le_add_right _ _)) ?_
  refine r_dup (pc := 1286) dX6_init_1286 rfl ?_
  refine r_iconst (v := nI 2) (pc := 1287) dX6_init_1287 (by decide) ?_
  refine r_bipush (v := nI 97) (pc := 1288) dX6_init_1288 (by decide) ?_
  refine r_cast (pc := 1290) (j := 2) dX6_init_1290 n1 (n2 2 (by decide)) (by decide) (Nat.le_trans hb (Nat.le_add_right _ _)) ?_
  refine r_dup (pc := 1291) dX6_init_1291 rfl ?_
  refine r_iconst (v := nI 3) (pc := 1292) dX6_init_1292 (by decide) ?_
  refine r_bipush (v := nI 114) (pc := 1293) dX6_init_1293 (by decide) ?_
  refine r_cast (pc := 1295) (j := 3) dX6_init_1295 n1 (n2 3 (by decide)) (by decide) (Nat.le_trans hb (Nat.le_add_right _ _)) ?_
  refine r_putFQ (pc := 1296) (x := some (o + 58)) dX6_init_1296 fl_X6_192 ff_X6_91 rfl rfl rfl (n3 (by decide)) hb ?_
  subst hN
  exact kk _ (h.arr (ws := [vp_nar .char (nI 121), vp_nar .char (nI 101), vp_nar .char (nI 97), vp_nar .char (nI 114)]) (by decide) (by decide) rfl rfl (by decide))
theorem sg_59 (hb : gb g ≤ o) (h : BM M0 M o 59 e f) (kk : ∀ M', BM M0 M' o 60 e f → Bd g yX6_init cX6_init 1 none [] d 12 5222 M' 1326 [some (.ref o)] [] Q X) : Bd g yX6_init cX6_init 1 none [] d 13 5226 M 1299 [some (.ref o)] [] Q X := by
  refine r_ald0 (pc := 1299) dX6_init_1299 ?_
  refine r_iconst (v := nI 4) (pc := 1300) dX6_init_1300 (by decide) ?_
  refine r_newa (pc := 1301) (t := 5) (n := 4) (kc' := 12) (ks' := 5222) dX6_init_1301 rfl ⟨by decide, by decide⟩ q641 (by omega) (by omega) (by omega) ?_
  rw [h.1]
  generalize hN : nw M 5 4 = N
  obtain ⟨n1, n2, n3⟩ := h.fresh hN
  refine r_dup (pc := 1303) dX6_init_1303 rfl ?_
  refine r_iconst (v := nI 0) (pc := 1304) dX6_init_1304 (by decide) ?_
  refine r_bipush (v := nI 108) (pc := 1305) dX6_init_1305 (by decide) ?_
  refine r_cast (pc := 1307) (j := 0) dX6_init_1307 n1 (n2 0 (by decide)) (by decide) (Nat.le_trans hb (Nat.le_add_right _ _)) ?_
  refine r_dup (pc := 1308) dX6_init_1308 rfl ?_
  refine r_iconst (v := nI 1) (pc := 1309) dX6_init_1309 (by decide) ?_
  refine r_bipush (v := nI 111) (pc := 1310) dX6_init_1310 (by decide) ?_
  refine r_cast (pc := 1312) (j := 1) dX6_init_1312 n1 (n2 1 (by decide)) (by decide) (Nat.le_trans hb (Nat.le_add_right _ _)) ?_
  refine r_dup (pc := 1313) dX6_init_1313 rfl ?_
  refine r_iconst (v := nI 2) (pc := 1314) dX6_init_1314 (by decide) ?_
  refine r_bipush (v := nI 111) (pc := 1315) dX6_init_1315 (by decide) ?_
  refine r_cast (pc := 1317) (j := 2) dX6_init_1317 n1 (n2 2 (by decide)) (by decide) (Nat.le_trans hb (Nat.le_add_right _ _)) ?_
  refine r_dup (pc := 1318) dX6_init_1318 rfl ?_
  refine r_iconst (v := nI 3) (pc := 1319) dX6_init_1319 (by decide) ?_
  refine r_bipush (v := nI 107) (pc := 1320) dX6_init_1320 (by decide) ?_
  refine r_cast (pc := 1322) (j := 3) dX6_init_1322 n1 (n2 3 (by decide)) (by decide) (Nat.le_trans hb (Nat.le_add_right _ _)) ?_
  refine r_putFQ (pc := 1323) (x := some (o + 59)) dX6_init_1323 fl_X6_195 ff_X6_92 rfl rfl rfl (n3 (by decide)) hb ?_
  subst hN
  exact kk _ (h.arr (ws := [vp_nar .char (nI 108), vp_nar .char (nI 111), vp_nar .char (nI 111), vp_nar .char (nI 107)]) (by decide) (by decide) rfl rfl (by decide))
theorem sg_60 (hb : gb g ≤ o) (h : BM M0 M o 60 e f) (kk : ∀ M', BM M0 M' o 61 e f → Bd g yX6_init cX6_init 1 none [] d 11 5218 M' 1353 [some (.ref o)] [] Q X) : Bd g yX6_init cX6_init 1 none [] d 12 5222 M 1326 [some (.ref o)] [] Q X := by
  refine r_ald0 (pc := 1326) dX6_init_1326 ?_
  refine r_iconst (v := nI 4) (pc := 1327) dX6_init_1327 (by decide) ?_
  refine r_newa (pc := 1328) (t := 5) (n := 4) (kc' := 11) (ks' := 5218) dX6_init_1328 rfl ⟨by decide, by decide⟩ q641 (by omega) (by omega) (by omega) ?_
  rw [h.1]
  generalize hN : nw M 5 4 = N
  obtain ⟨n1, n2, n3⟩ := h.fresh hN
  refine r_dup (pc := 1330) dX6_init_1330 rfl ?_
  refine r_iconst (v := nI 0) (pc := 1331) dX6_init_1331 (by decide) ?_
  refine r_bipush (v := nI 115) (pc := 1332) dX6_init_1332 (by decide) ?_
  refine r_cast (pc := 1334) (j := 0) dX6_init_1334 n1 (n2 0 (by decide)) (by decide) (Nat.le_trans hb (Nat.le_add_right _ _)) ?_
  refine r_dup (pc := 1335) dX6_init_1335 rfl ?_
  refine r_iconst (v := nI 1) (pc := 1336) dX6_init_1336 (by decide) ?_
  refine r_bipush (v := nI 105) (pc := 1337) dX6_init_1337 (by decide) ?_
  refine r_cast (pc := 1339) (j := 1) dX6_init_1339 n1 (n2 1 (by decide)) (by decide) (Nat.le_trans hb (Nat.le_add_right _ _)) ?_
  refine r_dup (pc := 1340) dX6_init_1340 rfl ?_
  refine r_iconst (v := nI 2) (pc := 1341) dX6_init_1341 (by decide) ?_
  refine r_bipush (v := nI 100) (pc := 1342) dX6_init_1342 (by decide) ?_
  refine r_cast (pc := 1344) (j := 2) dX6_init_1344 n1 (n2 2 (by decide)) (by decide) (Nat.le_trans hb (Nat.le_add_right _ _)) ?_
  refine r_dup (pc := 1345) dX6_init_1345 rfl ?_
  refine r_iconst (v := nI 3) (pc := 1346) dX6_init_1346 (by decide) ?_
  refine r_bipush (v := nI 101) (pc := 1347) dX6_init_1347 (by decide) ?_
  refine r_cast (pc := 1349) (j := 3) dX6_init_1349 n1 (n2 3 (by decide)) (by decide) (Nat.le_trans hb (Nat.le_add_right _ _)) ?_
  refine r_putFQ (pc := 1350) (x := some (o + 60)) dX6_init_1350 fl_X6_198 ff_X6_93 rfl rfl rfl (n3 (by decide)) hb ?_
  subst hN
  exact kk _ (h.arr (ws := [vp_nar .char (nI 115), vp_nar .char (nI 105), vp_nar .char (nI 100), vp_nar .char (nI 101)]) (by decide) (by decide) rfl rfl (by decide))
theorem sg_61 (hb : gb g ≤ o) (h : BM M0 M o 61 e f) (kk : ∀ M', BM M0 M' o 62 e f → Bd g yX6_init cX6_init 1 none [] d 10 5214 M' 1380 [some (.ref o)] [] Q X) : Bd g yX6_init cX6_init 1 none [] d 11 5218 M 1353 [some (.ref o)] [] Q X := by
  refine r_ald0 (pc := 1353) dX6_init_1353 ?_
  refine r_iconst (v := nI 4) (pc := 1354) dX6_init_1354 (by decide) ?_
  refine r_newa (pc := 1355) (t := 5) (n := 4) (kc' := 10) (ks' := 5214) dX6_init_1355 rfl ⟨by decide, by decide⟩ q641 (by omega) (by omega) (by omega) ?_
  rw [h.1]
  generalize hN : nw M 5 4 = N
  obtain ⟨n1, n2, n3⟩ := h.fresh hN
  refine r_dup (pc := 1357) dX6_init_1357 rfl ?_
  refine r_iconst (v := nI 0) (pc := 1358) dX6_init_1358 (by decide) ?_
  refine r_bipush (v := nI 103) (pc := 1359) dX6_init_1359 (by decide) ?_
  refine r_cast (pc := 1361) (j := 0) dX6_init_1361 n1 (n2 0 (by decide)) (by decide) (Nat.le_trans hb (Nat.le_add_right _ _)) ?_
  refine r_dup (pc := 1362) dX6_init_1362 rfl ?_
  refine r_iconst (v := nI 1) (pc := 1363) dX6_init_1363 (by decide) ?_
  refine r_bipush (v := nI 97) (pc := 1364) dX6_init_1364 (by decide) ?_
  refine r_cast (pc := 1366) (j := 1) dX6_init_1366 n1 (n2 1 (by decide)) (by decide) (Nat.le_trans hb (Nat.le_add_right _ _)) ?_
  refine r_dup (pc := 1367) dX6_init_1367 rfl ?_
  refine r_iconst (v := nI 2) (pc := 1368) dX6_init_1368 (by decide) ?_
  refine r_bipush (v := nI 105) (pc := 1369) dX6_init_1369 (by decide) ?_
  refine r_cast (pc := 1371) (j := 2) dX6_init_1371 n1 (n2 2 (by decide)) (by decide) (Nat.le_trans hb (Nat.le_add_right _ _)) ?_
  refine r_dup (pc := 1372) dX6_init_1372 rfl ?_
  refine r_iconst (v := nI 3) (pc := 1373) dX6_init_1373 (by decide) ?_
  refine r_bipush (v := nI 110) (pc := 1374) dX6_init_1374 (by decide) ?_
  refine r_cast (pc := 1376) (j := 3) dX6_init_1376 n1 (n2 3 (by decide)) (by decide) (Nat.le_trans hb (Nat.le_add_right _ _)) ?_
  refine r_putFQ (pc := 1377) (x := some (o + 61)) dX6_init_1377 fl_X6_201 ff_X6_94 rfl rfl rfl (n3 (by decide)) hb ?_
  subst hN
  exact kk _ (h.arr (ws := [vp_nar .char (nI 103), vp_nar .char (nI 97), vp_nar .char (nI 105), vp_nar .char (nI 110)]) (by decide) (by decide) rfl rfl (by decide))
theorem sg_62 (hb : gb g ≤ o) (h : BM M0 M o 62 e f) (kk : ∀ M', BM M0 M' o 63 e f → Bd g yX6_init cX6_init 1 none [] d 9 5210 M' 1407 [some (.ref o)] [] Q X) : Bd g yX6_init cX6_init 1 none [] d 10 5214 M 1380 [some (.ref o)] [] Q X := by
  refine r_ald0 (pc := 1380) dX6_init_1380 ?_
  refine r_iconst (v := nI 4) (pc := 1381) dX6_init_1381 (by decide) ?_
  refine r_newa (pc := 1382) (t := 5) (n := 4) (kc' := 9) (ks' := 5210) dX6_init_1382 rfl ⟨by decide, by decide⟩ q641 (by omega) (by omega) (by omega) ?_
  rw [h.1]
  generalize hN : nw M 5 4 = N
  obtain ⟨n1, n2, n3⟩ := h.fresh hN
  refine r_dup (pc := 1384) dX6_init_1384 rfl ?_
  refine r_iconst (v := nI 0) (pc := 1385) dX6_init_1385 (by decide) ?_
  refine r_bipush (v := nI 98) (pc := 1386) dX6_init_1386 (by decide) ?_
  refine r_cast (pc := 1388) (j := 0) dX6_init_1388 n1 (n2 0 (by decide)) (by decide) (Nat.le_trans hb (Nat.le_add_right _ _)) ?_
  refine r_dup (pc := 1389) dX6_init_1389 rfl ?_
  refine r_iconst (v := nI 1) (pc := 1390) dX6_init_1390 (by decide) ?_
  refine r_bipush (v := nI 97) (pc := 1391) dX6_init_1391 (by decide) ?_
  refine r_cast (pc := 1393) (j := 1) dX6_init_1393 n1 (n2 1 (by decide)) (by decide) (Nat.le_trans hb (Nat.le_add_right _ _)) ?_
  refine r_dup (pc := 1394) dX6_init_1394 rfl ?_
  refine r_iconst (v := nI 2) (pc := 1395) dX6_init_1395 (by decide) ?_
  refine r_bipush (v := nI 99) (pc := 1396) dX6_init_1396 (by decide) ?_
  refine r_cast (pc := 1398) (j := 2) dX6_init_1398 n1 (n2 2 (by decide)) (by decide) (Nat.le_trans hb (Nat.le_add_right _ _)) ?_
  refine r_dup (pc := 1399) dX6_init_1399 rfl ?_
  refine r_iconst (v := nI 3) (pc := 1400) dX6_init_1400 (by decide) ?_
  refine r_bipush (v := nI 107) (pc := 1401) dX6_init_1401 (by decide) ?_
  refine r_cast (pc := 1403) (j := 3) dX6_init_1403 n1 (n2 3 (by decide)) (by decide) (Nat.le_trans hb (Nat.le_add_right _ _)) ?_
  refine r_putFQ (pc := 1404) (x := some (o + 62)) dX6_init_1404 fl_X6_204 ff_X6_95 rfl rfl rfl (n3 (by decide)) hb ?_
  subst hN
  exact kk _ (h.arr (ws := [vp_nar .char (nI 98), vp_nar .char (nI 97), vp_nar .char (nI 99), vp_nar .char (nI 107)]) (by decide) (by decide) rfl rfl (by decide))
theorem sg_63 (hb : gb g ≤ o) (h : BM M0 M o 63 e f) (kk : ∀ M', BM M0 M' o 64 e f → Bd g yX6_init cX6_init 1 none [] d 8 5204 M' 1445 [some (.ref o)] [] Q X) : Bd g yX6_init cX6_init 1 none [] d 9 5210 M 1407 [some (.ref o)] [] Q X := by
  refine r_ald0 (pc := 1407) dX6_init_1407 ?_
  refine r_bipush (v := nI 6) (pc := 1408) dX6_init_1408 (by decide) ?_
  refine r_newa (pc := 1410) (t := 5) (n := 6) (kc' := 8) (ks' := 5204) dX6_init_1410 rfl ⟨by decide, by decide⟩ q641 (by omega) (by omega) (by omega) ?_
  rw [h.1]
  generalize hN : nw M 5 6 = N
  obtain ⟨n1, n2, n3⟩ := h.fresh hN
  refine r_dup (pc := 1412) dX6_init_1412 rfl ?_
  refine r_iconst (v := nI 0) (pc := 1413) dX6_init_1413 (by decide) ?_
  refine r_bipush (v := nI 110) (pc := 1414) dX6_init_1414 (by decide) ?_
  refine r_cast (pc := 1416) (j := 0) dX6_init_1416 n1 (n2 0 (by decide)) (by decide) (Nat.le_trans hb (Nat.le_add_right _ _)) ?_
  refine r_dup (pc := 1417) dX6_init_1417 rfl ?_
  refine r_iconst (v := nI 1) (pc := 1418) dX6_init_1418 (by decide) ?_
  refine r_bipush (v := nI 117) (pc := 1419) dX6_init_1419 (by decide) ?_
  refine r_cast (pc := 1421) (j := 1) dX6_init_1421 n1 (n2 1 (by decide)) (by decide) (Nat.le_trans hb (Nat.le_add_right _ _)) ?_
  refine r_dup (pc := 1422) dX6_init_1422 rfl ?_
  refine r_iconst (v := nI 2) (pc := 1423) dX6_init_1423 (by decide) ?_
  refine r_bipush (v := nI 109) (pc := 1424) dX6_init_1424 (by decide) ?_
  refine r_cast (pc := 1426) (j := 2) dX6_init_1426 n1 (n2 2 (by decide)) (by decide) (Nat.le_trans hb (Nat.le_add_right _ _)) ?_
  refine r_dup (pc := 1427) dX6_init_1427 rfl ?_
  refine r_iconst (v := nI 3) (pc := 1428) dX6_init_1428 (by decide) ?_
  refine r_bipush (v := nI 98) (pc := 1429) dX6_init_1429 (by decide) ?_
  refine r_cast (pc := 1431) (j := 3) dX6_init_1431 n1 (n2 3 (by decide)) (by decide) (Nat.le_trans hb (Nat.le_add_right _ _)) ?_
  refine r_dup (pc := 1432) dX6_init_1432 rfl ?_
  refine r_iconst (v := nI 4) (pc := 1433) dX6_init_1433 (by decide) ?_
  refine r_bipush (v := nI 101) (pc := 1434) dX6_init_1434 (by decide) ?_
  refine r_cast (pc := 1436) (j := 4) dX6_init_1436 n1 (n2 4 (by decide)) (by decide) (Nat.le_trans hb (Nat.le_add_right _ _)) ?_
  refine r_dup (pc := 1437) dX6_init_1437 rfl ?_
  refine r_iconst (v := nI 5) (pc := 1438) dX6_init_1438 (by decide) ?_
  refine r_bipush (v := nI 114) (pc := 1439) dX6_init_1439 (by decide) ?_
  refine r_cast (pc := 1441) (j := 5) dX6_init_1441 n1 (n2 5 (by decide)) (by decide) (Nat.le_trans hb (Nat.le_add_right _ _)) ?_
  refine r_putFQ (pc := 1442) (x := some (o + 63)) dX6_init_1442 fl_X6_207 ff_X6_96 rfl rfl rfl (n3 (by decide)) hb ?_
  subst hN
  exact kk _ (h.arr (ws := [vp_nar .char (nI 110), vp_nar .char (nI 117), vp_nar .char (nI 109), vp_nar .char (nI 98), vp_nar .char (nI 101), vp_nar .char (nI 114)]) (by decide) (by decide) rfl rfl (by decide))
theorem sg_64 (hb : gb g ≤ o) (h : BM M0 M o 64 e f) (kk : ∀ M', BM M0 M' o 65 e f → Bd g yX6_init cX6_init 1 none [] d 7 5199 M' 1477 [some (.ref o)] [] Q X) : Bd g yX6_init cX6_init 1 none [] d 8 5204 M 1445 [some (.ref o)] [] Q X := by
  refine r_ald0 (pc := 1445) dX6_init_1445 ?_
  refine r_iconst (v := nI 5) (pc := 1446) dX6_init_1446 (by decide) ?_
  refine r_newa (pc := 1447) (t := 5) (n := 5) (kc' := 7) (ks' := 5199) dX6_init_1447 rfl ⟨by decide, by decide⟩ q641 (by omega) (by omega) (by omega) ?_
  rw [h.1]
  generalize hN : nw M 5 5 = N
  obtain ⟨n1, n2, n3⟩ := h.fresh hN
  refine r_dup (pc := 1449) dX6_init_1449 rfl ?_
  refine r_iconst (v := nI 0) (pc := 1450) dX6_init_1450 (by decide) ?_
  refine r_bipush (v := nI 104) (pc := 1451) dX6_init_1451 (by decide) ?_
  refine r_cast (pc := 1453) (j := 0) dX6_init_1453 n1 (n2 0 (by decide)) (by decide) (Nat.le_trans hb (Nat.le_add_right _ _)) ?_
  refine r_dup (pc := 1454) dX6_init_1454 rfl ?_
  refine r_iconst (v := nI 1) (pc := 1455) dX6_init_1455 (by decide) ?_
  refine r_bipush (v := nI 111) (pc := 1456) dX6_init_1456 (by decide) ?_
  refine r_cast (pc := 1458) (j := 1) dX6_init_1458 n1 (n2 1 (by decide)) (by decide) (Nat.le_trans hb (Nat.le_add_right _ _)) ?_
  refine r_dup (pc := 1459) dX6_init_1459 rfl ?_
  refine r_iconst (v := nI 2) (pc := 1460) dX6_init_1460 (by decide) ?_
  refine r_bipush (v := nI 117) (pc := 1461) dX6_init_1461 (by decide) ?_
  refine r_cast (pc := 1463) (j := 2) dX6_init_1463 n1 (n2 2 (by decide)) (by decide) (Nat.le_trans hb (Nat.le_add_right _ _)) ?_
  refine r_dup (pc := 1464) dX6_init_1464 rfl ?_
  refine r_iconst (v := nI 3) (pc := 1465) dX6_init_1465 (by decide) ?_
  refine r_bipush (v := nI 115) (pc := 1466) dX6_init_1466 (by decide) ?_
  refine r_cast (pc := 1468) (j := 3) dX6_init_1468 n1 (n2 3 (by decide)) (by decide) (Nat.le_trans hb (Nat.le_add_right _ _)) ?_
  refine r_dup (pc := 1469) dX6_init_1469 rfl ?_
  refine r_iconst (v := nI 4) (pc := 1470) dX6_init_1470 (by decide) ?_
  refine r_bipush (v := nI 101) (pc := 1471) dX6_init_1471 (by decide) ?_
  refine r_cast (pc := 1473) (j := 4) dX6_init_1473 n1 (n2 4 (by decide)) (by decide) (Nat.le_trans hb (Nat.le_add_right _ _)) ?_
  refine r_putFQ (pc := 1474) (x := some (o + 64)) dX6_init_1474 fl_X6_210 ff_X6_97 rfl rfl rfl (n3 (by decide)) hb ?_
  subst hN
  exact kk _ (h.arr (ws := [vp_nar .char (nI 104), vp_nar .char (nI 111), vp_nar .char (nI 117), vp_nar .char (nI 115), vp_nar .char (nI 101)]) (by decide) (by decide) rfl rfl (by decide))
theorem sg_65 (hb : gb g ≤ o) (h : BM M0 M o 65 e f) (kk : ∀ M', BM M0 M' o 66 e f → Bd g yX6_init cX6_init 1 none [] d 6 5193 M' 1515 [some (.ref o)] [] Q X) : Bd g yX6_init cX6_init 1 none [] d 7 5199 M 1477 [some (.ref o)] [] Q X := by
  refine r_ald0 (pc := 1477) dX6_init_1477 ?_
  refine r_bipush (v := nI 6) (pc := 1478) dX6_init_1478 (by decide) ?_
  refine r_newa (pc := 1480) (t := 5) (n := 6) (kc' := 6) (ks' := 5193) dX6_init_1480 rfl ⟨by decide, by decide⟩ q641 (by omega) (by omega) (by omega) ?_
  rw [h.1]
  generalize hN : nw M 5 6 = N
  obtain ⟨n1, n2, n3⟩ := h.fresh hN
  refine r_dup (pc := 1482) dX6_init_1482 rfl ?_
  refine r_iconst (v := nI 0) (pc := 1483) dX6_init_1483 (by decide) ?_
  refine r_bipush (v := nI 115) (pc := 1484) dX6_init_1484 (by decide) ?_
  refine r_cast (pc := 1486) (j := 0) dX6_init_1486 n1 (n2 0 (by decide)) (by decide) (Nat.le_trans hb (Nat.le_add_right _ _)) ?_
  refine r_dup (pc := 1487) dX6_init_1487 rfl ?_
  refine r_iconst (v := nI 1) (pc := 1488) dX6_init_1488 (by decide) ?_
  refine r_bipush (v := nI 112) (pc := 1489) dX6_init_1489 (by decide) ?_
  refine r_cast (pc := 1491) (j := 1) dX6_init_1491 n1 (n2 1 (by decide)) (by decide) (Nat.le_trans hb (Nat.le_add_right _ _)) ?_
  refine r_dup (pc := 1492) dX6_init_1492 rfl ?_
  refine r_iconst (v := nI 2) (pc := 1493) dX6_init_1493 (by decide) ?_
  refine r_bipush (v := nI 97) (pc := 1494) dX6_init_1494 (by decide) ?_
  refine r_cast (pc := 1496) (j := 2) dX6_init_1496 n1 (n2 2 (by decide)) (by decide) (Nat.le_trans hb (Nat.le_add_right _ _)) ?_
  refine r_dup (pc := 1497) dX6_init_1497 rfl ?_
  refine r_iconst (v := nI 3) (pc := 1498) dX6_init_1498 (by decide) ?_
  refine r_bipush (v := nI 114) (pc := 1499) dX6_init_1499 (by decide) ?_
  refine r_cast (pc := 1501) (j := 3) dX6_init_1501 n1 (n2 3 (by decide)) (by decide) (Nat.le_trans hb (Nat.le_add_right _ _)) ?_
  refine r_dup (pc := 1502) dX6_init_1502 rfl ?_
  refine r_iconst (v := nI 4) (pc := 1503) dX6_init_1503 (by decide) ?_
  refine r_bipush (v := nI 101) (pc := 1504) dX6_init_1504 (by decide) ?_
  refine r_cast (pc := 1506) (j := 4) dX6_init_1506 n1 (n2 4 (by decide)) (by decide) (Nat.le_trans hb (Nat.le_add_right _ _)) ?_
  refine r_dup (pc := 1507) dX6_init_1507 rfl ?_
  refine r_iconst (v := nI 5) (pc := 1508) dX6_init_1508 (by decide) ?_
  refine r_bipush (v := nI 115) (pc := 1509) dX6_init_1509 (by decide) ?_
  refine r_cast (pc := 1511) (j := 5) dX6_init_1511 n1 (n2 5 (by decide)) (by decide) (Nat.le_trans hb (Nat.le_add_right _ _)) ?_
  refine r_putFQ (pc := 1512) (x := some (o + 65)) dX6_init_1512 fl_X6_213 ff_X6_98 rfl rfl rfl (n3 (by decide)) hb ?_
  subst hN
  exact kk _ (h.arr (ws := [vp_nar .char (nI 115), vp_nar .char (nI 112), vp_nar .char (nI 97), vp_nar .char (nI 114), vp_nar .char (nI 101), vp_nar .char (nI 115)]) (by decide) (by decide) rfl rfl (by decide))
theorem sg_66 (hb : gb g ≤ o) (h : BM M0 M o 66 e f) (kk : ∀ M', BM M0 M' o 67 e f → Bd g yX6_init cX6_init 1 none [] d 5 5187 M' 1553 [some (.ref o)] [] Q X) : Bd g yX6_init cX6_init 1 none [] d 6 5193 M 1515 [some (.ref o)] [] Q X := by
  refine r_ald0 (pc := 1515) dX6_init_1515 ?_
  refine r_bipush (v := nI 6) (pc := 1516) dX6_init_1516 (by decide) ?_
  refine r_newa (pc := 1518) (t := 5) (n := 6) (kc' := 5) (ks' := 5187) dX6_init_1518 rfl ⟨by decide, by decide⟩ q641 (by omega) (by omega) (by omega) ?_
  rw [h.1]
  generalize hN : nw M 5 6 = N
  obtain ⟨n1, n2, n3⟩ := h.fresh hN
  refine r_dup (pc := 1520) dX6_init_1520 rfl ?_
  refine r_iconst (v := nI 0) (pc := 1521) dX6_init_1521 (by decide) ?_
  refine r_bipush (v := nI 116) (pc := 1522) dX6_init_1522 (by decide) ?_
  refine r_cast (pc := 1524) (j := 0) dX6_init_1524 n1 (n2 0 (by decide)) (by decide) (Nat.le_trans hb (Nat.le_add_right _ _)) ?_
  refine r_dup (pc := 1525) dX6_init_1525 rfl ?_
  refine r_iconst (v := nI 1) (pc := 1526) dX6_init_1526 (by decide) ?_
  refine r_bipush (v := nI 104) (pc := 1527) dX6_init_1527 (by decide) ?_
  refine r_cast (pc := 1529) (j := 1) dX6_init_1529 n1 (n2 1 (by decide)) (by decide) (Nat.le_trans hb (Nat.le_add_right _ _)) ?_
  refine r_dup (pc := 1530) dX6_init_1530 rfl ?_
  refine r_iconst (v := nI 2) (pc := 1531) dX6_init_1531 (by decide) ?_
  refine r_bipush (v := nI 105) (pc := 1532) dX6_init_1532 (by decide) ?_
  refine r_cast (pc := 1534) (j := 2) dX6_init_1534 n1 (n2 2 (by decide)) (by decide) (Nat.le_trans hb (Nat.le_add_right _ _)) ?_
  refine r_dup (pc := 1535) dX6_init_1535 rfl ?_
  refine r_iconst (v := nI 3) (pc := 1536) dX6_init_1536 (by decide) ?_
  refine r_bipush (v := nI 110) (pc := 1537) dX6_init_1537 (by decide) ?_
  refine r_cast (pc := 1539) (j := 3) dX6_init_1539 n1 (n2 3 (by decide)) (by decide) (Nat.le_trans hb (Nat.le_add_right _ _)) ?_
  refine r_dup (pc := 1540) dX6_init_1540 rfl ?_
  refine r_iconst (v := nI 4) (pc := 1541) dX6_init_1541 (by decide) ?_
  refine r_bipush (v := nI 107) (pc := 1542) dX6_init_1542 (by decide) ?_
  refine r_cast (pc := 1544) (j := 4) dX6_init_1544 n1 (n2 4 (by decide)) (by decide) (Nat.le_trans hb (Nat.le_add_right _ _)) ?_
  refine r_dup (pc := 1545) dX6_init_1545 rfl ?_
  refine r_iconst (v := nI 5) (pc := 1546) dX6_init_1546 (by decide) ?_
  refine r_bipush (v := nI 115) (pc := 1547) dX6_init_1547 (by decide) ?_
  refine r_cast (pc := 1549) (j := 5) dX6_init_1549 n1 (n2 5 (by decide)) (by decide) (Nat.le_trans hb (Nat.le_add_right _ _)) ?_
  refine r_putFQ (pc := 1550) (x := some (o + 66)) dX6_init_1550 fl_X6_216 ff_X6_99 rfl rfl rfl (n3 (by decide)) hb ?_
  subst hN
  exact kk _ (h.arr (ws := [vp_nar .char (nI 116), vp_nar .char (nI 104), vp_nar .char (nI 105), vp_nar .char (nI 110), vp_nar .char (nI 107), vp_nar .char (nI 115)]) (by decide) (by decide) rfl rfl (by decide))
theorem sg_67 (hb : gb g ≤ o) (h : BM M0 M o 67 e f) (kk : ∀ M', BM M0 M' o 68 e f → Bd g yX6_init cX6_init 1 none [] d 4 5183 M' 1580 [some (.ref o)] [] Q X) : Bd g yX6_init cX6_init 1 none [] d 5 5187 M 1553 [some (.ref o)] [] Q X := by
  refine r_ald0 (pc := 1553) dX6_init_1553 ?_
  refine r_iconst (v := nI 4) (pc := 1554) dX6_init_1554 (by decide) ?_
  refine r_newa (pc := 1555) (t := 5) (n := 4) (kc' := 4) (ks' := 5183) dX6_init_1555 rfl ⟨by decide, by decide⟩ q641 (by omega) (by omega) (by omega) ?_
  rw [h.1]
  generalize hN : nw M 5 4 = N
  obtain ⟨n1, n2, n3⟩ := h.fresh hN
  refine r_dup (pc := 1557) dX6_init_1557 rfl ?_
  refine r_iconst (v := nI 0) (pc := 1558) dX6_init_1558 (by decide) ?_
  refine r_bipush (v := nI 98) (pc := 1559) dX6_init_1559 (by decide) ?_
  refine r_cast (pc := 1561) (j := 0) dX6_init_1561 n1 (n2 0 (by decide)) (by decide) (Nat.le_trans hb (Nat.le_add_right _ _)) ?_
  refine r_dup (pc := 1562) dX6_init_1562 rfl ?_
  refine r_iconst (v := nI 1) (pc := 1563) dX6_init_1563 (by decide) ?_
  refine r_bipush (v := nI 97) (pc := 1564) dX6_init_1564 (by decide) ?_
  refine r_cast (pc := 1566) (j := 1) dX6_init_1566 n1 (n2 1 (by decide)) (by decide) (Nat.le_trans hb (Nat.le_add_right _ _)) ?_
  refine r_dup (pc := 1567) dX6_init_1567 rfl ?_
  refine r_iconst (v := nI 2) (pc := 1568) dX6_init_1568 (by decide) ?_
  refine r_bipush (v := nI 99) (pc := 1569) dX6_init_1569 (by decide) ?_
  refine r_cast (pc := 1571) (j := 2) dX6_init_1571 n1 (n2 2 (by decide)) (by decide) (Nat.le_trans hb (Nat.le_add_right _ _)) ?_
  refine r_dup (pc := 1572) dX6_init_1572 rfl ?_
  refine r_iconst (v := nI 3) (pc := 1573) dX6_init_1573 (by decide) ?_
  refine r_bipush (v := nI 107) (pc := 1574) dX6_init_1574 (by decide) ?_
  refine r_cast (pc := 1576) (j := 3) dX6_init_1576 n1 (n2 3 (by decide)) (by decide) (Nat.le_trans hb (Nat.le_add_right _ _)) ?_
  refine r_putFQ (pc := 1577) (x := some (o + 67)) dX6_init_1577 fl_X6_219 ff_X6_100 rfl rfl rfl (n3 (by decide)) hb ?_
  subst hN
  exact kk _ (h.arr (ws := [vp_nar .char (nI 98), vp_nar .char (nI 97), vp_nar .char (nI 99), vp_nar .char (nI 107)]) (by decide) (by decide) rfl rfl (by decide))
theorem sg_68 (hb : gb g ≤ o) (h : BM M0 M o 68 e f) (kk : ∀ M', BM M0 M' o 69 e f → Bd g yX6_init cX6_init 1 none [] d 3 3483 M' 1589 [some (.ref o)] [] Q X) : Bd g yX6_init cX6_init 1 none [] d 4 5183 M 1580 [some (.ref o)] [] Q X := by
  refine r_ald0 (pc := 1580) dX6_init_1580 ?_
  refine r_sipush (v := nI 1700) (pc := 1581) dX6_init_1581 (by decide) ?_
  refine r_newa (pc := 1584) (t := 1) (n := 1700) (kc' := 3) (ks' := 3483) dX6_init_1584 rfl ⟨by decide, by decide⟩ q425 (by omega) (by omega) (by omega) ?_
  rw [h.1]
  generalize hN : nw M 1 1700 = N
  obtain ⟨n1, n2, n3⟩ := h.fresh hN
  refine r_putFQ (pc := 1586) (x := some (o + 68)) dX6_init_1586 fl_X6_222 ff_X6_101 rfl rfl rfl (n3 (by decide)) hb ?_
  subst hN
  exact kk _ (h.arr (ws := []) (by decide) (by decide) rfl rfl (by decide))
theorem sg_69 (hb : gb g ≤ o) (h : BM M0 M o 69 e f) (kk : ∀ M', BM M0 M' o 70 e f → Bd g yX6_init cX6_init 1 none [] d 2 1783 M' 1598 [some (.ref o)] [] Q X) : Bd g yX6_init cX6_init 1 none [] d 3 3483 M 1589 [some (.ref o)] [] Q X := by
  refine r_ald0 (pc := 1589) dX6_init_1589 ?_
  refine r_sipush (v := nI 1700) (pc := 1590) dX6_init_1590 (by decide) ?_
  refine r_newa (pc := 1593) (t := 1) (n := 1700) (kc' := 2) (ks' := 1783) dX6_init_1593 rfl ⟨by decide, by decide⟩ q425 (by omega) (by omega) (by omega) ?_
  rw [h.1]
  generalize hN : nw M 1 1700 = N
  obtain ⟨n1, n2, n3⟩ := h.fresh hN
  refine r_putFQ (pc := 1595) (x := some (o + 69)) dX6_init_1595 fl_X6_225 ff_X6_103 rfl rfl rfl (n3 (by decide)) hb ?_
  subst hN
  exact kk _ (h.arr (ws := []) (by decide) (by decide) rfl rfl (by decide))
theorem sg_70 (hb : gb g ≤ o) (h : BM M0 M o 70 e f) (kk : ∀ M', BM M0 M' o 71 e f → Bd g yX6_init cX6_init 1 none [] d 1 83 M' 1607 [some (.ref o)] [] Q X) : Bd g yX6_init cX6_init 1 none [] d 2 1783 M 1598 [some (.ref o)] [] Q X := by
  refine r_ald0 (pc := 1598) dX6_init_1598 ?_
  refine r_sipush (v := nI 1700) (pc := 1599) dX6_init_1599 (by decide) ?_
  refine r_newa (pc := 1602) (t := 2) (n := 1700) (kc' := 1) (ks' := 83) dX6_init_1602 rfl ⟨by decide, by decide⟩ q373 (by omega) (by omega) (by omega) ?_
  rw [h.1]
  generalize hN : nw M 2 1700 = N
  obtain ⟨n1, n2, n3⟩ := h.fresh hN
  refine r_putFQ (pc := 1604) (x := some (o + 70)) dX6_init_1604 fl_X6_228 ff_X6_107 rfl rfl rfl (n3 (by decide)) hb ?_
  subst hN
  exact kk _ (h.arr (ws := []) (by decide) (by decide) rfl rfl (by decide))
theorem sg_71 (hb : gb g ≤ o) (h : BM M0 M o 71 e f) (kk : ∀ M', BM M0 M' o 72 e f → Bd g yX6_init cX6_init 1 none [] d 0 0 M' 1615 [some (.ref o)] [] Q X) : Bd g yX6_init cX6_init 1 none [] d 1 83 M 1607 [some (.ref o)] [] Q X := by
  refine r_ald0 (pc := 1607) dX6_init_1607 ?_
  refine r_bipush (v := nI 83) (pc := 1608) dX6_init_1608 (by decide) ?_
  refine r_newa (pc := 1610) (t := 1) (n := 83) (kc' := 0) (ks' := 0) dX6_init_1610 rfl ⟨by decide, by decide⟩ q425 (by omega) (by omega) (by omega) ?_
  rw [h.1]
  generalize hN : nw M 1 83 = N
  obtain ⟨n1, n2, n3⟩ := h.fresh hN
  refine r_putFQ (pc := 1612) (x := some (o + 71)) dX6_init_1612 fl_X6_231 ff_X6_111 rfl rfl rfl (n3 (by decide)) hb ?_
  subst hN
  exact kk _ (h.arr (ws := []) (by decide) (by decide) rfl rfl (by decide))
end X103
