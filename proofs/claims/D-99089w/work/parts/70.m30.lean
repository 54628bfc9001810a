set_option maxRecDepth 100000
/-! THE MODEL: numbers and names -/
section M30
variable {g : GC} {M : MM} {o : Nat} {s s' sB : MS} {M1 : MM} {q : Sg} {f : Nat → Nat} {n a : Nat}
def NZ (f : Nat → Nat) (n p : Nat) (r : Option Value) (s' : MS) : Pz (Nat × Nat) → Prop
  | .ok y => r = some (.int (nI y.1)) ∧ RP s' f n y.2 ∧ mF s' 10 = nI p
  | .error e => (∃ v, r = some (.int v)) ∧ BD s' e
theorem numEnd {lo hi p b v : Nat} {s1 : MS} (hS : ShM g M o) (hR : RD s1 f n b) (hb : mF s1 5 = nI 0) (hW : IW6 s1) (hf : Fr [2] [] [] [] s s1) (hlo : lo ≤ 10000) (hhi : hi ≤ 10000) (hv : v ≤ 10000) (hp : p ≤ n) (hpt : ptd f b = true) :
    Bd g yX6_number cX6_number 5 (some Jvm.ClassFile.FieldType.int) [] 1 0 0 (putM M o s1) 129 [some (.ref o), some (.int (nI lo)), some (.int (nI hi)), some (.int (nI p)), some (.int (nI v))] [] (QM M o (fun r s' => NZ f n p r s' (numR lo hi p (.ok (v, b))) ∧ Fr [2, 4, 5, 6, 10] [] [] [] s s')) noX := by
  have hn := hR.2.2.2.1
  have hRP : RP (tF (tF s1 4 (nI b)) 10 (nI p)) f n b := ⟨⟨hR.1, hR.2.1, hR.2.2.1, hR.2.2.2.1, hR.2.2.2.2⟩, hb, EN.here rfl hpt, hW⟩
  have hfr : Fr [2, 4, 5, 6, 10] [] [] [] s (tF (tF s1 4 (nI b)) 10 (nI p)) := Fr.tF (Fr.tF (hf.mono (by decide) (by decide) (by decide) (by decide)) (by decide)) (by decide)
  by_cases hr : lo ≤ v ∧ v ≤ hi
  · rw [show numR lo hi p (.ok (v, b)) = .ok (v, b) from if_pos hr]
    refine r_ald0 (pc := 129) dX6_number_129 ?_
    refine r_ald0 (pc := 130) dX6_number_130 ?_
    refine m_getI hS (pc := 131) dX6_number_131 fl_X6_243 ?_
    refine Bd.eqI hR.2.1 ?_
    refine m_putI hS (pc := 134) dX6_number_134 fl_X6_257 fw_X6_4 rfl rfl ?_
    refine r_ald0 (pc := 137) dX6_number_137 ?_
    refine r_ild3 (pc := 138) dX6_number_138 ?_
    refine m_putI hS (pc := 139) dX6_number_139 fl_X6_277 fw_X6_10 rfl rfl ?_
    refine r_ild4 (pc := 142) dX6_number_142 ?_
    first | refine r_i2lM (pc := 144) dX6_number_144 (by omega) ?_ | refine r_i2lI (pc := 144) dX6_number_144 (by constructor <;> omega) ?_ | refine r_i2lT (pc := 144) dX6_number_144 ?_
    refine r_ild1 (pc := 145) dX6_number_145 ?_
    first | refine r_i2lM (pc := 146) dX6_number_146 (by omega) ?_ | refine r_i2lI (pc := 146) dX6_number_146 (by constructor <;> omega) ?_ | refine r_i2lT (pc := 146) dX6_number_146 ?_
    refine r_ild2 (pc := 147) dX6_number_147 ?_
    first | refine r_i2lM (pc := 148) dX6_number_148 (by omega) ?_ | refine r_i2lI (pc := 148) dX6_number_148 (by constructor <;> omega) ?_ | refine r_i2lT (pc := 148) dX6_number_148 ?_
    refine r_cS (pc := 149) dX6_number_149 cs_X6_280 (ct_X6_isInI (by constructor <;> omega) (by constructor <;> omega) (by constructor <;> omega)) rfl rfl (Nat.le_of_ble_eq_true rfl) (by decide) ?_
    rintro _ _ ⟨rfl, rfl⟩
    first | refine r_if_neZ (pc := 152) (tgt := 161) dX6_number_152 (by decide) (fun h152 => ?_) (fun h152 => ?_) | refine r_if_neN (pc := 152) (tgt := 161) dX6_number_152 (by decide) (by omega) (fun h152 => ?_) (fun h152 => ?_) | refine r_if_ne (pc := 152) (tgt := 161) dX6_number_152 (by decide) (fun h152 => ?_) (fun h152 => ?_)
    · skip
      refine r_ild4 (pc := 161) dX6_number_161 ?_
      refine r_iret (pc := 163) dX6_number_163 ?_
      exact ⟨_, rfl, ⟨rfl, hRP, rfl⟩, hfr⟩
    · skip
      exact absurd (by omega) h152
  · rw [show numR lo hi p (.ok (v, b)) = .error (2, p) from if_neg hr]
    refine r_ald0 (pc := 129) dX6_number_129 ?_
    refine r_ald0 (pc := 130) dX6_number_130 ?_
    refine m_getI hS (pc := 131) dX6_number_131 fl_X6_243 ?_
    refine Bd.eqI hR.2.1 ?_
    refine m_putI hS (pc := 134) dX6_number_134 fl_X6_257 fw_X6_4 rfl rfl ?_
    refine r_ald0 (pc := 137) dX6_number_137 ?_
    refine r_ild3 (pc := 138) dX6_number_138 ?_
    refine m_putI hS (pc := 139) dX6_number_139 fl_X6_277 fw_X6_10 rfl rfl ?_
    refine r_ild4 (pc := 142) dX6_number_142 ?_
    first | refine r_i2lM (pc := 144) dX6_number_144 (by omega) ?_ | refine r_i2lI (pc := 144) dX6_number_144 (by constructor <;> omega) ?_ | refine r_i2lT (pc := 144) dX6_number_144 ?_
    refine r_ild1 (pc := 145) dX6_number_145 ?_
    first | refine r_i2lM (pc := 146) dX6_number_146 (by omega) ?_ | refine r_i2lI (pc := 146) dX6_number_146 (by constructor <;> omega) ?_ | refine r_i2lT (pc := 146) dX6_number_146 ?_
    refine r_ild2 (pc := 147) dX6_number_147 ?_
    first | refine r_i2lM (pc := 148) dX6_number_148 (by omega) ?_ | refine r_i2lI (pc := 148) dX6_number_148 (by constructor <;> omega) ?_ | refine r_i2lT (pc := 148) dX6_number_148 ?_
    refine r_cS (pc := 149) dX6_number_149 cs_X6_280 (ct_X6_isInI (by constructor <;> omega) (by constructor <;> omega) (by constructor <;> omega)) rfl rfl (Nat.le_of_ble_eq_true rfl) (by decide) ?_
    rintro _ _ ⟨rfl, rfl⟩
    first | refine r_if_neZ (pc := 152) (tgt := 161) dX6_number_152 (by decide) (fun h152 => ?_) (fun h152 => ?_) | refine r_if_neN (pc := 152) (tgt := 161) dX6_number_152 (by decide) (by omega) (fun h152 => ?_) (fun h152 => ?_) | refine r_if_ne (pc := 152) (tgt := 161) dX6_number_152 (by decide) (fun h152 => ?_) (fun h152 => ?_)
    · skip
      exact absurd (by omega) hr
    · skip
      refine r_ald0 (pc := 155) dX6_number_155 ?_
      refine r_iconst (v := nI 2) (pc := 156) dX6_number_156 (by decide) ?_
      refine r_ild3 (pc := 157) dX6_number_157 ?_
      refine r_cV (pc := 158) dX6_number_158 cv_X6_267 hS.k (ct_X6_failP hS hRP.2.1 (by decide) (by omega)) rfl rfl (Nat.le_of_ble_eq_true rfl) (by decide) ?_
      rintro _ _ ⟨s2, rfl, rfl, hB, hf2⟩
      refine r_ild4 (pc := 161) dX6_number_161 ?_
      refine r_iret (pc := 163) dX6_number_163 ?_
      exact ⟨_, rfl, ⟨⟨_, rfl⟩, hB⟩, hfr.trans (hf2.mono (by decide) (by decide) (by decide) (by decide))⟩
theorem numLoop {lo hi p : Nat} (hS : ShM g M o) (hlo : lo ≤ 10000) (hhi : hi ≤ 10000) :
    ∀ (k b v c : Nat) (s1 : MS), b + k = n → b = p + c → c ≤ 4 → v < 10 ^ c → (c = 0 → b < n ∧ dgt (f b) = true) → (0 < c → ptd f b = true) → RD s1 f n b → mF s1 5 = nI 0 → IW6 s1 → Fr [2] [] [] [] s s1 →
    Bd g yX6_number cX6_number 5 (some Jvm.ClassFile.FieldType.int) [] 1 0 0 (putM M o s1) 49 [some (.ref o), some (.int (nI lo)), some (.int (nI hi)), some (.int (nI p)), some (.int (nI v))] [] (QM M o (fun r s' => NZ f n p r s' (numR lo hi p (numL f k b v c)) ∧ Fr [2, 4, 5, 6, 10] [] [] [] s s')) noX := by
  intro k
  induction k with
  | zero =>
    intro b v c s1 hk hb hc hv h0 hpt hR hbad hW hf
    have hn := hR.2.2.2.1
    have hv2 : v < 10000 := Nat.lt_of_lt_of_le hv (Nat.pow_le_pow_right (by decide) hc)
    have hc0 : 0 < c := by rcases Nat.eq_zero_or_pos c with e | e; exact absurd (h0 e).1 (by omega); exact e
    refine r_ald0 (pc := 49) dX6_number_49 ?_
    refine m_getI hS (pc := 50) dX6_number_50 fl_X6_243 ?_
    refine Bd.eqI hR.2.1 ?_
    refine r_ald0 (pc := 53) dX6_number_53 ?_
    refine m_getI hS (pc := 54) dX6_number_54 fl_X6_246 ?_
    refine Bd.eqI hR.1 ?_
    first | refine r_icmp_geN (pc := 57) (tgt := 129) dX6_number_57 (by decide) (by omega) (by omega) (fun h57 => ?_) (fun h57 => ?_) | refine r_icmp_ge (pc := 57) (tgt := 129) dX6_number_57 (by decide) (fun h57 => ?_) (fun h57 => ?_)
    · skip
      exact numEnd hS hR hbad hW hf hlo hhi (by omega) (by omega) (hpt hc0)
    · skip
      exact absurd h57 (by omega)
  | succ k ih =>
    intro b v c s1 hk hb hc hv h0 hpt hR hbad hW hf
    have hn := hR.2.2.2.1
    have hv2 : v < 10000 := Nat.lt_of_lt_of_le hv (Nat.pow_le_pow_right (by decide) hc)
    have hfb := hR.2.2.2.2.2 b
    have hta := hR.2.2.2.2.1 b (by omega)
    unfold numL
    by_cases hd : dgt (f b) = true
    · rw [if_pos hd]
      have hd2 : 48 ≤ f b ∧ f b ≤ 57 := by unfold dgt at hd; simpa using hd
      by_cases hc4 : c = 4
      · rw [if_pos hc4]
        refine r_ald0 (pc := 49) dX6_number_49 ?_
        refine m_getI hS (pc := 50) dX6_number_50 fl_X6_243 ?_
        refine Bd.eqI hR.2.1 ?_
        refine r_ald0 (pc := 53) dX6_number_53 ?_
        refine m_getI hS (pc := 54) dX6_number_54 fl_X6_246 ?_
        refine Bd.eqI hR.1 ?_
        first | refine r_icmp_geN (pc := 57) (tgt := 129) dX6_number_57 (by decide) (by omega) (by omega) (fun h57 => ?_) (fun h57 => ?_) | refine r_icmp_ge (pc := 57) (tgt := 129) dX6_number_57 (by decide) (fun h57 => ?_) (fun h57 => ?_)
        · skip
          exact absurd h57 (by omega)
        · skip
          refine r_ald0 (pc := 60) dX6_number_60 ?_
          refine m_getR hS (pc := 61) dX6_number_61 fl_X6_7 ar0 ?_
          refine r_ald0 (pc := 64) dX6_number_64 ?_
          refine m_getI hS (pc := 65) dX6_number_65 fl_X6_243 ?_
          refine Bd.eqI hR.2.1 ?_
          refine m_iald hS (pc := 68) dX6_number_68 ar0 (by omega) (by omega) ?_
          refine Bd.eqI hta ?_
          refine r_cS (pc := 69) dX6_number_69 cs_X6_274 (ct_X6_isDigit hfb) rfl rfl (Nat.le_of_ble_eq_true rfl) (by decide) ?_
          rintro _ _ ⟨rfl, rfl⟩
          first | refine r_if_eqZ (pc := 72) (tgt := 129) dX6_number_72 (by decide) (fun h72 => ?_) (fun h72 => ?_) | refine r_if_eqN (pc := 72) (tgt := 129) dX6_number_72 (by decide) (by omega) (fun h72 => ?_) (fun h72 => ?_) | refine r_if_eq (pc := 72) (tgt := 129) dX6_number_72 (by decide) (fun h72 => ?_) (fun h72 => ?_)
          · skip
            exact absurd hd h72
          · skip
            refine r_ald0 (pc := 75) dX6_number_75 ?_
            refine m_getI hS (pc := 76) dX6_number_76 fl_X6_243 ?_
            refine Bd.eqI hR.2.1 ?_
            refine r_ild3 (pc := 79) dX6_number_79 ?_
            first | refine r_isubN (pc := 80) dX6_number_80 (by omega) ?_ | refine r_isubM (pc := 80) dX6_number_80 ?_ | refine r_isubJ (pc := 80) dX6_number_80 ?_ | refine r_isub (pc := 80) dX6_number_80 ?_
            refine r_iconst (v := nI 4) (pc := 81) dX6_number_81 (by decide) ?_
            first | refine r_icmp_neN (pc := 82) (tgt := 96) dX6_number_82 (by decide) (by omega) (by omega) (fun h82 => ?_) (fun h82 => ?_) | refine r_icmp_ne (pc := 82) (tgt := 96) dX6_number_82 (by decide) (fun h82 => ?_) (fun h82 => ?_)
            · skip
              exact absurd (by omega) h82
            · skip
              refine r_ald0 (pc := 85) dX6_number_85 ?_
              refine r_iconst (v := nI 1) (pc := 86) dX6_number_86 (by decide) ?_
              refine r_ald0 (pc := 87) dX6_number_87 ?_
              refine m_getI hS (pc := 88) dX6_number_88 fl_X6_243 ?_
              refine Bd.eqI hR.2.1 ?_
              refine r_cV (pc := 91) dX6_number_91 cv_X6_267 hS.k (ct_X6_failP hS hbad (by decide) (by omega)) rfl rfl (Nat.le_of_ble_eq_true rfl) (by decide) ?_
              rintro _ _ ⟨s2, rfl, rfl, hB, hf2⟩
              refine r_iconst (v := nI 0) (pc := 94) dX6_number_94 (by decide) ?_
              refine r_iret (pc := 95) dX6_number_95 ?_
              exact ⟨_, rfl, ⟨⟨_, rfl⟩, hB⟩, (hf.mono (by decide) (by decide) (by decide) (by decide)).trans (hf2.mono (by decide) (by decide) (by decide) (by decide))⟩
      · rw [if_neg hc4]
        have hR2 : RD (tF s1 2 (nI (b + 1))) f n (b + 1) := ⟨hR.1, rfl, by omega, hn, hR.2.2.2.2⟩
        have hih := ih (b + 1) (10 * v + (f b - 48)) (c + 1) _ (by omega) (by omega) (by omega) (by rw [Nat.pow_succ]; omega) (fun q => by omega) (fun _ => ptd_dgt hd) hR2 hbad hW (Fr.tF hf (by decide))
        refine r_ald0 (pc := 49) dX6_number_49 ?_
        refine m_getI hS (pc := 50) dX6_number_50 fl_X6_243 ?_
        refine Bd.eqI hR.2.1 ?_
        refine r_ald0 (pc := 53) dX6_number_53 ?_
        refine m_getI hS (pc := 54) dX6_number_54 fl_X6_246 ?_
        refine Bd.eqI hR.1 ?_
        first | refine r_icmp_geN (pc := 57) (tgt := 129) dX6_number_57 (by decide) (by omega) (by omega) (fun h57 => ?_) (fun h57 => ?_) | refine r_icmp_ge (pc := 57) (tgt := 129) dX6_number_57 (by decide) (fun h57 => ?_) (fun h57 => ?_)
        · skip
          exact absurd h57 (by omega)
        · skip
          refine r_ald0 (pc := 60) dX6_number_60 ?_
          refine m_getR hS (pc := 61) dX6_number_61 fl_X6_7 ar0 ?_
          refine r_ald0 (pc := 64) dX6_number_64 ?_
          refine m_getI hS (pc := 65) dX6_number_65 fl_X6_243 ?_
          refine Bd.eqI hR.2.1 ?_
          refine m_iald hS (pc := 68) dX6_number_68 ar0 (by omega) (by omega) ?_
          refine Bd.eqI hta ?_
          refine r_cS (pc := 69) dX6_number_69 cs_X6_274 (ct_X6_isDigit hfb) rfl rfl (Nat.le_of_ble_eq_true rfl) (by decide) ?_
          rintro _ _ ⟨rfl, rfl⟩
          first | refine r_if_eqZ (pc := 72) (tgt := 129) dX6_number_72 (by decide) (fun h72 => ?_) (fun h72 => ?_) | refine r_if_eqN (pc := 72) (tgt := 129) dX6_number_72 (by decide) (by omega) (fun h72 => ?_) (fun h72 => ?_) | refine r_if_eq (pc := 72) (tgt := 129) dX6_number_72 (by decide) (fun h72 => ?_) (fun h72 => ?_)
          · skip
            exact absurd hd h72
          · skip
            refine r_ald0 (pc := 75) dX6_number_75 ?_
            refine m_getI hS (pc := 76) dX6_number_76 fl_X6_243 ?_
            refine Bd.eqI hR.2.1 ?_
            refine r_ild3 (pc := 79) dX6_number_79 ?_
            first | refine r_isubN (pc := 80) dX6_number_80 (by omega) ?_ | refine r_isubM (pc := 80) dX6_number_80 ?_ | refine r_isubJ (pc := 80) dX6_number_80 ?_ | refine r_isub (pc := 80) dX6_number_80 ?_
            refine r_iconst (v := nI 4) (pc := 81) dX6_number_81 (by decide) ?_
            first | refine r_icmp_neN (pc := 82) (tgt := 96) dX6_number_82 (by decide) (by omega) (by omega) (fun h82 => ?_) (fun h82 => ?_) | refine r_icmp_ne (pc := 82) (tgt := 96) dX6_number_82 (by decide) (fun h82 => ?_) (fun h82 => ?_)
            · skip
              refine r_bipush (v := nI 10) (pc := 96) dX6_number_96 (by decide) ?_
              refine r_ild4 (pc := 98) dX6_number_98 ?_
              first | refine r_imulN (pc := 100) dX6_number_100 ?_ | refine r_imulJ (pc := 100) dX6_number_100 ?_ | refine r_imul (pc := 100) dX6_number_100 ?_
              refine r_ald0 (pc := 101) dX6_number_101 ?_
              refine m_getR hS (pc := 102) dX6_number_102 fl_X6_7 ar0 ?_
              refine r_ald0 (pc := 105) dX6_number_105 ?_
              refine m_getI hS (pc := 106) dX6_number_106 fl_X6_243 ?_
              refine Bd.eqI hR.2.1 ?_
              refine m_iald hS (pc := 109) dX6_number_109 ar0 (by omega) (by omega) ?_
              refine Bd.eqI hta ?_
              first | refine r_iaddN (pc := 110) dX6_number_110 ?_ | refine r_iaddJ (pc := 110) dX6_number_110 ?_ | refine r_iadd (pc := 110) dX6_number_110 ?_
              refine r_bipush (v := nI 48) (pc := 111) dX6_number_111 (by decide) ?_
              refine r_isubN (pc := 113) dX6_number_113 (by omega) ?_
              rw [show 10 * v + f b - 48 = 10 * v + (f b - 48) by omega]
              refine r_ist4 (pc := 114) dX6_number_114 ?_
              refine r_ald0 (pc := 116) dX6_number_116 ?_
              refine r_dup (pc := 117) dX6_number_117 rfl ?_
              refine m_getI hS (pc := 118) dX6_number_118 fl_X6_243 ?_
              refine Bd.eqI hR.2.1 ?_
              refine r_iconst (v := nI 1) (pc := 121) dX6_number_121 (by decide) ?_
              first | refine r_iaddN (pc := 122) dX6_number_122 ?_ | refine r_iaddJ (pc := 122) dX6_number_122 ?_ | refine r_iadd (pc := 122) dX6_number_122 ?_
              refine m_putI hS (pc := 123) dX6_number_123 fl_X6_243 fw_X6_2 rfl rfl ?_
              refine r_goto (pc := 126) (tgt := 49) dX6_number_126 (by decide) ?_
              exact hih
            · skip
              exact absurd h82 (by omega)
    · rw [if_neg hd]
      have hc0 : 0 < c := by rcases Nat.eq_zero_or_pos c with e | e; exact absurd (h0 e).2 hd; exact e
      refine r_ald0 (pc := 49) dX6_number_49 ?_
      refine m_getI hS (pc := 50) dX6_number_50 fl_X6_243 ?_
      refine Bd.eqI hR.2.1 ?_
      refine r_ald0 (pc := 53) dX6_number_53 ?_
      refine m_getI hS (pc := 54) dX6_number_54 fl_X6_246 ?_
      refine Bd.eqI hR.1 ?_
      first | refine r_icmp_geN (pc := 57) (tgt := 129) dX6_number_57 (by decide) (by omega) (by omega) (fun h57 => ?_) (fun h57 => ?_) | refine r_icmp_ge (pc := 57) (tgt := 129) dX6_number_57 (by decide) (fun h57 => ?_) (fun h57 => ?_)
      · skip
        exact absurd h57 (by omega)
      · skip
        refine r_ald0 (pc := 60) dX6_number_60 ?_
        refine m_getR hS (pc := 61) dX6_number_61 fl_X6_7 ar0 ?_
        refine r_ald0 (pc := 64) dX6_number_64 ?_
        refine m_getI hS (pc := 65) dX6_number_65 fl_X6_243 ?_
        refine Bd.eqI hR.2.1 ?_
        refine m_iald hS (pc := 68) dX6_number_68 ar0 (by omega) (by omega) ?_
        refine Bd.eqI hta ?_
        refine r_cS (pc := 69) dX6_number_69 cs_X6_274 (ct_X6_isDigit hfb) rfl rfl (Nat.le_of_ble_eq_true rfl) (by decide) ?_
        rintro _ _ ⟨rfl, rfl⟩
        first | refine r_if_eqZ (pc := 72) (tgt := 129) dX6_number_72 (by decide) (fun h72 => ?_) (fun h72 => ?_) | refine r_if_eqN (pc := 72) (tgt := 129) dX6_number_72 (by decide) (by omega) (fun h72 => ?_) (fun h72 => ?_) | refine r_if_eq (pc := 72) (tgt := 129) dX6_number_72 (by decide) (fun h72 => ?_) (fun h72 => ?_)
        · skip
          exact numEnd hS hR hbad hW hf hlo hhi (by omega) (by omega) (hpt hc0)
        · skip
          exact absurd h72 hd
theorem ct_X6_number {lo hi : Nat} (hS : ShM g M o) (hR : RP s f n a) (hlo : lo ≤ 10000) (hhi : hi ≤ 10000) :
    Ct g yX6_number cX6_number 5 (some Jvm.ClassFile.FieldType.int) 1 0 0 [.ref o, .int (nI lo), .int (nI hi)] (putM M o s) (QM M o (fun r s' => NZ f n (skip f n a) r s' (numP f n lo hi (skip f n a)) ∧ Fr [2, 4, 5, 6, 10] [] [] [] s s')) noX := by
  have hn := hR.1.2.2.2.1
  have hsl := skip_le (f := f) hR.1.2.2.1
  refine Ct.of (by decide) (Nat.le_of_ble_eq_true rfl) rfl ?_
  unfold numP
  by_cases hc : skip f n a < n ∧ dgt (f (skip f n a)) = true
  · by_cases hp : ptd f (skip f n a) = true
    · rw [if_neg (fun q => by rw [hp] at q; cases q.2.2)]
      refine r_ald0 (pc := 0) dX6_number_0 ?_
      refine m_getI hS (pc := 1) dX6_number_1 fl_X6_237 ?_
      refine Bd.eqI hR.2.1 ?_
      first | refine r_if_eqZ (pc := 4) (tgt := 9) dX6_number_4 (by decide) (fun h4 => ?_) (fun h4 => ?_) | refine r_if_eqN (pc := 4) (tgt := 9) dX6_number_4 (by decide) (by omega) (fun h4 => ?_) (fun h4 => ?_) | refine r_if_eq (pc := 4) (tgt := 9) dX6_number_4 (by decide) (fun h4 => ?_) (fun h4 => ?_)
      · skip
        refine r_ald0 (pc := 9) dX6_number_9 ?_
        refine r_cV (pc := 10) dX6_number_10 cv_X6_249 hS.k (ct_X6_lookP hS hR) rfl rfl (Nat.le_of_ble_eq_true rfl) (by decide) ?_
        rintro _ _ ⟨s1, rfl, rfl, hR1, hf1⟩
        refine r_cS (pc := 13) dX6_number_13 cs_X6_274 (ct_X6_isDigitO (fun c hc => (lookO_lt hR hc).1)) rfl rfl (Nat.le_of_ble_eq_true rfl) (by decide) ?_
        rintro _ _ ⟨rfl, rfl⟩
        first | refine r_if_eqZ (pc := 16) (tgt := 30) dX6_number_16 (by decide) (fun h16 => ?_) (fun h16 => ?_) | refine r_if_eqN (pc := 16) (tgt := 30) dX6_number_16 (by decide) (by omega) (fun h16 => ?_) (fun h16 => ?_) | refine r_if_eq (pc := 16) (tgt := 30) dX6_number_16 (by decide) (fun h16 => ?_) (fun h16 => ?_)
        · skip
          exact absurd (lookO_dgt.mpr hc) h16
        · skip
          refine r_ald0 (pc := 19) dX6_number_19 ?_
          refine m_getI hS (pc := 20) dX6_number_20 fl_X6_243 ?_
          refine Bd.eqI hR1.1.2.1 ?_
          refine r_ald0 (pc := 23) dX6_number_23 ?_
          refine m_getI hS (pc := 24) dX6_number_24 fl_X6_257 ?_
          first | refine r_icmp_neN (pc := 27) (tgt := 41) dX6_number_27 (by decide) (by omega) (by omega) (fun h27 => ?_) (fun h27 => ?_) | refine r_icmp_ne (pc := 27) (tgt := 41) dX6_number_27 (by decide) (fun h27 => ?_) (fun h27 => ?_)
          · skip
            exact absurd ((hR1.2.2.1.cmp (by omega)).mpr hp) h27
          · skip
            refine r_ald0 (pc := 30) dX6_number_30 ?_
            refine r_iconst (v := nI 1) (pc := 31) dX6_number_31 (by decide) ?_
            refine r_ald0 (pc := 32) dX6_number_32 ?_
            refine m_getI hS (pc := 33) dX6_number_33 fl_X6_243 ?_
            refine Bd.eqI hR1.1.2.1 ?_
            refine r_cV (pc := 36) dX6_number_36 cv_X6_267 hS.k (ct_X6_failP hS hR1.2.1 (by decide) (by omega)) rfl rfl (Nat.le_of_ble_eq_true rfl) (by decide) ?_
            rintro _ _ ⟨s2, rfl, rfl, hB, hf2⟩
            refine r_iconst (v := nI 0) (pc := 39) dX6_number_39 (by decide) ?_
            refine r_iret (pc := 40) dX6_number_40 ?_
            exact ⟨_, rfl, ⟨⟨_, rfl⟩, hB⟩, (hf1.mono (by decide) (by decide) (by decide) (by decide)).trans (hf2.mono (by decide) (by decide) (by decide) (by decide))⟩
      · skip
        exact absurd rfl h4
    · have hp2 : ptd f (skip f n a) = false := by simpa using hp
      rw [if_pos ⟨hc.1, hc.2, hp2⟩]
      refine r_ald0 (pc := 0) dX6_number_0 ?_
      refine m_getI hS (pc := 1) dX6_number_1 fl_X6_237 ?_
      refine Bd.eqI hR.2.1 ?_
      first | refine r_if_eqZ (pc := 4) (tgt := 9) dX6_number_4 (by decide) (fun h4 => ?_) (fun h4 => ?_) | refine r_if_eqN (pc := 4) (tgt := 9) dX6_number_4 (by decide) (by omega) (fun h4 => ?_) (fun h4 => ?_) | refine r_if_eq (pc := 4) (tgt := 9) dX6_number_4 (by decide) (fun h4 => ?_) (fun h4 => ?_)
      · skip
        refine r_ald0 (pc := 9) dX6_number_9 ?_
        refine r_cV (pc := 10) dX6_number_10 cv_X6_249 hS.k (ct_X6_lookP hS hR) rfl rfl (Nat.le_of_ble_eq_true rfl) (by decide) ?_
        rintro _ _ ⟨s1, rfl, rfl, hR1, hf1⟩
        refine r_cS (pc := 13) dX6_number_13 cs_X6_274 (ct_X6_isDigitO (fun c hc => (lookO_lt hR hc).1)) rfl rfl (Nat.le_of_ble_eq_true rfl) (by decide) ?_
        rintro _ _ ⟨rfl, rfl⟩
        first | refine r_if_eqZ (pc := 16) (tgt := 30) dX6_number_16 (by decide) (fun h16 => ?_) (fun h16 => ?_) | refine r_if_eqN (pc := 16) (tgt := 30) dX6_number_16 (by decide) (by omega) (fun h16 => ?_) (fun h16 => ?_) | refine r_if_eq (pc := 16) (tgt := 30) dX6_number_16 (by decide) (fun h16 => ?_) (fun h16 => ?_)
        · skip
          exact absurd (lookO_dgt.mpr hc) h16
        · skip
          refine r_ald0 (pc := 19) dX6_number_19 ?_
          refine m_getI hS (pc := 20) dX6_number_20 fl_X6_243 ?_
          refine Bd.eqI hR1.1.2.1 ?_
          refine r_ald0 (pc := 23) dX6_number_23 ?_
          refine m_getI hS (pc := 24) dX6_number_24 fl_X6_257 ?_
          first | refine r_icmp_neN (pc := 27) (tgt := 41) dX6_number_27 (by decide) (by omega) (by omega) (fun h27 => ?_) (fun h27 => ?_) | refine r_icmp_ne (pc := 27) (tgt := 41) dX6_number_27 (by decide) (fun h27 => ?_) (fun h27 => ?_)
          · skip
            refine r_ald0 (pc := 41) dX6_number_41 ?_
            refine m_getI hS (pc := 42) dX6_number_42 fl_X6_243 ?_
            refine Bd.eqI hR1.1.2.1 ?_
            refine r_ist3 (pc := 45) dX6_number_45 ?_
            refine r_iconst (v := nI 0) (pc := 46) dX6_number_46 (by decide) ?_
            refine r_ist4 (pc := 47) dX6_number_47 ?_
            exact numLoop hS hlo hhi (n - skip f n a) (skip f n a) 0 0 s1 (by omega) rfl (by decide) (by decide) (fun _ => hc) (fun q => absurd q (by decide)) hR1.1 hR1.2.1 hR1.2.2.2 hf1
          · skip
            exact absurd ((hR1.2.2.1.cmp (by omega)).mp h27) hp
      · skip
        exact absurd rfl h4
  · rw [if_neg (fun q => hc ⟨q.1, q.2.1⟩)]
    refine r_ald0 (pc := 0) dX6_number_0 ?_
    refine m_getI hS (pc := 1) dX6_number_1 fl_X6_237 ?_
    refine Bd.eqI hR.2.1 ?_
    first | refine r_if_eqZ (pc := 4) (tgt := 9) dX6_number_4 (by decide) (fun h4 => ?_) (fun h4 => ?_) | refine r_if_eqN (pc := 4) (tgt := 9) dX6_number_4 (by decide) (by omega) (fun h4 => ?_) (fun h4 => ?_) | refine r_if_eq (pc := 4) (tgt := 9) dX6_number_4 (by decide) (fun h4 => ?_) (fun h4 => ?_)
    · skip
      refine r_ald0 (pc := 9) dX6_number_9 ?_
      refine r_cV (pc := 10) dX6_number_10 cv_X6_249 hS.k (ct_X6_lookP hS hR) rfl rfl (Nat.le_of_ble_eq_true rfl) (by decide) ?_
      rintro _ _ ⟨s1, rfl, rfl, hR1, hf1⟩
      refine r_cS (pc := 13) dX6_number_13 cs_X6_274 (ct_X6_isDigitO (fun c hc => (lookO_lt hR hc).1)) rfl rfl (Nat.le_of_ble_eq_true rfl) (by decide) ?_
      rintro _ _ ⟨rfl, rfl⟩
      first | refine r_if_eqZ (pc := 16) (tgt := 30) dX6_number_16 (by decide) (fun h16 => ?_) (fun h16 => ?_) | refine r_if_eqN (pc := 16) (tgt := 30) dX6_number_16 (by decide) (by omega) (fun h16 => ?_) (fun h16 => ?_) | refine r_if_eq (pc := 16) (tgt := 30) dX6_number_16 (by decide) (fun h16 => ?_) (fun h16 => ?_)
      · skip
        refine r_ald0 (pc := 30) dX6_number_30 ?_
        refine r_iconst (v := nI 1) (pc := 31) dX6_number_31 (by decide) ?_
        refine r_ald0 (pc := 32) dX6_number_32 ?_
        refine m_getI hS (pc := 33) dX6_number_33 fl_X6_243 ?_
        refine Bd.eqI hR1.1.2.1 ?_
        refine r_cV (pc := 36) dX6_number_36 cv_X6_267 hS.k (ct_X6_failP hS hR1.2.1 (by decide) (by omega)) rfl rfl (Nat.le_of_ble_eq_true rfl) (by decide) ?_
        rintro _ _ ⟨s2, rfl, rfl, hB, hf2⟩
        refine r_iconst (v := nI 0) (pc := 39) dX6_number_39 (by decide) ?_
        refine r_iret (pc := 40) dX6_number_40 ?_
        exact ⟨_, rfl, ⟨⟨_, rfl⟩, hB⟩, (hf1.mono (by decide) (by decide) (by decide) (by decide)).trans (hf2.mono (by decide) (by decide) (by decide) (by decide))⟩
      · skip
        exact absurd (lookO_dgt.mp h16) hc
    · skip
      exact absurd rfl h4
theorem ct_X6_numberB {lo hi : Int32} (hS : ShM g M o) (hb : mF s 5 ≠ nI 0) : Ct g yX6_number cX6_number 5 (some Jvm.ClassFile.FieldType.int) 1 0 0 [.ref o, .int lo, .int hi] (putM M o s) (PQ (putM M o s) (.int (nI 0))) noX := by
  refine Ct.of (by decide) (Nat.le_of_ble_eq_true rfl) rfl ?_
  refine r_ald0 (pc := 0) dX6_number_0 ?_
  refine m_getI hS (pc := 1) dX6_number_1 fl_X6_237 ?_
  refine r_if_eq (pc := 4) (tgt := 9) dX6_number_4 (by decide) (fun h4 => ?_) (fun h4 => ?_)
  · skip
    exact absurd h4 hb
  · skip
    refine r_iconst (v := nI 0) (pc := 7) dX6_number_7 (by decide) ?_
    refine r_iret (pc := 8) dX6_number_8 ?_
    exact ⟨rfl, rfl⟩
/-- one of the own words -/
def ownB (w : Option (List Nat)) : Bool := match w with
  | none => false
  | some w => decide (w ∈ ownW)
theorem ownB_no {w : Option (List Nat)} (h : ∀ v ∈ ownW, w ≠ some v) : ownB w = false := by
  cases w with
  | none => rfl
  | some w => exact decide_eq_false (fun q => h w q rfl)
theorem ownB_yes {w : Option (List Nat)} {v : List Nat} (h : w = some v) (hv : v ∈ ownW) : ownB w = true := by
  subst h; exact decide_eq_true hv
theorem own315 {w1 : Option Value} : Bd g yX6_isOwnHere cX6_isOwnHere 2 (some Jvm.ClassFile.FieldType.boolean) [] 2 0 0 M1 315 [some (.ref o), w1] [] (PQ M1 (.int (zI True))) noX := by
  refine r_iconst (v := nI 1) (pc := 315) dX6_isOwnHere_315 (by decide) ?_
  refine r_goto (pc := 316) (tgt := 320) dX6_isOwnHere_316 (by decide) ?_
  refine r_ist1 (pc := 320) dX6_isOwnHere_320 ?_
  refine r_ild1 (pc := 321) dX6_isOwnHere_321 ?_
  refine r_zret (pc := 322) dX6_isOwnHere_322 (by first | rfl | exact zI_nar | assumption) ?_
  exact ⟨rfl, rfl⟩
theorem own294 {w1 : Option Value} : Bd g yX6_isOwnHere cX6_isOwnHere 2 (some Jvm.ClassFile.FieldType.boolean) [] 2 0 0 M1 294 [some (.ref o), w1] [] (PQ M1 (.int (zI True))) noX := by
  refine r_iconst (v := nI 1) (pc := 294) dX6_isOwnHere_294 (by decide) ?_
  refine r_goto (pc := 295) (tgt := 299) dX6_isOwnHere_295 (by decide) ?_
  refine r_ist1 (pc := 299) dX6_isOwnHere_299 ?_
  refine r_ild1 (pc := 300) dX6_isOwnHere_300 ?_
  refine r_if_neN (pc := 301) (tgt := 315) dX6_isOwnHere_301 (by decide) (by omega) (fun h301 => ?_) (fun h301 => ?_)
  · skip
    exact own315
  · skip
    exact absurd h301 (by decide)
theorem own218 {w1 : Option Value} : Bd g yX6_isOwnHere cX6_isOwnHere 2 (some Jvm.ClassFile.FieldType.boolean) [] 2 0 0 M1 218 [some (.ref o), w1] [] (PQ M1 (.int (zI True))) noX := by
  refine r_iconst (v := nI 1) (pc := 218) dX6_isOwnHere_218 (by decide) ?_
  refine r_goto (pc := 219) (tgt := 223) dX6_isOwnHere_219 (by decide) ?_
  refine r_ist1 (pc := 223) dX6_isOwnHere_223 ?_
  refine r_ild1 (pc := 224) dX6_isOwnHere_224 ?_
  refine r_if_neN (pc := 225) (tgt := 294) dX6_isOwnHere_225 (by decide) (by omega) (fun h225 => ?_) (fun h225 => ?_)
  · skip
    exact own294
  · skip
    exact absurd h225 (by decide)
theorem own142 {w1 : Option Value} : Bd g yX6_isOwnHere cX6_isOwnHere 2 (some Jvm.ClassFile.FieldType.boolean) [] 2 0 0 M1 142 [some (.ref o), w1] [] (PQ M1 (.int (zI True))) noX := by
  refine r_iconst (v := nI 1) (pc := 142) dX6_isOwnHere_142 (by decide) ?_
  refine r_goto (pc := 143) (tgt := 147) dX6_isOwnHere_143 (by decide) ?_
  refine r_ist1 (pc := 147) dX6_isOwnHere_147 ?_
  refine r_ild1 (pc := 148) dX6_isOwnHere_148 ?_
  refine r_if_neN (pc := 149) (tgt := 218) dX6_isOwnHere_149 (by decide) (by omega) (fun h149 => ?_) (fun h149 => ?_)
  · skip
    exact own218
  · skip
    exact absurd h149 (by decide)
theorem own66 {w1 : Option Value} : Bd g yX6_isOwnHere cX6_isOwnHere 2 (some Jvm.ClassFile.FieldType.boolean) [] 2 0 0 M1 66 [some (.ref o), w1] [] (PQ M1 (.int (zI True))) noX := by
  refine r_iconst (v := nI 1) (pc := 66) dX6_isOwnHere_66 (by decide) ?_
  refine r_goto (pc := 67) (tgt := 71) dX6_isOwnHere_67 (by decide) ?_
  refine r_ist1 (pc := 71) dX6_isOwnHere_71 ?_
  refine r_ild1 (pc := 72) dX6_isOwnHere_72 ?_
  refine r_if_neN (pc := 73) (tgt := 142) dX6_isOwnHere_73 (by decide) (by omega) (fun h73 => ?_) (fun h73 => ?_)
  · skip
    exact own142
  · skip
    exact absurd h73 (by decide)
theorem ct_X6_isOwnHere {p : Nat} (hS : ShM g M o) (hR : RP s f n p) (hp : skip f n p = p) :
    Ct g yX6_isOwnHere cX6_isOwnHere 2 (some Jvm.ClassFile.FieldType.boolean) 2 0 0 [.ref o] (putM M o s) (QM M o (fun r s' => r = some (.int (zI (ownB (word f n p) = true))) ∧ RP s' f n p ∧ Fr [2] [] [] [] s s')) noX := by
  have key : ∀ {i c : Nat} {w : List Nat} {s1 : MS}, RP s1 f n p → AR i c 5 w.length → (i, w) ∈ wdT → Fr [2] [] [] [] s s1 → Ct g yX6_isHere cX6_isHere 4 (some Jvm.ClassFile.FieldType.boolean) 1 0 0 [.ref o, .ref (o + c)] (putM M o s1) (QM M o (fun r s' => r = some (.int (zI (word f n p = some w))) ∧ RP s' f n p ∧ Fr [2] [] [] [] s s')) noX := by
    intro i c w s1 h1 h2 h3 h4
    have := ct_X6_isHere hS h1 h2 h3
    rw [hp] at this
    refine Ct.post ?_ (fun _ _ h => h) this
    rintro _ _ ⟨s2, rfl, h5, h6, h7⟩
    exact ⟨s2, rfl, h5, h6, h4.trans h7⟩
  have yes : ∀ {v : List Nat} {s1 : MS} {r : Option Value} {M2 : MM}, word f n p = some v → v ∈ ownW → RP s1 f n p → Fr [2] [] [] [] s s1 → PQ (putM M o s1) (.int (zI True)) r M2 → QM M o (fun r s' => r = some (.int (zI (ownB (word f n p) = true))) ∧ RP s' f n p ∧ Fr [2] [] [] [] s s') r M2 := by
    rintro v s1 r M2 h1 h2 h3 h4 ⟨rfl, rfl⟩
    exact ⟨s1, rfl, by rw [zI_t (ownB_yes h1 h2)]; rfl, h3, h4⟩
  refine Ct.of (by decide) (Nat.le_of_ble_eq_true rfl) rfl ?_
  refine r_ald0 (pc := 0) dX6_isOwnHere_0 ?_
  refine r_ald0 (pc := 1) dX6_isOwnHere_1 ?_
  refine m_getR hS (pc := 2) dX6_isOwnHere_2 fl_X6_20 ar11 ?_
  refine r_cV (pc := 5) dX6_isOwnHere_5 cv_X6_260 hS.k (key hR ar11 (w := [116, 101, 114, 114, 97, 99, 101]) (by decide) Fr.rf) rfl rfl (Nat.le_of_ble_eq_true rfl) (by decide) ?_
  rintro _ _ ⟨s1, rfl, rfl, hR1, hf1⟩
  first | refine r_if_neZ (pc := 8) (tgt := 66) dX6_isOwnHere_8 (by decide) (fun h8 => ?_) (fun h8 => ?_) | refine r_if_neN (pc := 8) (tgt := 66) dX6_isOwnHere_8 (by decide) (by omega) (fun h8 => ?_) (fun h8 => ?_) | refine r_if_ne (pc := 8) (tgt := 66) dX6_isOwnHere_8 (by decide) (fun h8 => ?_) (fun h8 => ?_)
  · skip
    exact Bd.post (fun _ _ q => yes h8 (by decide) hR1 hf1 q) (fun _ _ h => h) own66
  · skip
    refine r_ald0 (pc := 11) dX6_isOwnHere_11 ?_
    refine r_ald0 (pc := 12) dX6_isOwnHere_12 ?_
    refine m_getR hS (pc := 13) dX6_isOwnHere_13 fl_X6_24 ar12 ?_
    refine r_cV (pc := 16) dX6_isOwnHere_16 cv_X6_260 hS.k (key hR1 ar12 (w := [115, 111, 117, 108]) (by decide) hf1) rfl rfl (Nat.le_of_ble_eq_true rfl) (by decide) ?_
    rintro _ _ ⟨s2, rfl, rfl, hR2, hf2⟩
    first | refine r_if_neZ (pc := 19) (tgt := 66) dX6_isOwnHere_19 (by decide) (fun h19 => ?_) (fun h19 => ?_) | refine r_if_neN (pc := 19) (tgt := 66) dX6_isOwnHere_19 (by decide) (by omega) (fun h19 => ?_) (fun h19 => ?_) | refine r_if_ne (pc := 19) (tgt := 66) dX6_isOwnHere_19 (by decide) (fun h19 => ?_) (fun h19 => ?_)
    · skip
      exact Bd.post (fun _ _ q => yes h19 (by decide) hR2 hf2 q) (fun _ _ h => h) own66
    · skip
      refine r_ald0 (pc := 22) dX6_isOwnHere_22 ?_
      refine r_ald0 (pc := 23) dX6_isOwnHere_23 ?_
      refine m_getR hS (pc := 24) dX6_isOwnHere_24 fl_X6_27 ar13 ?_
      refine r_cV (pc := 27) dX6_isOwnHere_27 cv_X6_260 hS.k (key hR2 ar13 (w := [97, 116]) (by decide) hf2) rfl rfl (Nat.le_of_ble_eq_true rfl) (by decide) ?_
      rintro _ _ ⟨s3, rfl, rfl, hR3, hf3⟩
      first | refine r_if_neZ (pc := 30) (tgt := 66) dX6_isOwnHere_30 (by decide) (fun h30 => ?_) (fun h30 => ?_) | refine r_if_neN (pc := 30) (tgt := 66) dX6_isOwnHere_30 (by decide) (by omega) (fun h30 => ?_) (fun h30 => ?_) | refine r_if_ne (pc := 30) (tgt := 66) dX6_isOwnHere_30 (by decide) (fun h30 => ?_) (fun h30 => ?_)
      · skip
        exact Bd.post (fun _ _ q => yes h30 (by decide) hR3 hf3 q) (fun _ _ h => h) own66
      · skip
        refine r_ald0 (pc := 33) dX6_isOwnHere_33 ?_
        refine r_ald0 (pc := 34) dX6_isOwnHere_34 ?_
        refine m_getR hS (pc := 35) dX6_isOwnHere_35 fl_X6_30 ar14 ?_
        refine r_cV (pc := 38) dX6_isOwnHere_38 cv_X6_260 hS.k (key hR3 ar14 (w := [102, 97, 99, 101]) (by decide) hf3) rfl rfl (Nat.le_of_ble_eq_true rfl) (by decide) ?_
        rintro _ _ ⟨s4, rfl, rfl, hR4, hf4⟩
        first | refine r_if_neZ (pc := 41) (tgt := 66) dX6_isOwnHere_41 (by decide) (fun h41 => ?_) (fun h41 => ?_) | refine r_if_neN (pc := 41) (tgt := 66) dX6_isOwnHere_41 (by decide) (by omega) (fun h41 => ?_) (fun h41 => ?_) | refine r_if_ne (pc := 41) (tgt := 66) dX6_isOwnHere_41 (by decide) (fun h41 => ?_) (fun h41 => ?_)
        · skip
          exact Bd.post (fun _ _ q => yes h41 (by decide) hR4 hf4 q) (fun _ _ h => h) own66
        · skip
          refine r_ald0 (pc := 44) dX6_isOwnHere_44 ?_
          refine r_ald0 (pc := 45) dX6_isOwnHere_45 ?_
          refine m_getR hS (pc := 46) dX6_isOwnHere_46 fl_X6_33 ar15 ?_
          refine r_cV (pc := 49) dX6_isOwnHere_49 cv_X6_260 hS.k (key hR4 ar15 (w := [107, 105, 110, 100]) (by decide) hf4) rfl rfl (Nat.le_of_ble_eq_true rfl) (by decide) ?_
          rintro _ _ ⟨s5, rfl, rfl, hR5, hf5⟩
          first | refine r_if_neZ (pc := 52) (tgt := 66) dX6_isOwnHere_52 (by decide) (fun h52 => ?_) (fun h52 => ?_) | refine r_if_neN (pc := 52) (tgt := 66) dX6_isOwnHere_52 (by decide) (by omega) (fun h52 => ?_) (fun h52 => ?_) | refine r_if_ne (pc := 52) (tgt := 66) dX6_isOwnHere_52 (by decide) (fun h52 => ?_) (fun h52 => ?_)
          · skip
            exact Bd.post (fun _ _ q => yes h52 (by decide) hR5 hf5 q) (fun _ _ h => h) own66
          · skip
            refine r_ald0 (pc := 55) dX6_isOwnHere_55 ?_
            refine r_ald0 (pc := 56) dX6_isOwnHere_56 ?_
            refine m_getR hS (pc := 57) dX6_isOwnHere_57 fl_X6_36 ar16 ?_
            refine r_cV (pc := 60) dX6_isOwnHere_60 cv_X6_260 hS.k (key hR5 ar16 (w := [116, 104, 105, 110, 107, 115]) (by decide) hf5) rfl rfl (Nat.le_of_ble_eq_true rfl) (by decide) ?_
            rintro _ _ ⟨s6, rfl, rfl, hR6, hf6⟩
            first | refine r_if_eqZ (pc := 63) (tgt := 70) dX6_isOwnHere_63 (by decide) (fun h63 => ?_) (fun h63 => ?_) | refine r_if_eqN (pc := 63) (tgt := 70) dX6_isOwnHere_63 (by decide) (by omega) (fun h63 => ?_) (fun h63 => ?_) | refine r_if_eq (pc := 63) (tgt := 70) dX6_isOwnHere_63 (by decide) (fun h63 => ?_) (fun h63 => ?_)
            · skip
              refine r_iconst (v := nI 0) (pc := 70) dX6_isOwnHere_70 (by decide) ?_
              refine r_ist1 (pc := 71) dX6_isOwnHere_71 ?_
              refine r_ild1 (pc := 72) dX6_isOwnHere_72 ?_
              refine r_if_neN (pc := 73) (tgt := 142) dX6_isOwnHere_73 (by decide) (by omega) (fun h73 => ?_) (fun h73 => ?_)
              · skip
                exact absurd rfl h73
              · skip
                refine r_ald0 (pc := 76) dX6_isOwnHere_76 ?_
                refine r_ald0 (pc := 77) dX6_isOwnHere_77 ?_
                refine m_getR hS (pc := 78) dX6_isOwnHere_78 fl_X6_39 ar17 ?_
                refine r_cV (pc := 81) dX6_isOwnHere_81 cv_X6_260 hS.k (key hR6 ar17 (w := [111, 102]) (by decide) hf6) rfl rfl (Nat.le_of_ble_eq_true rfl) (by decide) ?_
                rintro _ _ ⟨s7, rfl, rfl, hR7, hf7⟩
                first | refine r_if_neZ (pc := 84) (tgt := 142) dX6_isOwnHere_84 (by decide) (fun h84 => ?_) (fun h84 => ?_) | refine r_if_neN (pc := 84) (tgt := 142) dX6_isOwnHere_84 (by decide) (by omega) (fun h84 => ?_) (fun h84 => ?_) | refine r_if_ne (pc := 84) (tgt := 142) dX6_isOwnHere_84 (by decide) (fun h84 => ?_) (fun h84 => ?_)
                · skip
                  exact Bd.post (fun _ _ q => yes h84 (by decide) hR7 hf7 q) (fun _ _ h => h) own142
                · skip
                  refine r_ald0 (pc := 87) dX6_isOwnHere_87 ?_
                  refine r_ald0 (pc := 88) dX6_isOwnHere_88 ?_
                  refine m_getR hS (pc := 89) dX6_isOwnHere_89 fl_X6_42 ar18 ?_
                  refine r_cV (pc := 92) dX6_isOwnHere_92 cv_X6_260 hS.k (key hR7 ar18 (w := [112, 97, 105, 110, 116, 115]) (by decide) hf7) rfl rfl (Nat.le_of_ble_eq_true rfl) (by decide) ?_
                  rintro _ _ ⟨s8, rfl, rfl, hR8, hf8⟩
                  first | refine r_if_neZ (pc := 95) (tgt := 142) dX6_isOwnHere_95 (by decide) (fun h95 => ?_) (fun h95 => ?_) | refine r_if_neN (pc := 95) (tgt := 142) dX6_isOwnHere_95 (by decide) (by omega) (fun h95 => ?_) (fun h95 => ?_) | refine r_if_ne (pc := 95) (tgt := 142) dX6_isOwnHere_95 (by decide) (fun h95 => ?_) (fun h95 => ?_)
                  · skip
                    exact Bd.post (fun _ _ q => yes h95 (by decide) hR8 hf8 q) (fun _ _ h => h) own142
                  · skip
                    refine r_ald0 (pc := 98) dX6_isOwnHere_98 ?_
                    refine r_ald0 (pc := 99) dX6_isOwnHere_99 ?_
                    refine m_getR hS (pc := 100) dX6_isOwnHere_100 fl_X6_45 ar19 ?_
                    refine r_cV (pc := 103) dX6_isOwnHere_103 cv_X6_260 hS.k (key hR8 ar19 (w := [109, 105, 110, 100, 115]) (by decide) hf8) rfl rfl (Nat.le_of_ble_eq_true rfl) (by decide) ?_
                    rintro _ _ ⟨s9, rfl, rfl, hR9, hf9⟩
                    first | refine r_if_neZ (pc := 106) (tgt := 142) dX6_isOwnHere_106 (by decide) (fun h106 => ?_) (fun h106 => ?_) | refine r_if_neN (pc := 106) (tgt := 142) dX6_isOwnHere_106 (by decide) (by omega) (fun h106 => ?_) (fun h106 => ?_) | refine r_if_ne (pc := 106) (tgt := 142) dX6_isOwnHere_106 (by decide) (fun h106 => ?_) (fun h106 => ?_)
                    · skip
                      exact Bd.post (fun _ _ q => yes h106 (by decide) hR9 hf9 q) (fun _ _ h => h) own142
                    · skip
                      refine r_ald0 (pc := 109) dX6_isOwnHere_109 ?_
                      refine r_ald0 (pc := 110) dX6_isOwnHere_110 ?_
                      refine m_getR hS (pc := 111) dX6_isOwnHere_111 fl_X6_48 ar20 ?_
                      refine r_cV (pc := 114) dX6_isOwnHere_114 cv_X6_260 hS.k (key hR9 ar20 (w := [102, 101, 117, 100]) (by decide) hf9) rfl rfl (Nat.le_of_ble_eq_true rfl) (by decide) ?_
                      rintro _ _ ⟨s10, rfl, rfl, hR10, hf10⟩
                      first | refine r_if_neZ (pc := 117) (tgt := 142) dX6_isOwnHere_117 (by decide) (fun h117 => ?_) (fun h117 => ?_) | refine r_if_neN (pc := 117) (tgt := 142) dX6_isOwnHere_117 (by decide) (by omega) (fun h117 => ?_) (fun h117 => ?_) | refine r_if_ne (pc := 117) (tgt := 142) dX6_isOwnHere_117 (by decide) (fun h117 => ?_) (fun h117 => ?_)
                      · skip
                        exact Bd.post (fun _ _ q => yes h117 (by decide) hR10 hf10 q) (fun _ _ h => h) own142
                      · skip
                        refine r_ald0 (pc := 120) dX6_isOwnHere_120 ?_
                        refine r_ald0 (pc := 121) dX6_isOwnHere_121 ?_
                        refine m_getR hS (pc := 122) dX6_isOwnHere_122 fl_X6_51 ar21 ?_
                        refine r_cV (pc := 125) dX6_isOwnHere_125 cv_X6_260 hS.k (key hR10 ar21 (w := [115, 108, 105, 112]) (by decide) hf10) rfl rfl (Nat.le_of_ble_eq_true rfl) (by decide) ?_
                        rintro _ _ ⟨s11, rfl, rfl, hR11, hf11⟩
                        first | refine r_if_neZ (pc := 128) (tgt := 142) dX6_isOwnHere_128 (by decide) (fun h128 => ?_) (fun h128 => ?_) | refine r_if_neN (pc := 128) (tgt := 142) dX6_isOwnHere_128 (by decide) (by omega) (fun h128 => ?_) (fun h128 => ?_) | refine r_if_ne (pc := 128) (tgt := 142) dX6_isOwnHere_128 (by decide) (fun h128 => ?_) (fun h128 => ?_)
                        · skip
                          exact Bd.post (fun _ _ q => yes h128 (by decide) hR11 hf11 q) (fun _ _ h => h) own142
                        · skip
                          refine r_ald0 (pc := 131) dX6_isOwnHere_131 ?_
                          refine r_ald0 (pc := 132) dX6_isOwnHere_132 ?_
                          refine m_getR hS (pc := 133) dX6_isOwnHere_133 fl_X6_54 ar22 ?_
                          refine r_cV (pc := 136) dX6_isOwnHere_136 cv_X6_260 hS.k (key hR11 ar22 (w := [108, 111, 111, 107]) (by decide) hf11) rfl rfl (Nat.le_of_ble_eq_true rfl) (by decide) ?_
                          rintro _ _ ⟨s12, rfl, rfl, hR12, hf12⟩
                          first | refine r_if_eqZ (pc := 139) (tgt := 146) dX6_isOwnHere_139 (by decide) (fun h139 => ?_) (fun h139 => ?_) | refine r_if_eqN (pc := 139) (tgt := 146) dX6_isOwnHere_139 (by decide) (by omega) (fun h139 => ?_) (fun h139 => ?_) | refine r_if_eq (pc := 139) (tgt := 146) dX6_isOwnHere_139 (by decide) (fun h139 => ?_) (fun h139 => ?_)
                          · skip
                            refine r_iconst (v := nI 0) (pc := 146) dX6_isOwnHere_146 (by decide) ?_
                            refine r_ist1 (pc := 147) dX6_isOwnHere_147 ?_
                            refine r_ild1 (pc := 148) dX6_isOwnHere_148 ?_
                            refine r_if_neN (pc := 149) (tgt := 218) dX6_isOwnHere_149 (by decide) (by omega) (fun h149 => ?_) (fun h149 => ?_)
                            · skip
                              exact absurd rfl h149
                            · skip
                              refine r_ald0 (pc := 152) dX6_isOwnHere_152 ?_
                              refine r_ald0 (pc := 153) dX6_isOwnHere_153 ?_
                              refine m_getR hS (pc := 154) dX6_isOwnHere_154 fl_X6_57 ar23 ?_
                              refine r_cV (pc := 157) dX6_isOwnHere_157 cv_X6_260 hS.k (key hR12 ar23 (w := [115, 105, 100, 101]) (by decide) hf12) rfl rfl (Nat.le_of_ble_eq_true rfl) (by decide) ?_
                              rintro _ _ ⟨s13, rfl, rfl, hR13, hf13⟩
                              first | refine r_if_neZ (pc := 160) (tgt := 218) dX6_isOwnHere_160 (by decide) (fun h160 => ?_) (fun h160 => ?_) | refine r_if_neN (pc := 160) (tgt := 218) dX6_isOwnHere_160 (by decide) (by omega) (fun h160 => ?_) (fun h160 => ?_) | refine r_if_ne (pc := 160) (tgt := 218) dX6_isOwnHere_160 (by decide) (fun h160 => ?_) (fun h160 => ?_)
                              · skip
                                exact Bd.post (fun _ _ q => yes h160 (by decide) hR13 hf13 q) (fun _ _ h => h) own218
                              · skip
                                refine r_ald0 (pc := 163) dX6_isOwnHere_163 ?_
                                refine r_ald0 (pc := 164) dX6_isOwnHere_164 ?_
                                refine m_getR hS (pc := 165) dX6_isOwnHere_165 fl_X6_60 ar24 ?_
                                refine r_cV (pc := 168) dX6_isOwnHere_168 cv_X6_260 hS.k (key hR13 ar24 (w := [103, 97, 105, 110]) (by decide) hf13) rfl rfl (Nat.le_of_ble_eq_true rfl) (by decide) ?_
                                rintro _ _ ⟨s14, rfl, rfl, hR14, hf14⟩
                                first | refine r_if_neZ (pc := 171) (tgt := 218) dX6_isOwnHere_171 (by decide) (fun h171 => ?_) (fun h171 => ?_) | refine r_if_neN (pc := 171) (tgt := 218) dX6_isOwnHere_171 (by decide) (by omega) (fun h171 => ?_) (fun h171 => ?_) | refine r_if_ne (pc := 171) (tgt := 218) dX6_isOwnHere_171 (by decide) (fun h171 => ?_) (fun h171 => ?_)
                                · skip
                                  exact Bd.post (fun _ _ q => yes h171 (by decide) hR14 hf14 q) (fun _ _ h => h) own218
                                · skip
                                  refine r_ald0 (pc := 174) dX6_isOwnHere_174 ?_
                                  refine r_ald0 (pc := 175) dX6_isOwnHere_175 ?_
                                  refine m_getR hS (pc := 176) dX6_isOwnHere_176 fl_X6_63 ar25 ?_
                                  refine r_cV (pc := 179) dX6_isOwnHere_179 cv_X6_260 hS.k (key hR14 ar25 (w := [98, 97, 99, 107]) (by decide) hf14) rfl rfl (Nat.le_of_ble_eq_true rfl) (by decide) ?_
                                  rintro _ _ ⟨s15, rfl, rfl, hR15, hf15⟩
                                  first | refine r_if_neZ (pc := 182) (tgt := 218) dX6_isOwnHere_182 (by decide) (fun h182 => ?_) (fun h182 => ?_) | refine r_if_neN (pc := 182) (tgt := 218) dX6_isOwnHere_182 (by decide) (by omega) (fun h182 => ?_) (fun h182 => ?_) | refine r_if_ne (pc := 182) (tgt := 218) dX6_isOwnHere_182 (by decide) (fun h182 => ?_) (fun h182 => ?_)
                                  · skip
                                    exact Bd.post (fun _ _ q => yes h182 (by decide) hR15 hf15 q) (fun _ _ h => h) own218
                                  · skip
                                    refine r_ald0 (pc := 185) dX6_isOwnHere_185 ?_
                                    refine r_ald0 (pc := 186) dX6_isOwnHere_186 ?_
                                    refine m_getR hS (pc := 187) dX6_isOwnHere_187 fl_X6_66 ar26 ?_
                                    refine r_cV (pc := 190) dX6_isOwnHere_190 cv_X6_260 hS.k (key hR15 ar26 (w := [121, 101, 97, 114]) (by decide) hf15) rfl rfl (Nat.le_of_ble_eq_true rfl) (by decide) ?_
                                    rintro _ _ ⟨s16, rfl, rfl, hR16, hf16⟩
                                    first | refine r_if_neZ (pc := 193) (tgt := 218) dX6_isOwnHere_193 (by decide) (fun h193 => ?_) (fun h193 => ?_) | refine r_if_neN (pc := 193) (tgt := 218) dX6_isOwnHere_193 (by decide) (by omega) (fun h193 => ?_) (fun h193 => ?_) | refine r_if_ne (pc := 193) (tgt := 218) dX6_isOwnHere_193 (by decide) (fun h193 => ?_) (fun h193 => ?_)
                                    · skip
                                      exact Bd.post (fun _ _ q => yes h193 (by decide) hR16 hf16 q) (fun _ _ h => h) own218
                                    · skip
                                      refine r_ald0 (pc := 196) dX6_isOwnHere_196 ?_
                                      refine r_ald0 (pc := 197) dX6_isOwnHere_197 ?_
                                      refine m_getR hS (pc := 198) dX6_isOwnHere_198 fl_X6_69 ar27 ?_
                                      refine r_cV (pc := 201) dX6_isOwnHere_201 cv_X6_260 hS.k (key hR16 ar27 (w := [110, 117, 109, 98, 101, 114]) (by decide) hf16) rfl rfl (Nat.le_of_ble_eq_true rfl) (by decide) ?_
                                      rintro _ _ ⟨s17, rfl, rfl, hR17, hf17⟩
                                      first | refine r_if_neZ (pc := 204) (tgt := 218) dX6_isOwnHere_204 (by decide) (fun h204 => ?_) (fun h204 => ?_) | refine r_if_neN (pc := 204) (tgt := 218) dX6_isOwnHere_204 (by decide) (by omega) (fun h204 => ?_) (fun h204 => ?_) | refine r_if_ne (pc := 204) (tgt := 218) dX6_isOwnHere_204 (by decide) (fun h204 => ?_) (fun h204 => ?_)
                                      · skip
                                        exact Bd.post (fun _ _ q => yes h204 (by decide) hR17 hf17 q) (fun _ _ h => h) own218
                                      · skip
                                        refine r_ald0 (pc := 207) dX6_isOwnHere_207 ?_
                                        refine r_ald0 (pc := 208) dX6_isOwnHere_208 ?_
                                        refine m_getR hS (pc := 209) dX6_isOwnHere_209 fl_X6_72 ar28 ?_
                                        refine r_cV (pc := 212) dX6_isOwnHere_212 cv_X6_260 hS.k (key hR17 ar28 (w := [104, 111, 117, 115, 101]) (by decide) hf17) rfl rfl (Nat.le_of_ble_eq_true rfl) (by decide) ?_
                                        rintro _ _ ⟨s18, rfl, rfl, hR18, hf18⟩
                                        first | refine r_if_eqZ (pc := 215) (tgt := 222) dX6_isOwnHere_215 (by decide) (fun h215 => ?_) (fun h215 => ?_) | refine r_if_eqN (pc := 215) (tgt := 222) dX6_isOwnHere_215 (by decide) (by omega) (fun h215 => ?_) (fun h215 => ?_) | refine r_if_eq (pc := 215) (tgt := 222) dX6_isOwnHere_215 (by decide) (fun h215 => ?_) (fun h215 => ?_)
                                        · skip
                                          refine r_iconst (v := nI 0) (pc := 222) dX6_isOwnHere_222 (by decide) ?_
                                          refine r_ist1 (pc := 223) dX6_isOwnHere_223 ?_
                                          refine r_ild1 (pc := 224) dX6_isOwnHere_224 ?_
                                          refine r_if_neN (pc := 225) (tgt := 294) dX6_isOwnHere_225 (by decide) (by omega) (fun h225 => ?_) (fun h225 => ?_)
                                          · skip
                                            exact absurd rfl h225
                                          · skip
                                            refine r_ald0 (pc := 228) dX6_isOwnHere_228 ?_
                                            refine r_ald0 (pc := 229) dX6_isOwnHere_229 ?_
                                            refine m_getR hS (pc := 230) dX6_isOwnHere_230 fl_X6_75 ar29 ?_
                                            refine r_cV (pc := 233) dX6_isOwnHere_233 cv_X6_260 hS.k (key hR18 ar29 (w := [115, 112, 97, 114, 101, 115]) (by decide) hf18) rfl rfl (Nat.le_of_ble_eq_true rfl) (by decide) ?_
                                            rintro _ _ ⟨s19, rfl, rfl, hR19, hf19⟩
                                            first | refine r_if_neZ (pc := 236) (tgt := 294) dX6_isOwnHere_236 (by decide) (fun h236 => ?_) (fun h236 => ?_) | refine r_if_neN (pc := 236) (tgt := 294) dX6_isOwnHere_236 (by decide) (by omega) (fun h236 => ?_) (fun h236 => ?_) | refine r_if_ne (pc := 236) (tgt := 294) dX6_isOwnHere_236 (by decide) (fun h236 => ?_) (fun h236 => ?_)
                                            · skip
                                              exact Bd.post (fun _ _ q => yes h236 (by decide) hR19 hf19 q) (fun _ _ h => h) own294
                                            · skip
                                              refine r_ald0 (pc := 239) dX6_isOwnHere_239 ?_
                                              refine r_ald0 (pc := 240) dX6_isOwnHere_240 ?_
                                              refine m_getR hS (pc := 241) dX6_isOwnHere_241 fl_X6_78 ar30 ?_
                                              refine r_cV (pc := 244) dX6_isOwnHere_244 cv_X6_260 hS.k (key hR19 ar30 (w := [111, 114]) (by decide) hf19) rfl rfl (Nat.le_of_ble_eq_true rfl) (by decide) ?_
                                              rintro _ _ ⟨s20, rfl, rfl, hR20, hf20⟩
                                              first | refine r_if_neZ (pc := 247) (tgt := 294) dX6_isOwnHere_247 (by decide) (fun h247 => ?_) (fun h247 => ?_) | refine r_if_neN (pc := 247) (tgt := 294) dX6_isOwnHere_247 (by decide) (by omega) (fun h247 => ?_) (fun h247 => ?_) | refine r_if_ne (pc := 247) (tgt := 294) dX6_isOwnHere_247 (by decide) (fun h247 => ?_) (fun h247 => ?_)
                                              · skip
                                                exact Bd.post (fun _ _ q => yes h247 (by decide) hR20 hf20 q) (fun _ _ h => h) own294
                                              · skip
                                                refine r_ald0 (pc := 250) dX6_isOwnHere_250 ?_
                                                refine r_ald0 (pc := 251) dX6_isOwnHere_251 ?_
                                                refine m_getR hS (pc := 252) dX6_isOwnHere_252 fl_X6_81 ar31 ?_
                                                refine r_cV (pc := 255) dX6_isOwnHere_255 cv_X6_260 hS.k (key hR20 ar31 (w := [97, 110, 100]) (by decide) hf20) rfl rfl (Nat.le_of_ble_eq_true rfl) (by decide) ?_
                                                rintro _ _ ⟨s21, rfl, rfl, hR21, hf21⟩
                                                first | refine r_if_neZ (pc := 258) (tgt := 294) dX6_isOwnHere_258 (by decide) (fun h258 => ?_) (fun h258 => ?_) | refine r_if_neN (pc := 258) (tgt := 294) dX6_isOwnHere_258 (by decide) (by omega) (fun h258 => ?_) (fun h258 => ?_) | refine r_if_ne (pc := 258) (tgt := 294) dX6_isOwnHere_258 (by decide) (fun h258 => ?_) (fun h258 => ?_)
                                                · skip
                                                  exact Bd.post (fun _ _ q => yes h258 (by decide) hR21 hf21 q) (fun _ _ h => h) own294
                                                · skip
                                                  refine r_ald0 (pc := 261) dX6_isOwnHere_261 ?_
                                                  refine r_ald0 (pc := 262) dX6_isOwnHere_262 ?_
                                                  refine m_getR hS (pc := 263) dX6_isOwnHere_263 fl_X6_84 ar32 ?_
                                                  refine r_cV (pc := 266) dX6_isOwnHere_266 cv_X6_260 hS.k (key hR21 ar32 (w := [110, 111, 116]) (by decide) hf21) rfl rfl (Nat.le_of_ble_eq_true rfl) (by decide) ?_
                                                  rintro _ _ ⟨s22, rfl, rfl, hR22, hf22⟩
                                                  first | refine r_if_neZ (pc := 269) (tgt := 294) dX6_isOwnHere_269 (by decide) (fun h269 => ?_) (fun h269 => ?_) | refine r_if_neN (pc := 269) (tgt := 294) dX6_isOwnHere_269 (by decide) (by omega) (fun h269 => ?_) (fun h269 => ?_) | refine r_if_ne (pc := 269) (tgt := 294) dX6_isOwnHere_269 (by decide) (fun h269 => ?_) (fun h269 => ?_)
                                                  · skip
                                                    exact Bd.post (fun _ _ q => yes h269 (by decide) hR22 hf22 q) (fun _ _ h => h) own294
                                                  · skip
                                                    refine r_ald0 (pc := 272) dX6_isOwnHere_272 ?_
                                                    refine r_ald0 (pc := 273) dX6_isOwnHere_273 ?_
                                                    refine m_getR hS (pc := 274) dX6_isOwnHere_274 fl_X6_87 ar33 ?_
                                                    refine r_cV (pc := 277) dX6_isOwnHere_277 cv_X6_260 hS.k (key hR22 ar33 (w := [97, 108, 108]) (by decide) hf22) rfl rfl (Nat.le_of_ble_eq_true rfl) (by decide) ?_
                                                    rintro _ _ ⟨s23, rfl, rfl, hR23, hf23⟩
                                                    first | refine r_if_neZ (pc := 280) (tgt := 294) dX6_isOwnHere_280 (by decide) (fun h280 => ?_) (fun h280 => ?_) | refine r_if_neN (pc := 280) (tgt := 294) dX6_isOwnHere_280 (by decide) (by omega) (fun h280 => ?_) (fun h280 => ?_) | refine r_if_ne (pc := 280) (tgt := 294) dX6_isOwnHere_280 (by decide) (fun h280 => ?_) (fun h280 => ?_)
                                                    · skip
                                                      exact Bd.post (fun _ _ q => yes h280 (by decide) hR23 hf23 q) (fun _ _ h => h) own294
                                                    · skip
                                                      refine r_ald0 (pc := 283) dX6_isOwnHere_283 ?_
                                                      refine r_ald0 (pc := 284) dX6_isOwnHere_284 ?_
                                                      refine m_getR hS (pc := 285) dX6_isOwnHere_285 fl_X6_90 ar34 ?_
                                                      refine r_cV (pc := 288) dX6_isOwnHere_288 cv_X6_260 hS.k (key hR23 ar34 (w := [109, 105, 110]) (by decide) hf23) rfl rfl (Nat.le_of_ble_eq_true rfl) (by decide) ?_
                                                      rintro _ _ ⟨s24, rfl, rfl, hR24, hf24⟩
                                                      first | refine r_if_eqZ (pc := 291) (tgt := 298) dX6_isOwnHere_291 (by decide) (fun h291 => ?_) (fun h291 => ?_) | refine r_if_eqN (pc := 291) (tgt := 298) dX6_isOwnHere_291 (by decide) (by omega) (fun h291 => ?_) (fun h291 => ?_) | refine r_if_eq (pc := 291) (tgt := 298) dX6_isOwnHere_291 (by decide) (fun h291 => ?_) (fun h291 => ?_)
                                                      · skip
                                                        refine r_iconst (v := nI 0) (pc := 298) dX6_isOwnHere_298 (by decide) ?_
                                                        refine r_ist1 (pc := 299) dX6_isOwnHere_299 ?_
                                                        refine r_ild1 (pc := 300) dX6_isOwnHere_300 ?_
                                                        refine r_if_neN (pc := 301) (tgt := 315) dX6_isOwnHere_301 (by decide) (by omega) (fun h301 => ?_) (fun h301 => ?_)
                                                        · skip
                                                          exact absurd rfl h301
                                                        · skip
                                                          refine r_ald0 (pc := 304) dX6_isOwnHere_304 ?_
                                                          refine r_ald0 (pc := 305) dX6_isOwnHere_305 ?_
                                                          refine m_getR hS (pc := 306) dX6_isOwnHere_306 fl_X6_93 ar35 ?_
                                                          refine r_cV (pc := 309) dX6_isOwnHere_309 cv_X6_260 hS.k (key hR24 ar35 (w := [109, 97, 120]) (by decide) hf24) rfl rfl (Nat.le_of_ble_eq_true rfl) (by decide) ?_
                                                          rintro _ _ ⟨s25, rfl, rfl, hR25, hf25⟩
                                                          first | refine r_if_eqZ (pc := 312) (tgt := 319) dX6_isOwnHere_312 (by decide) (fun h312 => ?_) (fun h312 => ?_) | refine r_if_eqN (pc := 312) (tgt := 319) dX6_isOwnHere_312 (by decide) (by omega) (fun h312 => ?_) (fun h312 => ?_) | refine r_if_eq (pc := 312) (tgt := 319) dX6_isOwnHere_312 (by decide) (fun h312 => ?_) (fun h312 => ?_)
                                                          · skip
                                                            refine r_iconst (v := nI 0) (pc := 319) dX6_isOwnHere_319 (by decide) ?_
                                                            refine r_ist1 (pc := 320) dX6_isOwnHere_320 ?_
                                                            refine r_ild1 (pc := 321) dX6_isOwnHere_321 ?_
                                                            refine r_zret (pc := 322) dX6_isOwnHere_322 (by first | rfl | exact zI_nar | assumption) ?_
                                                            refine ⟨_, rfl, ?_, hR25, hf25⟩
                                                            rw [zI_f (by rw [ownB_no (by unfold ownW; simp only [List.forall_mem_cons]; exact ⟨h8, h19, h30, h41, h52, h63, h84, h95, h106, h117, h128, h139, h160, h171, h182, h193, h204, h215, h236, h247, h258, h269, h280, h291, h312, fun v h => nomatch h⟩)]; simp)]; rfl
                                                          · skip
                                                            exact Bd.post (fun _ _ q => yes h312 (by decide) hR25 hf25 q) (fun _ _ h => h) own315
                                                      · skip
                                                        exact Bd.post (fun _ _ q => yes h291 (by decide) hR24 hf24 q) (fun _ _ h => h) own294
                                        · skip
                                          exact Bd.post (fun _ _ q => yes h215 (by decide) hR18 hf18 q) (fun _ _ h => h) own218
                          · skip
                            exact Bd.post (fun _ _ q => yes h139 (by decide) hR12 hf12 q) (fun _ _ h => h) own142
            · skip
              exact Bd.post (fun _ _ q => yes h63 (by decide) hR6 hf6 q) (fun _ _ h => h) own66
def NmZ (f : Nat → Nat) (n p : Nat) (r : Option Value) (s' : MS) : Pz (List Nat × Nat) → Prop
  | .ok y => r = some (.long (lI (nmV y.1 0))) ∧ RP s' f n y.2 ∧ mF s' 36 = nI p
  | .error e => r = some (.long (lI 0)) ∧ BD s' e
theorem nmV_lt {cs : List Nat} (h : ∀ c ∈ cs, 1 ≤ c ∧ c ≤ 26) : nmV cs 0 < 27 ^ cs.length := by
  have := nt_lt h cs.length (Nat.le_refl _)
  rw [nt_full] at this
  exact this
theorem nmLoop {p : Nat} (hS : ShM g M o) :
    ∀ (k b : Nat) (cs : List Nat) (s1 : MS), b + k = n → b = p + cs.length → cs.length ≤ 6 → (∀ c ∈ cs, 1 ≤ c ∧ c ≤ 26) → (cs = [] → b < n ∧ ltr (f b) = true) → (cs ≠ [] → ptd f b = true) → RD s1 f n b → mF s1 5 = nI 0 → IW6 s1 → mF s1 36 = nI p → Fr [2, 36] [] [] [] s s1 →
    Bd g yX6_name cX6_name 3 (some Jvm.ClassFile.FieldType.long) [] 3 0 0 (putM M o s1) 58 [some (.ref o), some (.long (lI (nmV cs 0))), none] [] (QM M o (fun r s' => NmZ f n p r s' (nmL f k b cs) ∧ Fr [2, 4, 5, 6, 36] [] [] [] s s')) noX := by
  intro k
  induction k with
  | zero =>
    intro b cs s1 hk hb hc hcs h0 hpt hR hbad hW hpl hf
    have hn := hR.2.2.2.1
    have hc0 : cs ≠ [] := fun e => absurd (h0 e).1 (by omega)
    refine r_ald0 (pc := 58) dX6_name_58 ?_
    refine m_getI hS (pc := 59) dX6_name_59 fl_X6_243 ?_
    refine Bd.eqI hR.2.1 ?_
    refine r_ald0 (pc := 62) dX6_name_62 ?_
    refine m_getI hS (pc := 63) dX6_name_63 fl_X6_246 ?_
    refine Bd.eqI hR.1 ?_
    first | refine r_icmp_geN (pc := 66) (tgt := 145) dX6_name_66 (by decide) (by omega) (by omega) (fun h66 => ?_) (fun h66 => ?_) | refine r_icmp_ge (pc := 66) (tgt := 145) dX6_name_66 (by decide) (fun h66 => ?_) (fun h66 => ?_)
    · skip
      refine r_ald0 (pc := 145) dX6_name_145 ?_
      refine r_ald0 (pc := 146) dX6_name_146 ?_
      refine m_getI hS (pc := 147) dX6_name_147 fl_X6_243 ?_
      refine Bd.eqI hR.2.1 ?_
      refine m_putI hS (pc := 150) dX6_name_150 fl_X6_257 fw_X6_4 rfl rfl ?_
      refine r_lld1 (pc := 153) dX6_name_153 ?_
      refine r_lret (pc := 154) dX6_name_154 ?_
      exact ⟨_, rfl, ⟨rfl, ⟨⟨hR.1, hR.2.1, hR.2.2.1, hR.2.2.2.1, hR.2.2.2.2⟩, hbad, EN.here rfl (hpt hc0), hW⟩, hpl⟩, Fr.tF (hf.mono (by decide) (by decide) (by decide) (by decide)) (by decide)⟩
    · skip
      exact absurd h66 (by omega)
  | succ k ih =>
    intro b cs s1 hk hb hc hcs h0 hpt hR hbad hW hpl hf
    have hn := hR.2.2.2.1
    have hfb := hR.2.2.2.2.2 b
    have hta := hR.2.2.2.2.1 b (by omega)
    unfold nmL
    by_cases hd : ltr (f b) = true
    · rw [if_pos hd]
      have hd2 : 97 ≤ f b ∧ f b ≤ 122 := by unfold ltr at hd; simpa using hd
      by_cases hc6 : cs.length = 6
      · rw [if_pos hc6]
        refine r_ald0 (pc := 58) dX6_name_58 ?_
        refine m_getI hS (pc := 59) dX6_name_59 fl_X6_243 ?_
        refine Bd.eqI hR.2.1 ?_
        refine r_ald0 (pc := 62) dX6_name_62 ?_
        refine m_getI hS (pc := 63) dX6_name_63 fl_X6_246 ?_
        refine Bd.eqI hR.1 ?_
        first | refine r_icmp_geN (pc := 66) (tgt := 145) dX6_name_66 (by decide) (by omega) (by omega) (fun h66 => ?_) (fun h66 => ?_) | refine r_icmp_ge (pc := 66) (tgt := 145) dX6_name_66 (by decide) (fun h66 => ?_) (fun h66 => ?_)
        · skip
          exact absurd h66 (by omega)
        · skip
          refine r_ald0 (pc := 69) dX6_name_69 ?_
          refine m_getR hS (pc := 70) dX6_name_70 fl_X6_7 ar0 ?_
          refine r_ald0 (pc := 73) dX6_name_73 ?_
          refine m_getI hS (pc := 74) dX6_name_74 fl_X6_243 ?_
          refine Bd.eqI hR.2.1 ?_
          refine m_iald hS (pc := 77) dX6_name_77 ar0 (by omega) (by omega) ?_
          refine Bd.eqI hta ?_
          refine r_cS (pc := 78) dX6_name_78 cs_X6_253 (ct_X6_isLetter hfb) rfl rfl (Nat.le_of_ble_eq_true rfl) (by decide) ?_
          rintro _ _ ⟨rfl, rfl⟩
          first | refine r_if_eqZ (pc := 81) (tgt := 145) dX6_name_81 (by decide) (fun h81 => ?_) (fun h81 => ?_) | refine r_if_eqN (pc := 81) (tgt := 145) dX6_name_81 (by decide) (by omega) (fun h81 => ?_) (fun h81 => ?_) | refine r_if_eq (pc := 81) (tgt := 145) dX6_name_81 (by decide) (fun h81 => ?_) (fun h81 => ?_)
          · skip
            exact absurd hd h81
          · skip
            refine r_ald0 (pc := 84) dX6_name_84 ?_
            refine m_getI hS (pc := 85) dX6_name_85 fl_X6_243 ?_
            refine Bd.eqI hR.2.1 ?_
            refine r_ald0 (pc := 88) dX6_name_88 ?_
            refine m_getI hS (pc := 89) dX6_name_89 fl_X6_288 ?_
            refine Bd.eqI hpl ?_
            first | refine r_isubN (pc := 92) dX6_name_92 (by omega) ?_ | refine r_isubM (pc := 92) dX6_name_92 ?_ | refine r_isubJ (pc := 92) dX6_name_92 ?_ | refine r_isub (pc := 92) dX6_name_92 ?_
            refine r_bipush (v := nI 6) (pc := 93) dX6_name_93 (by decide) ?_
            first | refine r_icmp_neN (pc := 95) (tgt := 109) dX6_name_95 (by decide) (by omega) (by omega) (fun h95 => ?_) (fun h95 => ?_) | refine r_icmp_ne (pc := 95) (tgt := 109) dX6_name_95 (by decide) (fun h95 => ?_) (fun h95 => ?_)
            · skip
              exact absurd (by omega) h95
            · skip
              refine r_ald0 (pc := 98) dX6_name_98 ?_
              refine r_iconst (v := nI 1) (pc := 99) dX6_name_99 (by decide) ?_
              refine r_ald0 (pc := 100) dX6_name_100 ?_
              refine m_getI hS (pc := 101) dX6_name_101 fl_X6_243 ?_
              refine Bd.eqI hR.2.1 ?_
              refine r_cV (pc := 104) dX6_name_104 cv_X6_267 hS.k (ct_X6_failP hS hbad (by decide) (by omega)) rfl rfl (Nat.le_of_ble_eq_true rfl) (by decide) ?_
              rintro _ _ ⟨s2, rfl, rfl, hB, hf2⟩
              refine r_lconst (v := lI 0) (pc := 107) dX6_name_107 rfl ?_
              refine r_lret (pc := 108) dX6_name_108 ?_
              exact ⟨_, rfl, ⟨rfl, hB⟩, (hf.mono (by decide) (by decide) (by decide) (by decide)).trans (hf2.mono (by decide) (by decide) (by decide) (by decide))⟩
      · rw [if_neg hc6]
        have hlt := nmV_lt hcs
        have hp6 : 27 ^ cs.length ≤ 387420489 := pow27 cs.length (by omega)
        have hR2 : RD (tF s1 2 (nI (b + 1))) f n (b + 1) := ⟨hR.1, rfl, by omega, hn, hR.2.2.2.2⟩
        have hih := ih (b + 1) (cs ++ [f b - 96]) _ (by omega) (by rw [List.length_append]; show b + 1 = p + (cs.length + 1); omega) (by rw [List.length_append]; show cs.length + 1 ≤ 6; omega) (fun c hc => by rcases List.mem_append.mp hc with h | h; exact hcs c h; (have := List.mem_singleton.mp h); omega) (fun q => by simp at q) (fun _ => ptd_ltr hd) hR2 hbad hW hpl (Fr.tF hf (by decide))
        rw [nmV_snoc] at hih
        refine r_ald0 (pc := 58) dX6_name_58 ?_
        refine m_getI hS (pc := 59) dX6_name_59 fl_X6_243 ?_
        refine Bd.eqI hR.2.1 ?_
        refine r_ald0 (pc := 62) dX6_name_62 ?_
        refine m_getI hS (pc := 63) dX6_name_63 fl_X6_246 ?_
        refine Bd.eqI hR.1 ?_
        first | refine r_icmp_geN (pc := 66) (tgt := 145) dX6_name_66 (by decide) (by omega) (by omega) (fun h66 => ?_) (fun h66 => ?_) | refine r_icmp_ge (pc := 66) (tgt := 145) dX6_name_66 (by decide) (fun h66 => ?_) (fun h66 => ?_)
        · skip
          exact absurd h66 (by omega)
        · skip
          refine r_ald0 (pc := 69) dX6_name_69 ?_
          refine m_getR hS (pc := 70) dX6_name_70 fl_X6_7 ar0 ?_
          refine r_ald0 (pc := 73) dX6_name_73 ?_
          refine m_getI hS (pc := 74) dX6_name_74 fl_X6_243 ?_
          refine Bd.eqI hR.2.1 ?_
          refine m_iald hS (pc := 77) dX6_name_77 ar0 (by omega) (by omega) ?_
          refine Bd.eqI hta ?_
          refine r_cS (pc := 78) dX6_name_78 cs_X6_253 (ct_X6_isLetter hfb) rfl rfl (Nat.le_of_ble_eq_true rfl) (by decide) ?_
          rintro _ _ ⟨rfl, rfl⟩
          first | refine r_if_eqZ (pc := 81) (tgt := 145) dX6_name_81 (by decide) (fun h81 => ?_) (fun h81 => ?_) | refine r_if_eqN (pc := 81) (tgt := 145) dX6_name_81 (by decide) (by omega) (fun h81 => ?_) (fun h81 => ?_) | refine r_if_eq (pc := 81) (tgt := 145) dX6_name_81 (by decide) (fun h81 => ?_) (fun h81 => ?_)
          · skip
            exact absurd hd h81
          · skip
            refine r_ald0 (pc := 84) dX6_name_84 ?_
            refine m_getI hS (pc := 85) dX6_name_85 fl_X6_243 ?_
            refine Bd.eqI hR.2.1 ?_
            refine r_ald0 (pc := 88) dX6_name_88 ?_
            refine m_getI hS (pc := 89) dX6_name_89 fl_X6_288 ?_
            refine Bd.eqI hpl ?_
            first | refine r_isubN (pc := 92) dX6_name_92 (by omega) ?_ | refine r_isubM (pc := 92) dX6_name_92 ?_ | refine r_isubJ (pc := 92) dX6_name_92 ?_ | refine r_isub (pc := 92) dX6_name_92 ?_
            refine r_bipush (v := nI 6) (pc := 93) dX6_name_93 (by decide) ?_
            first | refine r_icmp_neN (pc := 95) (tgt := 109) dX6_name_95 (by decide) (by omega) (by omega) (fun h95 => ?_) (fun h95 => ?_) | refine r_icmp_ne (pc := 95) (tgt := 109) dX6_name_95 (by decide) (fun h95 => ?_) (fun h95 => ?_)
            · skip
              refine r_ldc2 (v := lI (27)) (pc := 109) dX6_name_109 q2021 ?_
              refine r_lld1 (pc := 112) dX6_name_112 ?_
              first | refine r_lmulI (pc := 113) dX6_name_113 ?_ | refine r_lmul (pc := 113) dX6_name_113 ?_
              refine r_ald0 (pc := 114) dX6_name_114 ?_
              refine m_getR hS (pc := 115) dX6_name_115 fl_X6_7 ar0 ?_
              refine r_ald0 (pc := 118) dX6_name_118 ?_
              refine m_getI hS (pc := 119) dX6_name_119 fl_X6_243 ?_
              refine Bd.eqI hR.2.1 ?_
              refine m_iald hS (pc := 122) dX6_name_122 ar0 (by omega) (by omega) ?_
              refine Bd.eqI hta ?_
              first | refine r_i2lM (pc := 123) dX6_name_123 (by omega) ?_ | refine r_i2lI (pc := 123) dX6_name_123 (by constructor <;> omega) ?_ | refine r_i2lT (pc := 123) dX6_name_123 ?_
              first | refine r_laddI (pc := 124) dX6_name_124 ?_ | refine r_ladd (pc := 124) dX6_name_124 ?_
              refine r_ldc2 (v := lI (97)) (pc := 125) dX6_name_125 q2022 ?_
              first | refine r_lsubI (pc := 128) dX6_name_128 ?_ | refine r_lsub (pc := 128) dX6_name_128 ?_
              refine r_lconst (v := lI 1) (pc := 129) dX6_name_129 rfl ?_
              first | refine r_laddI (pc := 130) dX6_name_130 ?_ | refine r_ladd (pc := 130) dX6_name_130 ?_
              refine Bd.eqL (x' := lI ((27 * nmV cs 0 + (f b - 96) : Nat) : Int)) (congrArg lI (by omega)) ?_
              refine r_lst1 (pc := 131) dX6_name_131 ?_
              refine r_ald0 (pc := 132) dX6_name_132 ?_
              refine r_dup (pc := 133) dX6_name_133 rfl ?_
              refine m_getI hS (pc := 134) dX6_name_134 fl_X6_243 ?_
              refine Bd.eqI hR.2.1 ?_
              refine r_iconst (v := nI 1) (pc := 137) dX6_name_137 (by decide) ?_
              first | refine r_iaddN (pc := 138) dX6_name_138 ?_ | refine r_iaddJ (pc := 138) dX6_name_138 ?_ | refine r_iadd (pc := 138) dX6_name_138 ?_
              refine m_putI hS (pc := 139) dX6_name_139 fl_X6_243 fw_X6_2 rfl rfl ?_
              refine r_goto (pc := 142) (tgt := 58) dX6_name_142 (by decide) ?_
              exact hih
            · skip
              exact absurd h95 (by omega)
    · rw [if_neg hd]
      have hc0 : cs ≠ [] := fun e => absurd (h0 e).2 hd
      refine r_ald0 (pc := 58) dX6_name_58 ?_
      refine m_getI hS (pc := 59) dX6_name_59 fl_X6_243 ?_
      refine Bd.eqI hR.2.1 ?_
      refine r_ald0 (pc := 62) dX6_name_62 ?_
      refine m_getI hS (pc := 63) dX6_name_63 fl_X6_246 ?_
      refine Bd.eqI hR.1 ?_
      first | refine r_icmp_geN (pc := 66) (tgt := 145) dX6_name_66 (by decide) (by omega) (by omega) (fun h66 => ?_) (fun h66 => ?_) | refine r_icmp_ge (pc := 66) (tgt := 145) dX6_name_66 (by decide) (fun h66 => ?_) (fun h66 => ?_)
      · skip
        exact absurd h66 (by omega)
      · skip
        refine r_ald0 (pc := 69) dX6_name_69 ?_
        refine m_getR hS (pc := 70) dX6_name_70 fl_X6_7 ar0 ?_
        refine r_ald0 (pc := 73) dX6_name_73 ?_
        refine m_getI hS (pc := 74) dX6_name_74 fl_X6_243 ?_
        refine Bd.eqI hR.2.1 ?_
        refine m_iald hS (pc := 77) dX6_name_77 ar0 (by omega) (by omega) ?_
        refine Bd.eqI hta ?_
        refine r_cS (pc := 78) dX6_name_78 cs_X6_253 (ct_X6_isLetter hfb) rfl rfl (Nat.le_of_ble_eq_true rfl) (by decide) ?_
        rintro _ _ ⟨rfl, rfl⟩
        first | refine r_if_eqZ (pc := 81) (tgt := 145) dX6_name_81 (by decide) (fun h81 => ?_) (fun h81 => ?_) | refine r_if_eqN (pc := 81) (tgt := 145) dX6_name_81 (by decide) (by omega) (fun h81 => ?_) (fun h81 => ?_) | refine r_if_eq (pc := 81) (tgt := 145) dX6_name_81 (by decide) (fun h81 => ?_) (fun h81 => ?_)
        · skip
          refine r_ald0 (pc := 145) dX6_name_145 ?_
          refine r_ald0 (pc := 146) dX6_name_146 ?_
          refine m_getI hS (pc := 147) dX6_name_147 fl_X6_243 ?_
          refine Bd.eqI hR.2.1 ?_
          refine m_putI hS (pc := 150) dX6_name_150 fl_X6_257 fw_X6_4 rfl rfl ?_
          refine r_lld1 (pc := 153) dX6_name_153 ?_
          refine r_lret (pc := 154) dX6_name_154 ?_
          exact ⟨_, rfl, ⟨rfl, ⟨⟨hR.1, hR.2.1, hR.2.2.1, hR.2.2.2.1, hR.2.2.2.2⟩, hbad, EN.here rfl (hpt hc0), hW⟩, hpl⟩, Fr.tF (hf.mono (by decide) (by decide) (by decide) (by decide)) (by decide)⟩
        · skip
          exact absurd h81 hd
theorem ct_X6_name (hS : ShM g M o) (hR : RP s f n a) :
    Ct g yX6_name cX6_name 3 (some Jvm.ClassFile.FieldType.long) 3 0 0 [.ref o] (putM M o s) (QM M o (fun r s' => NmZ f n (skip f n a) r s' (nmP f n (skip f n a)) ∧ Fr [2, 4, 5, 6, 36] [] [] [] s s')) noX := by
  have hn := hR.1.2.2.2.1
  have hsl := skip_le (f := f) hR.1.2.2.1
  refine Ct.of (by decide) (Nat.le_of_ble_eq_true rfl) rfl ?_
  unfold nmP
  by_cases hc : skip f n a < n ∧ ltr (f (skip f n a)) = true
  · by_cases hp : ptd f (skip f n a) = true
    · rw [word_none (fun q => by rw [hp] at q; cases q.2.2)]
      refine r_ald0 (pc := 0) dX6_name_0 ?_
      refine m_getI hS (pc := 1) dX6_name_1 fl_X6_237 ?_
      refine Bd.eqI hR.2.1 ?_
      first | refine r_if_eqZ (pc := 4) (tgt := 9) dX6_name_4 (by decide) (fun h4 => ?_) (fun h4 => ?_) | refine r_if_eqN (pc := 4) (tgt := 9) dX6_name_4 (by decide) (by omega) (fun h4 => ?_) (fun h4 => ?_) | refine r_if_eq (pc := 4) (tgt := 9) dX6_name_4 (by decide) (fun h4 => ?_) (fun h4 => ?_)
      · skip
        refine r_ald0 (pc := 9) dX6_name_9 ?_
        refine r_cV (pc := 10) dX6_name_10 cv_X6_249 hS.k (ct_X6_lookP hS hR) rfl rfl (Nat.le_of_ble_eq_true rfl) (by decide) ?_
        rintro _ _ ⟨s1, rfl, rfl, hR1, hf1⟩
        refine r_cS (pc := 13) dX6_name_13 cs_X6_253 (ct_X6_isLetterO (fun c hc => (lookO_lt hR hc).1)) rfl rfl (Nat.le_of_ble_eq_true rfl) (by decide) ?_
        rintro _ _ ⟨rfl, rfl⟩
        first | refine r_if_eqZ (pc := 16) (tgt := 37) dX6_name_16 (by decide) (fun h16 => ?_) (fun h16 => ?_) | refine r_if_eqN (pc := 16) (tgt := 37) dX6_name_16 (by decide) (by omega) (fun h16 => ?_) (fun h16 => ?_) | refine r_if_eq (pc := 16) (tgt := 37) dX6_name_16 (by decide) (fun h16 => ?_) (fun h16 => ?_)
        · skip
          exact absurd (lookO_ltr.mpr hc) h16
        · skip
          refine r_ald0 (pc := 19) dX6_name_19 ?_
          refine m_getI hS (pc := 20) dX6_name_20 fl_X6_243 ?_
          refine Bd.eqI hR1.1.2.1 ?_
          refine r_ald0 (pc := 23) dX6_name_23 ?_
          refine m_getI hS (pc := 24) dX6_name_24 fl_X6_257 ?_
          first | refine r_icmp_eqN (pc := 27) (tgt := 37) dX6_name_27 (by decide) (by omega) (by omega) (fun h27 => ?_) (fun h27 => ?_) | refine r_icmp_eq (pc := 27) (tgt := 37) dX6_name_27 (by decide) (fun h27 => ?_) (fun h27 => ?_)
          · skip
            refine r_ald0 (pc := 37) dX6_name_37 ?_
            refine r_iconst (v := nI 1) (pc := 38) dX6_name_38 (by decide) ?_
            refine r_ald0 (pc := 39) dX6_name_39 ?_
            refine m_getI hS (pc := 40) dX6_name_40 fl_X6_243 ?_
            refine Bd.eqI hR1.1.2.1 ?_
            refine r_cV (pc := 43) dX6_name_43 cv_X6_267 hS.k (ct_X6_failP hS hR1.2.1 (by decide) (by omega)) rfl rfl (Nat.le_of_ble_eq_true rfl) (by decide) ?_
            rintro _ _ ⟨s2, rfl, rfl, hB, hf2⟩
            refine r_lconst (v := lI 0) (pc := 46) dX6_name_46 rfl ?_
            refine r_lret (pc := 47) dX6_name_47 ?_
            exact ⟨_, rfl, ⟨rfl, hB⟩, (hf1.mono (by decide) (by decide) (by decide) (by decide)).trans (hf2.mono (by decide) (by decide) (by decide) (by decide))⟩
          · skip
            exact absurd ((hR1.2.2.1.cmp (by omega)).mpr hp) h27
      · skip
        exact absurd rfl h4
    · have hp2 : ptd f (skip f n a) = false := by simpa using hp
      have hwd : word f n (skip f n a) = some (lts f (n - skip f n a) (skip f n a)) := if_pos ⟨hc.1, hc.2, hp2⟩
      rw [hwd]
      show Bd g yX6_name cX6_name 3 (some Jvm.ClassFile.FieldType.long) [] 3 0 0 _ _ _ _ (QM M o (fun r s' => NmZ f n (skip f n a) r s' (if lts f (n - skip f n a) (skip f n a) ∈ ownW then .error (1, skip f n a) else nmL f (n - skip f n a) (skip f n a) []) ∧ Fr [2, 4, 5, 6, 36] [] [] [] s s')) noX
      by_cases hown : lts f (n - skip f n a) (skip f n a) ∈ ownW
      · rw [if_pos hown]
        refine r_ald0 (pc := 0) dX6_name_0 ?_
        refine m_getI hS (pc := 1) dX6_name_1 fl_X6_237 ?_
        refine Bd.eqI hR.2.1 ?_
        first | refine r_if_eqZ (pc := 4) (tgt := 9) dX6_name_4 (by decide) (fun h4 => ?_) (fun h4 => ?_) | refine r_if_eqN (pc := 4) (tgt := 9) dX6_name_4 (by decide) (by omega) (fun h4 => ?_) (fun h4 => ?_) | refine r_if_eq (pc := 4) (tgt := 9) dX6_name_4 (by decide) (fun h4 => ?_) (fun h4 => ?_)
        · skip
          refine r_ald0 (pc := 9) dX6_name_9 ?_
          refine r_cV (pc := 10) dX6_name_10 cv_X6_249 hS.k (ct_X6_lookP hS hR) rfl rfl (Nat.le_of_ble_eq_true rfl) (by decide) ?_
          rintro _ _ ⟨s1, rfl, rfl, hR1, hf1⟩
          refine r_cS (pc := 13) dX6_name_13 cs_X6_253 (ct_X6_isLetterO (fun c hc => (lookO_lt hR hc).1)) rfl rfl (Nat.le_of_ble_eq_true rfl) (by decide) ?_
          rintro _ _ ⟨rfl, rfl⟩
          first | refine r_if_eqZ (pc := 16) (tgt := 37) dX6_name_16 (by decide) (fun h16 => ?_) (fun h16 => ?_) | refine r_if_eqN (pc := 16) (tgt := 37) dX6_name_16 (by decide) (by omega) (fun h16 => ?_) (fun h16 => ?_) | refine r_if_eq (pc := 16) (tgt := 37) dX6_name_16 (by decide) (fun h16 => ?_) (fun h16 => ?_)
          · skip
            exact absurd (lookO_ltr.mpr hc) h16
          · skip
            refine r_ald0 (pc := 19) dX6_name_19 ?_
            refine m_getI hS (pc := 20) dX6_name_20 fl_X6_243 ?_
            refine Bd.eqI hR1.1.2.1 ?_
            refine r_ald0 (pc := 23) dX6_name_23 ?_
            refine m_getI hS (pc := 24) dX6_name_24 fl_X6_257 ?_
            first | refine r_icmp_eqN (pc := 27) (tgt := 37) dX6_name_27 (by decide) (by omega) (by omega) (fun h27 => ?_) (fun h27 => ?_) | refine r_icmp_eq (pc := 27) (tgt := 37) dX6_name_27 (by decide) (fun h27 => ?_) (fun h27 => ?_)
            · skip
              exact absurd ((hR1.2.2.1.cmp (by omega)).mp h27) hp
            · skip
              refine r_ald0 (pc := 30) dX6_name_30 ?_
              refine r_cV (pc := 31) dX6_name_31 cv_X6_284 hS.k (ct_X6_isOwnHere hS hR1 (skip_idem f n a)) rfl rfl (Nat.le_of_ble_eq_true rfl) (by decide) ?_
              rintro _ _ ⟨s3, rfl, rfl, hR3, hf3⟩
              first | refine r_if_eqZ (pc := 34) (tgt := 48) dX6_name_34 (by decide) (fun h34 => ?_) (fun h34 => ?_) | refine r_if_eqN (pc := 34) (tgt := 48) dX6_name_34 (by decide) (by omega) (fun h34 => ?_) (fun h34 => ?_) | refine r_if_eq (pc := 34) (tgt := 48) dX6_name_34 (by decide) (fun h34 => ?_) (fun h34 => ?_)
              · skip
                exact absurd (ownB_yes hwd hown) h34
              · skip
                refine r_ald0 (pc := 37) dX6_name_37 ?_
                refine r_iconst (v := nI 1) (pc := 38) dX6_name_38 (by decide) ?_
                refine r_ald0 (pc := 39) dX6_name_39 ?_
                refine m_getI hS (pc := 40) dX6_name_40 fl_X6_243 ?_
                refine Bd.eqI hR3.1.2.1 ?_
                refine r_cV (pc := 43) dX6_name_43 cv_X6_267 hS.k (ct_X6_failP hS hR3.2.1 (by decide) (by omega)) rfl rfl (Nat.le_of_ble_eq_true rfl) (by decide) ?_
                rintro _ _ ⟨s2, rfl, rfl, hB, hf2⟩
                refine r_lconst (v := lI 0) (pc := 46) dX6_name_46 rfl ?_
                refine r_lret (pc := 47) dX6_name_47 ?_
                exact ⟨_, rfl, ⟨rfl, hB⟩, ((hf1.trans hf3).mono (by decide) (by decide) (by decide) (by decide)).trans (hf2.mono (by decide) (by decide) (by decide) (by decide))⟩
        · skip
          exact absurd rfl h4
      · rw [if_neg hown]
        refine r_ald0 (pc := 0) dX6_name_0 ?_
        refine m_getI hS (pc := 1) dX6_name_1 fl_X6_237 ?_
        refine Bd.eqI hR.2.1 ?_
        first | refine r_if_eqZ (pc := 4) (tgt := 9) dX6_name_4 (by decide) (fun h4 => ?_) (fun h4 => ?_) | refine r_if_eqN (pc := 4) (tgt := 9) dX6_name_4 (by decide) (by omega) (fun h4 => ?_) (fun h4 => ?_) | refine r_if_eq (pc := 4) (tgt := 9) dX6_name_4 (by decide) (fun h4 => ?_) (fun h4 => ?_)
        · skip
          refine r_ald0 (pc := 9) dX6_name_9 ?_
          refine r_cV (pc := 10) dX6_name_10 cv_X6_249 hS.k (ct_X6_lookP hS hR) rfl rfl (Nat.le_of_ble_eq_true rfl) (by decide) ?_
          rintro _ _ ⟨s1, rfl, rfl, hR1, hf1⟩
          refine r_cS (pc := 13) dX6_name_13 cs_X6_253 (ct_X6_isLetterO (fun c hc => (lookO_lt hR hc).1)) rfl rfl (Nat.le_of_ble_eq_true rfl) (by decide) ?_
          rintro _ _ ⟨rfl, rfl⟩
          first | refine r_if_eqZ (pc := 16) (tgt := 37) dX6_name_16 (by decide) (fun h16 => ?_) (fun h16 => ?_) | refine r_if_eqN (pc := 16) (tgt := 37) dX6_name_16 (by decide) (by omega) (fun h16 => ?_) (fun h16 => ?_) | refine r_if_eq (pc := 16) (tgt := 37) dX6_name_16 (by decide) (fun h16 => ?_) (fun h16 => ?_)
          · skip
            exact absurd (lookO_ltr.mpr hc) h16
          · skip
            refine r_ald0 (pc := 19) dX6_name_19 ?_
            refine m_getI hS (pc := 20) dX6_name_20 fl_X6_243 ?_
            refine Bd.eqI hR1.1.2.1 ?_
            refine r_ald0 (pc := 23) dX6_name_23 ?_
            refine m_getI hS (pc := 24) dX6_name_24 fl_X6_257 ?_
            first | refine r_icmp_eqN (pc := 27) (tgt := 37) dX6_name_27 (by decide) (by omega) (by omega) (fun h27 => ?_) (fun h27 => ?_) | refine r_icmp_eq (pc := 27) (tgt := 37) dX6_name_27 (by decide) (fun h27 => ?_) (fun h27 => ?_)
            · skip
              exact absurd ((hR1.2.2.1.cmp (by omega)).mp h27) hp
            · skip
              refine r_ald0 (pc := 30) dX6_name_30 ?_
              refine r_cV (pc := 31) dX6_name_31 cv_X6_284 hS.k (ct_X6_isOwnHere hS hR1 (skip_idem f n a)) rfl rfl (Nat.le_of_ble_eq_true rfl) (by decide) ?_
              rintro _ _ ⟨s3, rfl, rfl, hR3, hf3⟩
              first | refine r_if_eqZ (pc := 34) (tgt := 48) dX6_name_34 (by decide) (fun h34 => ?_) (fun h34 => ?_) | refine r_if_eqN (pc := 34) (tgt := 48) dX6_name_34 (by decide) (by omega) (fun h34 => ?_) (fun h34 => ?_) | refine r_if_eq (pc := 34) (tgt := 48) dX6_name_34 (by decide) (fun h34 => ?_) (fun h34 => ?_)
              · skip
                refine r_ald0 (pc := 48) dX6_name_48 ?_
                refine r_ald0 (pc := 49) dX6_name_49 ?_
                refine m_getI hS (pc := 50) dX6_name_50 fl_X6_243 ?_
                refine Bd.eqI hR3.1.2.1 ?_
                refine m_putI hS (pc := 53) dX6_name_53 fl_X6_288 fw_X6_36 rfl rfl ?_
                refine r_lconst (v := lI 0) (pc := 56) dX6_name_56 rfl ?_
                refine r_lst1 (pc := 57) dX6_name_57 ?_
                refine Bd.eqM rfl ?_
                exact nmLoop hS (n - skip f n a) (skip f n a) [] _ (by omega) rfl (by decide) (fun c h => nomatch h) (fun _ => hc) (fun q => absurd rfl q) ⟨hR3.1.1, hR3.1.2.1, hR3.1.2.2⟩ hR3.2.1 hR3.2.2.2 rfl (Fr.tF ((hf1.trans hf3).mono (by decide) (by decide) (by decide) (by decide)) (by decide))
              · skip
                exact absurd h34 (by rw [hwd]; intro q; exact hown (of_decide_eq_true q))
        · skip
          exact absurd rfl h4
  · rw [word_none (fun q => hc ⟨q.1, q.2.1⟩)]
    refine r_ald0 (pc := 0) dX6_name_0 ?_
    refine m_getI hS (pc := 1) dX6_name_1 fl_X6_237 ?_
    refine Bd.eqI hR.2.1 ?_
    first | refine r_if_eqZ (pc := 4) (tgt := 9) dX6_name_4 (by decide) (fun h4 => ?_) (fun h4 => ?_) | refine r_if_eqN (pc := 4) (tgt := 9) dX6_name_4 (by decide) (by omega) (fun h4 => ?_) (fun h4 => ?_) | refine r_if_eq (pc := 4) (tgt := 9) dX6_name_4 (by decide) (fun h4 => ?_) (fun h4 => ?_)
    · skip
      refine r_ald0 (pc := 9) dX6_name_9 ?_
      refine r_cV (pc := 10) dX6_name_10 cv_X6_249 hS.k (ct_X6_lookP hS hR) rfl rfl (Nat.le_of_ble_eq_true rfl) (by decide) ?_
      rintro _ _ ⟨s1, rfl, rfl, hR1, hf1⟩
      refine r_cS (pc := 13) dX6_name_13 cs_X6_253 (ct_X6_isLetterO (fun c hc => (lookO_lt hR hc).1)) rfl rfl (Nat.le_of_ble_eq_true rfl) (by decide) ?_
      rintro _ _ ⟨rfl, rfl⟩
      first | refine r_if_eqZ (pc := 16) (tgt := 37) dX6_name_16 (by decide) (fun h16 => ?_) (fun h16 => ?_) | refine r_if_eqN (pc := 16) (tgt := 37) dX6_name_16 (by decide) (by omega) (fun h16 => ?_) (fun h16 => ?_) | refine r_if_eq (pc := 16) (tgt := 37) dX6_name_16 (by decide) (fun h16 => ?_) (fun h16 => ?_)
      · skip
        refine r_ald0 (pc := 37) dX6_name_37 ?_
        refine r_iconst (v := nI 1) (pc := 38) dX6_name_38 (by decide) ?_
        refine r_ald0 (pc := 39) dX6_name_39 ?_
        refine m_getI hS (pc := 40) dX6_name_40 fl_X6_243 ?_
        refine Bd.eqI hR1.1.2.1 ?_
        refine r_cV (pc := 43) dX6_name_43 cv_X6_267 hS.k (ct_X6_failP hS hR1.2.1 (by decide) (by omega)) rfl rfl (Nat.le_of_ble_eq_true rfl) (by decide) ?_
        rintro _ _ ⟨s2, rfl, rfl, hB, hf2⟩
        refine r_lconst (v := lI 0) (pc := 46) dX6_name_46 rfl ?_
        refine r_lret (pc := 47) dX6_name_47 ?_
        exact ⟨_, rfl, ⟨rfl, hB⟩, (hf1.mono (by decide) (by decide) (by decide) (by decide)).trans (hf2.mono (by decide) (by decide) (by decide) (by decide))⟩
      · skip
        exact absurd (lookO_ltr.mp h16) hc
    · skip
      exact absurd rfl h4
theorem ct_X6_nameB (hS : ShM g M o) (hb : mF s 5 ≠ nI 0) : Ct g yX6_name cX6_name 3 (some Jvm.ClassFile.FieldType.long) 3 0 0 [.ref o] (putM M o s) (PQ (putM M o s) (.long (lI 0))) noX := by
  refine Ct.of (by decide) (Nat.le_of_ble_eq_true rfl) rfl ?_
  refine r_ald0 (pc := 0) dX6_name_0 ?_
  refine m_getI hS (pc := 1) dX6_name_1 fl_X6_237 ?_
  refine r_if_eq (pc := 4) (tgt := 9) dX6_name_4 (by decide) (fun h4 => ?_) (fun h4 => ?_)
  · skip
    exact absurd h4 hb
  · skip
    refine r_lconst (v := lI 0) (pc := 7) dX6_name_7 rfl ?_
    refine r_lret (pc := 8) dX6_name_8 ?_
    exact ⟨rfl, rfl⟩
end M30
