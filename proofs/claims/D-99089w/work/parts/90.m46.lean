set_option maxRecDepth 100000
/-! THE MODEL: ask -/
section M46
variable {g : GC} {M : MM} {o : Nat} {s s' s1 s2 : MS} {M1 : MM} {T : Te} {t : St} {i : Nat} {q : Sg} {f : Nat → Nat} {n a : Nat}
theorem stpA1_0 {ans v : Int} : stpA1 0 ans v i = if v = 1 ∧ ans = -1 then (i : Int) else ans := rfl
theorem stpA1_1 {ans v : Int} : stpA1 1 ans v i = if v = 1 then (i : Int) else ans := rfl
theorem stpA1_2 {ans v : Int} : stpA1 2 ans v i = if v = 1 then ans + 1 else ans := rfl
theorem stpA1_3 {ans v : Int} : stpA1 3 ans v i = ans + v := rfl
theorem stpA1_4 {ans v : Int} : stpA1 4 ans v i = if i = 0 ∨ ans < v then v else ans := rfl
theorem stpA1_5 {ans v : Int} : stpA1 5 ans v i = if i = 0 ∨ v < ans then v else ans := rfl
theorem ct_X6_qTakes {k : Nat} {v ans : Int} (hS : ShM g M o) (hk : k < 6) (hv : b6 v) (ha : b31 ans) (hi : i < 8) (h109 : mG s 109 = lI ans) (h110 : mF s 110 = zI (i = 0)) :
    Ct g yX6_qTakes cX6_qTakes 6 none 0 0 0 [.ref o, .int (nI k), .long (lI v), .int (nI i)] (putM M o s) (QM M o (fun r s' => r = none ∧ mG s' 109 = lI (stpA1 k ans v i) ∧ mF s' 110 = nI 0 ∧ Fr [110] [109] [] [] s s')) noX := by
  obtain ⟨v1, v2⟩ := hv
  obtain ⟨a1, a2⟩ := ha
  refine Ct.of (by decide) (Nat.le_of_ble_eq_true rfl) rfl ?_
  have hc : k = 0 ∨ k = 1 ∨ k = 2 ∨ k = 3 ∨ k = 4 ∨ k = 5 := by omega
  rcases hc with h | h | h | h | h | h <;> subst h
  · by_cases hv1 : v = 1
    · by_cases ha1 : ans = -1
      · skip
        refine r_ild1 (pc := 0) dX6_qTakes_0 ?_
        refine r_iconst (v := nI 3) (pc := 1) dX6_qTakes_1 (by decide) ?_
        first | refine r_icmp_geN (pc := 2) (tgt := 15) dX6_qTakes_2 (by decide) (by omega) (by omega) (fun h2 => ?_) (fun h2 => ?_) | refine r_icmp_ge (pc := 2) (tgt := 15) dX6_qTakes_2 (by decide) (fun h2 => ?_) (fun h2 => ?_)
        · skip
          exact absurd h2 (by decide)
        · skip
          refine r_lld2 (pc := 5) dX6_qTakes_5 ?_
          refine r_lconst (v := lI 1) (pc := 6) dX6_qTakes_6 rfl ?_
          refine r_lcmp (pc := 7) dX6_qTakes_7 ?_
          first | refine r_if_neCI (pc := 8) (tgt := 15) dX6_qTakes_8 (by decide) (by constructor <;> omega) (by constructor <;> omega) (fun h8 => ?_) (fun h8 => ?_) | refine r_if_neC (pc := 8) (tgt := 15) dX6_qTakes_8 (by decide) (fun h8 => ?_) (fun h8 => ?_)
          · skip
            exact absurd hv1 h8
          · skip
            refine r_iconst (v := nI 1) (pc := 11) dX6_qTakes_11 (by decide) ?_
            refine r_goto (pc := 12) (tgt := 16) dX6_qTakes_12 (by decide) ?_
            refine r_ist5 (pc := 16) dX6_qTakes_16 ?_
            refine r_ild1 (pc := 18) dX6_qTakes_18 ?_
            first | refine r_if_neZ (pc := 19) (tgt := 38) dX6_qTakes_19 (by decide) (fun h19 => ?_) (fun h19 => ?_) | refine r_if_neN (pc := 19) (tgt := 38) dX6_qTakes_19 (by decide) (by omega) (fun h19 => ?_) (fun h19 => ?_) | refine r_if_ne (pc := 19) (tgt := 38) dX6_qTakes_19 (by decide) (fun h19 => ?_) (fun h19 => ?_)
            · skip
              exact absurd h19 (by decide)
            · skip
              refine r_ild5 (pc := 22) dX6_qTakes_22 ?_
              first | refine r_if_eqZ (pc := 24) (tgt := 38) dX6_qTakes_24 (by decide) (fun h24 => ?_) (fun h24 => ?_) | refine r_if_eqN (pc := 24) (tgt := 38) dX6_qTakes_24 (by decide) (by omega) (fun h24 => ?_) (fun h24 => ?_) | refine r_if_eq (pc := 24) (tgt := 38) dX6_qTakes_24 (by decide) (fun h24 => ?_) (fun h24 => ?_)
              · skip
                exact absurd h24 (by decide)
              · skip
                refine r_ald0 (pc := 27) dX6_qTakes_27 ?_
                refine m_getL hS (pc := 28) dX6_qTakes_28 fl_X6_669 ?_
                refine Bd.eqL h109 ?_
                refine r_ldc2 (v := -1) (pc := 31) dX6_qTakes_31 q2444 ?_
                refine Bd.eqL (x' := lI (-1)) (by decide) ?_
                refine r_lcmp (pc := 34) dX6_qTakes_34 ?_
                first | refine r_if_eqCI (pc := 35) (tgt := 48) dX6_qTakes_35 (by decide) (by constructor <;> omega) (by constructor <;> omega) (fun h35 => ?_) (fun h35 => ?_) | refine r_if_eqC (pc := 35) (tgt := 48) dX6_qTakes_35 (by decide) (fun h35 => ?_) (fun h35 => ?_)
                · skip
                  refine r_ald0 (pc := 48) dX6_qTakes_48 ?_
                  refine r_ild4 (pc := 49) dX6_qTakes_49 ?_
                  first | refine r_i2lM (pc := 51) dX6_qTakes_51 (by omega) ?_ | refine r_i2lI (pc := 51) dX6_qTakes_51 (by constructor <;> omega) ?_ | refine r_i2lT (pc := 51) dX6_qTakes_51 ?_
                  refine m_putL hS (pc := 52) dX6_qTakes_52 fl_X6_669 fw_X6_109 ?_
                  refine r_ild1 (pc := 55) dX6_qTakes_55 ?_
                  refine r_iconst (v := nI 2) (pc := 56) dX6_qTakes_56 (by decide) ?_
                  first | refine r_icmp_neN (pc := 57) (tgt := 75) dX6_qTakes_57 (by decide) (by omega) (by omega) (fun h57 => ?_) (fun h57 => ?_) | refine r_icmp_ne (pc := 57) (tgt := 75) dX6_qTakes_57 (by decide) (fun h57 => ?_) (fun h57 => ?_)
                  · skip
                    refine r_ild1 (pc := 75) dX6_qTakes_75 ?_
                    refine r_iconst (v := nI 3) (pc := 76) dX6_qTakes_76 (by decide) ?_
                    first | refine r_icmp_neN (pc := 77) (tgt := 90) dX6_qTakes_77 (by decide) (by omega) (by omega) (fun h77 => ?_) (fun h77 => ?_) | refine r_icmp_ne (pc := 77) (tgt := 90) dX6_qTakes_77 (by decide) (fun h77 => ?_) (fun h77 => ?_)
                    · skip
                      refine r_ild1 (pc := 90) dX6_qTakes_90 ?_
                      refine r_iconst (v := nI 3) (pc := 91) dX6_qTakes_91 (by decide) ?_
                      first | refine r_icmp_leN (pc := 92) (tgt := 133) dX6_qTakes_92 (by decide) (by omega) (by omega) (fun h92 => ?_) (fun h92 => ?_) | refine r_icmp_le (pc := 92) (tgt := 133) dX6_qTakes_92 (by decide) (fun h92 => ?_) (fun h92 => ?_)
                      · skip
                        refine r_ald0 (pc := 133) dX6_qTakes_133 ?_
                        refine r_iconst (v := nI 0) (pc := 134) dX6_qTakes_134 (by decide) ?_
                        refine m_putI hS (pc := 135) dX6_qTakes_135 fl_X6_674 fw_X6_110 (by first | rfl | exact zI_nar | assumption) (by first | rfl | exact zI_fit | assumption) ?_
                        refine r_vret (pc := 138) dX6_qTakes_138 ?_
                        exact ⟨_, rfl, rfl, (by rw [show stpA1 0 ans v i = (i : Int) by rw [stpA1_0, if_pos ⟨hv1, ha1⟩]]; rfl), rfl, Fr.tF (Fr.tG Fr.rf (by decide)) (by decide)⟩
                      · skip
                        exact absurd h92 (by decide)
                    · skip
                      exact absurd h77 (by decide)
                  · skip
                    exact absurd h57 (by decide)
                · skip
                  exact absurd ha1 h35
      · skip
        refine r_ild1 (pc := 0) dX6_qTakes_0 ?_
        refine r_iconst (v := nI 3) (pc := 1) dX6_qTakes_1 (by decide) ?_
        first | refine r_icmp_geN (pc := 2) (tgt := 15) dX6_qTakes_2 (by decide) (by omega) (by omega) (fun h2 => ?_) (fun h2 => ?_) | refine r_icmp_ge (pc := 2) (tgt := 15) dX6_qTakes_2 (by decide) (fun h2 => ?_) (fun h2 => ?_)
        · skip
          exact absurd h2 (by decide)
        · skip
          refine r_lld2 (pc := 5) dX6_qTakes_5 ?_
          refine r_lconst (v := lI 1) (pc := 6) dX6_qTakes_6 rfl ?_
          refine r_lcmp (pc := 7) dX6_qTakes_7 ?_
          first | refine r_if_neCI (pc := 8) (tgt := 15) dX6_qTakes_8 (by decide) (by constructor <;> omega) (by constructor <;> omega) (fun h8 => ?_) (fun h8 => ?_) | refine r_if_neC (pc := 8) (tgt := 15) dX6_qTakes_8 (by decide) (fun h8 => ?_) (fun h8 => ?_)
          · skip
            exact absurd hv1 h8
          · skip
            refine r_iconst (v := nI 1) (pc := 11) dX6_qTakes_11 (by decide) ?_
            refine r_goto (pc := 12) (tgt := 16) dX6_qTakes_12 (by decide) ?_
            refine r_ist5 (pc := 16) dX6_qTakes_16 ?_
            refine r_ild1 (pc := 18) dX6_qTakes_18 ?_
            first | refine r_if_neZ (pc := 19) (tgt := 38) dX6_qTakes_19 (by decide) (fun h19 => ?_) (fun h19 => ?_) | refine r_if_neN (pc := 19) (tgt := 38) dX6_qTakes_19 (by decide) (by omega) (fun h19 => ?_) (fun h19 => ?_) | refine r_if_ne (pc := 19) (tgt := 38) dX6_qTakes_19 (by decide) (fun h19 => ?_) (fun h19 => ?_)
            · skip
              exact absurd h19 (by decide)
            · skip
              refine r_ild5 (pc := 22) dX6_qTakes_22 ?_
              first | refine r_if_eqZ (pc := 24) (tgt := 38) dX6_qTakes_24 (by decide) (fun h24 => ?_) (fun h24 => ?_) | refine r_if_eqN (pc := 24) (tgt := 38) dX6_qTakes_24 (by decide) (by omega) (fun h24 => ?_) (fun h24 => ?_) | refine r_if_eq (pc := 24) (tgt := 38) dX6_qTakes_24 (by decide) (fun h24 => ?_) (fun h24 => ?_)
              · skip
                exact absurd h24 (by decide)
              · skip
                refine r_ald0 (pc := 27) dX6_qTakes_27 ?_
                refine m_getL hS (pc := 28) dX6_qTakes_28 fl_X6_669 ?_
                refine Bd.eqL h109 ?_
                refine r_ldc2 (v := -1) (pc := 31) dX6_qTakes_31 q2444 ?_
                refine Bd.eqL (x' := lI (-1)) (by decide) ?_
                refine r_lcmp (pc := 34) dX6_qTakes_34 ?_
                first | refine r_if_eqCI (pc := 35) (tgt := 48) dX6_qTakes_35 (by decide) (by constructor <;> omega) (by constructor <;> omega) (fun h35 => ?_) (fun h35 => ?_) | refine r_if_eqC (pc := 35) (tgt := 48) dX6_qTakes_35 (by decide) (fun h35 => ?_) (fun h35 => ?_)
                · skip
                  exact absurd h35 ha1
                · skip
                  refine r_ild1 (pc := 38) dX6_qTakes_38 ?_
                  refine r_iconst (v := nI 1) (pc := 39) dX6_qTakes_39 (by decide) ?_
                  first | refine r_icmp_neN (pc := 40) (tgt := 55) dX6_qTakes_40 (by decide) (by omega) (by omega) (fun h40 => ?_) (fun h40 => ?_) | refine r_icmp_ne (pc := 40) (tgt := 55) dX6_qTakes_40 (by decide) (fun h40 => ?_) (fun h40 => ?_)
                  · skip
                    refine r_ild1 (pc := 55) dX6_qTakes_55 ?_
                    refine r_iconst (v := nI 2) (pc := 56) dX6_qTakes_56 (by decide) ?_
                    first | refine r_icmp_neN (pc := 57) (tgt := 75) dX6_qTakes_57 (by decide) (by omega) (by omega) (fun h57 => ?_) (fun h57 => ?_) | refine r_icmp_ne (pc := 57) (tgt := 75) dX6_qTakes_57 (by decide) (fun h57 => ?_) (fun h57 => ?_)
                    · skip
                      refine r_ild1 (pc := 75) dX6_qTakes_75 ?_
                      refine r_iconst (v := nI 3) (pc := 76) dX6_qTakes_76 (by decide) ?_
                      first | refine r_icmp_neN (pc := 77) (tgt := 90) dX6_qTakes_77 (by decide) (by omega) (by omega) (fun h77 => ?_) (fun h77 => ?_) | refine r_icmp_ne (pc := 77) (tgt := 90) dX6_qTakes_77 (by decide) (fun h77 => ?_) (fun h77 => ?_)
                      · skip
                        refine r_ild1 (pc := 90) dX6_qTakes_90 ?_
                        refine r_iconst (v := nI 3) (pc := 91) dX6_qTakes_91 (by decide) ?_
                        first | refine r_icmp_leN (pc := 92) (tgt := 133) dX6_qTakes_92 (by decide) (by omega) (by omega) (fun h92 => ?_) (fun h92 => ?_) | refine r_icmp_le (pc := 92) (tgt := 133) dX6_qTakes_92 (by decide) (fun h92 => ?_) (fun h92 => ?_)
                        · skip
                          refine r_ald0 (pc := 133) dX6_qTakes_133 ?_
                          refine r_iconst (v := nI 0) (pc := 134) dX6_qTakes_134 (by decide) ?_
                          refine m_putI hS (pc := 135) dX6_qTakes_135 fl_X6_674 fw_X6_110 (by first | rfl | exact zI_nar | assumption) (by first | rfl | exact zI_fit | assumption) ?_
                          refine r_vret (pc := 138) dX6_qTakes_138 ?_
                          exact ⟨_, rfl, rfl, (by rw [show stpA1 0 ans v i = ans by rw [stpA1_0, if_neg (fun q => ha1 q.2)]]; exact h109), rfl, Fr.tF Fr.rf (by decide)⟩
                        · skip
                          exact absurd h92 (by decide)
                      · skip
                        exact absurd h77 (by decide)
                    · skip
                      exact absurd h57 (by decide)
                  · skip
                    exact absurd h40 (by decide)
    · skip
      refine r_ild1 (pc := 0) dX6_qTakes_0 ?_
      refine r_iconst (v := nI 3) (pc := 1) dX6_qTakes_1 (by decide) ?_
      first | refine r_icmp_geN (pc := 2) (tgt := 15) dX6_qTakes_2 (by decide) (by omega) (by omega) (fun h2 => ?_) (fun h2 => ?_) | refine r_icmp_ge (pc := 2) (tgt := 15) dX6_qTakes_2 (by decide) (fun h2 => ?_) (fun h2 => ?_)
      · skip
        exact absurd h2 (by decide)
      · skip
        refine r_lld2 (pc := 5) dX6_qTakes_5 ?_
        refine r_lconst (v := lI 1) (pc := 6) dX6_qTakes_6 rfl ?_
        refine r_lcmp (pc := 7) dX6_qTakes_7 ?_
        first | refine r_if_neCI (pc := 8) (tgt := 15) dX6_qTakes_8 (by decide) (by constructor <;> omega) (by constructor <;> omega) (fun h8 => ?_) (fun h8 => ?_) | refine r_if_neC (pc := 8) (tgt := 15) dX6_qTakes_8 (by decide) (fun h8 => ?_) (fun h8 => ?_)
        · skip
          refine r_iconst (v := nI 0) (pc := 15) dX6_qTakes_15 (by decide) ?_
          refine r_ist5 (pc := 16) dX6_qTakes_16 ?_
          refine r_ild1 (pc := 18) dX6_qTakes_18 ?_
          first | refine r_if_neZ (pc := 19) (tgt := 38) dX6_qTakes_19 (by decide) (fun h19 => ?_) (fun h19 => ?_) | refine r_if_neN (pc := 19) (tgt := 38) dX6_qTakes_19 (by decide) (by omega) (fun h19 => ?_) (fun h19 => ?_) | refine r_if_ne (pc := 19) (tgt := 38) dX6_qTakes_19 (by decide) (fun h19 => ?_) (fun h19 => ?_)
          · skip
            exact absurd h19 (by decide)
          · skip
            refine r_ild5 (pc := 22) dX6_qTakes_22 ?_
            first | refine r_if_eqZ (pc := 24) (tgt := 38) dX6_qTakes_24 (by decide) (fun h24 => ?_) (fun h24 => ?_) | refine r_if_eqN (pc := 24) (tgt := 38) dX6_qTakes_24 (by decide) (by omega) (fun h24 => ?_) (fun h24 => ?_) | refine r_if_eq (pc := 24) (tgt := 38) dX6_qTakes_24 (by decide) (fun h24 => ?_) (fun h24 => ?_)
            · skip
              refine r_ild1 (pc := 38) dX6_qTakes_38 ?_
              refine r_iconst (v := nI 1) (pc := 39) dX6_qTakes_39 (by decide) ?_
              first | refine r_icmp_neN (pc := 40) (tgt := 55) dX6_qTakes_40 (by decide) (by omega) (by omega) (fun h40 => ?_) (fun h40 => ?_) | refine r_icmp_ne (pc := 40) (tgt := 55) dX6_qTakes_40 (by decide) (fun h40 => ?_) (fun h40 => ?_)
              · skip
                refine r_ild1 (pc := 55) dX6_qTakes_55 ?_
                refine r_iconst (v := nI 2) (pc := 56) dX6_qTakes_56 (by decide) ?_
                first | refine r_icmp_neN (pc := 57) (tgt := 75) dX6_qTakes_57 (by decide) (by omega) (by omega) (fun h57 => ?_) (fun h57 => ?_) | refine r_icmp_ne (pc := 57) (tgt := 75) dX6_qTakes_57 (by decide) (fun h57 => ?_) (fun h57 => ?_)
                · skip
                  refine r_ild1 (pc := 75) dX6_qTakes_75 ?_
                  refine r_iconst (v := nI 3) (pc := 76) dX6_qTakes_76 (by decide) ?_
                  first | refine r_icmp_neN (pc := 77) (tgt := 90) dX6_qTakes_77 (by decide) (by omega) (by omega) (fun h77 => ?_) (fun h77 => ?_) | refine r_icmp_ne (pc := 77) (tgt := 90) dX6_qTakes_77 (by decide) (fun h77 => ?_) (fun h77 => ?_)
                  · skip
                    refine r_ild1 (pc := 90) dX6_qTakes_90 ?_
                    refine r_iconst (v := nI 3) (pc := 91) dX6_qTakes_91 (by decide) ?_
                    first | refine r_icmp_leN (pc := 92) (tgt := 133) dX6_qTakes_92 (by decide) (by omega) (by omega) (fun h92 => ?_) (fun h92 => ?_) | refine r_icmp_le (pc := 92) (tgt := 133) dX6_qTakes_92 (by decide) (fun h92 => ?_) (fun h92 => ?_)
                    · skip
                      refine r_ald0 (pc := 133) dX6_qTakes_133 ?_
                      refine r_iconst (v := nI 0) (pc := 134) dX6_qTakes_134 (by decide) ?_
                      refine m_putI hS (pc := 135) dX6_qTakes_135 fl_X6_674 fw_X6_110 (by first | rfl | exact zI_nar | assumption) (by first | rfl | exact zI_fit | assumption) ?_
                      refine r_vret (pc := 138) dX6_qTakes_138 ?_
                      exact ⟨_, rfl, rfl, (by rw [show stpA1 0 ans v i = ans by rw [stpA1_0, if_neg (fun q => hv1 q.1)]]; exact h109), rfl, Fr.tF Fr.rf (by decide)⟩
                    · skip
                      exact absurd h92 (by decide)
                  · skip
                    exact absurd h77 (by decide)
                · skip
                  exact absurd h57 (by decide)
              · skip
                exact absurd h40 (by decide)
            · skip
              exact absurd h24 (by decide)
        · skip
          exact absurd h8 hv1
  · by_cases hv1 : v = 1
    · skip
      refine r_ild1 (pc := 0) dX6_qTakes_0 ?_
      refine r_iconst (v := nI 3) (pc := 1) dX6_qTakes_1 (by decide) ?_
      first | refine r_icmp_geN (pc := 2) (tgt := 15) dX6_qTakes_2 (by decide) (by omega) (by omega) (fun h2 => ?_) (fun h2 => ?_) | refine r_icmp_ge (pc := 2) (tgt := 15) dX6_qTakes_2 (by decide) (fun h2 => ?_) (fun h2 => ?_)
      · skip
        exact absurd h2 (by decide)
      · skip
        refine r_lld2 (pc := 5) dX6_qTakes_5 ?_
        refine r_lconst (v := lI 1) (pc := 6) dX6_qTakes_6 rfl ?_
        refine r_lcmp (pc := 7) dX6_qTakes_7 ?_
        first | refine r_if_neCI (pc := 8) (tgt := 15) dX6_qTakes_8 (by decide) (by constructor <;> omega) (by constructor <;> omega) (fun h8 => ?_) (fun h8 => ?_) | refine r_if_neC (pc := 8) (tgt := 15) dX6_qTakes_8 (by decide) (fun h8 => ?_) (fun h8 => ?_)
        · skip
          exact absurd hv1 h8
        · skip
          refine r_iconst (v := nI 1) (pc := 11) dX6_qTakes_11 (by decide) ?_
          refine r_goto (pc := 12) (tgt := 16) dX6_qTakes_12 (by decide) ?_
          refine r_ist5 (pc := 16) dX6_qTakes_16 ?_
          refine r_ild1 (pc := 18) dX6_qTakes_18 ?_
          first | refine r_if_neZ (pc := 19) (tgt := 38) dX6_qTakes_19 (by decide) (fun h19 => ?_) (fun h19 => ?_) | refine r_if_neN (pc := 19) (tgt := 38) dX6_qTakes_19 (by decide) (by omega) (fun h19 => ?_) (fun h19 => ?_) | refine r_if_ne (pc := 19) (tgt := 38) dX6_qTakes_19 (by decide) (fun h19 => ?_) (fun h19 => ?_)
          · skip
            refine r_ild1 (pc := 38) dX6_qTakes_38 ?_
            refine r_iconst (v := nI 1) (pc := 39) dX6_qTakes_39 (by decide) ?_
            first | refine r_icmp_neN (pc := 40) (tgt := 55) dX6_qTakes_40 (by decide) (by omega) (by omega) (fun h40 => ?_) (fun h40 => ?_) | refine r_icmp_ne (pc := 40) (tgt := 55) dX6_qTakes_40 (by decide) (fun h40 => ?_) (fun h40 => ?_)
            · skip
              exact absurd h40 (by decide)
            · skip
              refine r_ild5 (pc := 43) dX6_qTakes_43 ?_
              first | refine r_if_eqZ (pc := 45) (tgt := 55) dX6_qTakes_45 (by decide) (fun h45 => ?_) (fun h45 => ?_) | refine r_if_eqN (pc := 45) (tgt := 55) dX6_qTakes_45 (by decide) (by omega) (fun h45 => ?_) (fun h45 => ?_) | refine r_if_eq (pc := 45) (tgt := 55) dX6_qTakes_45 (by decide) (fun h45 => ?_) (fun h45 => ?_)
              · skip
                exact absurd h45 (by decide)
              · skip
                refine r_ald0 (pc := 48) dX6_qTakes_48 ?_
                refine r_ild4 (pc := 49) dX6_qTakes_49 ?_
                first | refine r_i2lM (pc := 51) dX6_qTakes_51 (by omega) ?_ | refine r_i2lI (pc := 51) dX6_qTakes_51 (by constructor <;> omega) ?_ | refine r_i2lT (pc := 51) dX6_qTakes_51 ?_
                refine m_putL hS (pc := 52) dX6_qTakes_52 fl_X6_669 fw_X6_109 ?_
                refine r_ild1 (pc := 55) dX6_qTakes_55 ?_
                refine r_iconst (v := nI 2) (pc := 56) dX6_qTakes_56 (by decide) ?_
                first | refine r_icmp_neN (pc := 57) (tgt := 75) dX6_qTakes_57 (by decide) (by omega) (by omega) (fun h57 => ?_) (fun h57 => ?_) | refine r_icmp_ne (pc := 57) (tgt := 75) dX6_qTakes_57 (by decide) (fun h57 => ?_) (fun h57 => ?_)
                · skip
                  refine r_ild1 (pc := 75) dX6_qTakes_75 ?_
                  refine r_iconst (v := nI 3) (pc := 76) dX6_qTakes_76 (by decide) ?_
                  first | refine r_icmp_neN (pc := 77) (tgt := 90) dX6_qTakes_77 (by decide) (by omega) (by omega) (fun h77 => ?_) (fun h77 => ?_) | refine r_icmp_ne (pc := 77) (tgt := 90) dX6_qTakes_77 (by decide) (fun h77 => ?_) (fun h77 => ?_)
                  · skip
                    refine r_ild1 (pc := 90) dX6_qTakes_90 ?_
                    refine r_iconst (v := nI 3) (pc := 91) dX6_qTakes_91 (by decide) ?_
                    first | refine r_icmp_leN (pc := 92) (tgt := 133) dX6_qTakes_92 (by decide) (by omega) (by omega) (fun h92 => ?_) (fun h92 => ?_) | refine r_icmp_le (pc := 92) (tgt := 133) dX6_qTakes_92 (by decide) (fun h92 => ?_) (fun h92 => ?_)
                    · skip
                      refine r_ald0 (pc := 133) dX6_qTakes_133 ?_
                      refine r_iconst (v := nI 0) (pc := 134) dX6_qTakes_134 (by decide) ?_
                      refine m_putI hS (pc := 135) dX6_qTakes_135 fl_X6_674 fw_X6_110 (by first | rfl | exact zI_nar | assumption) (by first | rfl | exact zI_fit | assumption) ?_
                      refine r_vret (pc := 138) dX6_qTakes_138 ?_
                      exact ⟨_, rfl, rfl, (by rw [show stpA1 1 ans v i = (i : Int) by rw [stpA1_1, if_pos hv1]]; rfl), rfl, Fr.tF (Fr.tG Fr.rf (by decide)) (by decide)⟩
                    · skip
                      exact absurd h92 (by decide)
                  · skip
                    exact absurd h77 (by decide)
                · skip
                  exact absurd h57 (by decide)
          · skip
            exact absurd h19 (by decide)
    · skip
      refine r_ild1 (pc := 0) dX6_qTakes_0 ?_
      refine r_iconst (v := nI 3) (pc := 1) dX6_qTakes_1 (by decide) ?_
      first | refine r_icmp_geN (pc := 2) (tgt := 15) dX6_qTakes_2 (by decide) (by omega) (by omega) (fun h2 => ?_) (fun h2 => ?_) | refine r_icmp_ge (pc := 2) (tgt := 15) dX6_qTakes_2 (by decide) (fun h2 => ?_) (fun h2 => ?_)
      · skip
        exact absurd h2 (by decide)
      · skip
        refine r_lld2 (pc := 5) dX6_qTakes_5 ?_
        refine r_lconst (v := lI 1) (pc := 6) dX6_qTakes_6 rfl ?_
        refine r_lcmp (pc := 7) dX6_qTakes_7 ?_
        first | refine r_if_neCI (pc := 8) (tgt := 15) dX6_qTakes_8 (by decide) (by constructor <;> omega) (by constructor <;> omega) (fun h8 => ?_) (fun h8 => ?_) | refine r_if_neC (pc := 8) (tgt := 15) dX6_qTakes_8 (by decide) (fun h8 => ?_) (fun h8 => ?_)
        · skip
          refine r_iconst (v := nI 0) (pc := 15) dX6_qTakes_15 (by decide) ?_
          refine r_ist5 (pc := 16) dX6_qTakes_16 ?_
          refine r_ild1 (pc := 18) dX6_qTakes_18 ?_
          first | refine r_if_neZ (pc := 19) (tgt := 38) dX6_qTakes_19 (by decide) (fun h19 => ?_) (fun h19 => ?_) | refine r_if_neN (pc := 19) (tgt := 38) dX6_qTakes_19 (by decide) (by omega) (fun h19 => ?_) (fun h19 => ?_) | refine r_if_ne (pc := 19) (tgt := 38) dX6_qTakes_19 (by decide) (fun h19 => ?_) (fun h19 => ?_)
          · skip
            refine r_ild1 (pc := 38) dX6_qTakes_38 ?_
            refine r_iconst (v := nI 1) (pc := 39) dX6_qTakes_39 (by decide) ?_
            first | refine r_icmp_neN (pc := 40) (tgt := 55) dX6_qTakes_40 (by decide) (by omega) (by omega) (fun h40 => ?_) (fun h40 => ?_) | refine r_icmp_ne (pc := 40) (tgt := 55) dX6_qTakes_40 (by decide) (fun h40 => ?_) (fun h40 => ?_)
            · skip
              exact absurd h40 (by decide)
            · skip
              refine r_ild5 (pc := 43) dX6_qTakes_43 ?_
              first | refine r_if_eqZ (pc := 45) (tgt := 55) dX6_qTakes_45 (by decide) (fun h45 => ?_) (fun h45 => ?_) | refine r_if_eqN (pc := 45) (tgt := 55) dX6_qTakes_45 (by decide) (by omega) (fun h45 => ?_) (fun h45 => ?_) | refine r_if_eq (pc := 45) (tgt := 55) dX6_qTakes_45 (by decide) (fun h45 => ?_) (fun h45 => ?_)
              · skip
                refine r_ild1 (pc := 55) dX6_qTakes_55 ?_
                refine r_iconst (v := nI 2) (pc := 56) dX6_qTakes_56 (by decide) ?_
                first | refine r_icmp_neN (pc := 57) (tgt := 75) dX6_qTakes_57 (by decide) (by omega) (by omega) (fun h57 => ?_) (fun h57 => ?_) | refine r_icmp_ne (pc := 57) (tgt := 75) dX6_qTakes_57 (by decide) (fun h57 => ?_) (fun h57 => ?_)
                · skip
                  refine r_ild1 (pc := 75) dX6_qTakes_75 ?_
                  refine r_iconst (v := nI 3) (pc := 76) dX6_qTakes_76 (by decide) ?_
                  first | refine r_icmp_neN (pc := 77) (tgt := 90) dX6_qTakes_77 (by decide) (by omega) (by omega) (fun h77 => ?_) (fun h77 => ?_) | refine r_icmp_ne (pc := 77) (tgt := 90) dX6_qTakes_77 (by decide) (fun h77 => ?_) (fun h77 => ?_)
                  · skip
                    refine r_ild1 (pc := 90) dX6_qTakes_90 ?_
                    refine r_iconst (v := nI 3) (pc := 91) dX6_qTakes_91 (by decide) ?_
                    first | refine r_icmp_leN (pc := 92) (tgt := 133) dX6_qTakes_92 (by decide) (by omega) (by omega) (fun h92 => ?_) (fun h92 => ?_) | refine r_icmp_le (pc := 92) (tgt := 133) dX6_qTakes_92 (by decide) (fun h92 => ?_) (fun h92 => ?_)
                    · skip
                      refine r_ald0 (pc := 133) dX6_qTakes_133 ?_
                      refine r_iconst (v := nI 0) (pc := 134) dX6_qTakes_134 (by decide) ?_
                      refine m_putI hS (pc := 135) dX6_qTakes_135 fl_X6_674 fw_X6_110 (by first | rfl | exact zI_nar | assumption) (by first | rfl | exact zI_fit | assumption) ?_
                      refine r_vret (pc := 138) dX6_qTakes_138 ?_
                      exact ⟨_, rfl, rfl, (by rw [show stpA1 1 ans v i = ans by rw [stpA1_1, if_neg hv1]]; exact h109), rfl, Fr.tF Fr.rf (by decide)⟩
                    · skip
                      exact absurd h92 (by decide)
                  · skip
                    exact absurd h77 (by decide)
                · skip
                  exact absurd h57 (by decide)
              · skip
                exact absurd h45 (by decide)
          · skip
            exact absurd h19 (by decide)
        · skip
          exact absurd h8 hv1
  · by_cases hv1 : v = 1
    · skip
      refine r_ild1 (pc := 0) dX6_qTakes_0 ?_
      refine r_iconst (v := nI 3) (pc := 1) dX6_qTakes_1 (by decide) ?_
      first | refine r_icmp_geN (pc := 2) (tgt := 15) dX6_qTakes_2 (by decide) (by omega) (by omega) (fun h2 => ?_) (fun h2 => ?_) | refine r_icmp_ge (pc := 2) (tgt := 15) dX6_qTakes_2 (by decide) (fun h2 => ?_) (fun h2 => ?_)
      · skip
        exact absurd h2 (by decide)
      · skip
        refine r_lld2 (pc := 5) dX6_qTakes_5 ?_
        refine r_lconst (v := lI 1) (pc := 6) dX6_qTakes_6 rfl ?_
        refine r_lcmp (pc := 7) dX6_qTakes_7 ?_
        first | refine r_if_neCI (pc := 8) (tgt := 15) dX6_qTakes_8 (by decide) (by constructor <;> omega) (by constructor <;> omega) (fun h8 => ?_) (fun h8 => ?_) | refine r_if_neC (pc := 8) (tgt := 15) dX6_qTakes_8 (by decide) (fun h8 => ?_) (fun h8 => ?_)
        · skip
          exact absurd hv1 h8
        · skip
          refine r_iconst (v := nI 1) (pc := 11) dX6_qTakes_11 (by decide) ?_
          refine r_goto (pc := 12) (tgt := 16) dX6_qTakes_12 (by decide) ?_
          refine r_ist5 (pc := 16) dX6_qTakes_16 ?_
          refine r_ild1 (pc := 18) dX6_qTakes_18 ?_
          first | refine r_if_neZ (pc := 19) (tgt := 38) dX6_qTakes_19 (by decide) (fun h19 => ?_) (fun h19 => ?_) | refine r_if_neN (pc := 19) (tgt := 38) dX6_qTakes_19 (by decide) (by omega) (fun h19 => ?_) (fun h19 => ?_) | refine r_if_ne (pc := 19) (tgt := 38) dX6_qTakes_19 (by decide) (fun h19 => ?_) (fun h19 => ?_)
          · skip
            refine r_ild1 (pc := 38) dX6_qTakes_38 ?_
            refine r_iconst (v := nI 1) (pc := 39) dX6_qTakes_39 (by decide) ?_
            first | refine r_icmp_neN (pc := 40) (tgt := 55) dX6_qTakes_40 (by decide) (by omega) (by omega) (fun h40 => ?_) (fun h40 => ?_) | refine r_icmp_ne (pc := 40) (tgt := 55) dX6_qTakes_40 (by decide) (fun h40 => ?_) (fun h40 => ?_)
            · skip
              refine r_ild1 (pc := 55) dX6_qTakes_55 ?_
              refine r_iconst (v := nI 2) (pc := 56) dX6_qTakes_56 (by decide) ?_
              first | refine r_icmp_neN (pc := 57) (tgt := 75) dX6_qTakes_57 (by decide) (by omega) (by omega) (fun h57 => ?_) (fun h57 => ?_) | refine r_icmp_ne (pc := 57) (tgt := 75) dX6_qTakes_57 (by decide) (fun h57 => ?_) (fun h57 => ?_)
              · skip
                exact absurd h57 (by decide)
              · skip
                refine r_ild5 (pc := 60) dX6_qTakes_60 ?_
                first | refine r_if_eqZ (pc := 62) (tgt := 75) dX6_qTakes_62 (by decide) (fun h62 => ?_) (fun h62 => ?_) | refine r_if_eqN (pc := 62) (tgt := 75) dX6_qTakes_62 (by decide) (by omega) (fun h62 => ?_) (fun h62 => ?_) | refine r_if_eq (pc := 62) (tgt := 75) dX6_qTakes_62 (by decide) (fun h62 => ?_) (fun h62 => ?_)
                · skip
                  exact absurd h62 (by decide)
                · skip
                  refine r_ald0 (pc := 65) dX6_qTakes_65 ?_
                  refine r_dup (pc := 66) dX6_qTakes_66 rfl ?_
                  refine m_getL hS (pc := 67) dX6_qTakes_67 fl_X6_669 ?_
                  refine Bd.eqL h109 ?_
                  refine r_lconst (v := lI 1) (pc := 70) dX6_qTakes_70 rfl ?_
                  first | refine r_laddI (pc := 71) dX6_qTakes_71 ?_ | refine r_ladd (pc := 71) dX6_qTakes_71 ?_
                  refine m_putL hS (pc := 72) dX6_qTakes_72 fl_X6_669 fw_X6_109 ?_
                  refine r_ild1 (pc := 75) dX6_qTakes_75 ?_
                  refine r_iconst (v := nI 3) (pc := 76) dX6_qTakes_76 (by decide) ?_
                  first | refine r_icmp_neN (pc := 77) (tgt := 90) dX6_qTakes_77 (by decide) (by omega) (by omega) (fun h77 => ?_) (fun h77 => ?_) | refine r_icmp_ne (pc := 77) (tgt := 90) dX6_qTakes_77 (by decide) (fun h77 => ?_) (fun h77 => ?_)
                  · skip
                    refine r_ild1 (pc := 90) dX6_qTakes_90 ?_
                    refine r_iconst (v := nI 3) (pc := 91) dX6_qTakes_91 (by decide) ?_
                    first | refine r_icmp_leN (pc := 92) (tgt := 133) dX6_qTakes_92 (by decide) (by omega) (by omega) (fun h92 => ?_) (fun h92 => ?_) | refine r_icmp_le (pc := 92) (tgt := 133) dX6_qTakes_92 (by decide) (fun h92 => ?_) (fun h92 => ?_)
                    · skip
                      refine r_ald0 (pc := 133) dX6_qTakes_133 ?_
                      refine r_iconst (v := nI 0) (pc := 134) dX6_qTakes_134 (by decide) ?_
                      refine m_putI hS (pc := 135) dX6_qTakes_135 fl_X6_674 fw_X6_110 (by first | rfl | exact zI_nar | assumption) (by first | rfl | exact zI_fit | assumption) ?_
                      refine r_vret (pc := 138) dX6_qTakes_138 ?_
                      exact ⟨_, rfl, rfl, (by rw [show stpA1 2 ans v i = ans + 1 by rw [stpA1_2, if_pos hv1]]; rfl), rfl, Fr.tF (Fr.tG Fr.rf (by decide)) (by decide)⟩
                    · skip
                      exact absurd h92 (by decide)
                  · skip
                    exact absurd h77 (by decide)
            · skip
              exact absurd h40 (by decide)
          · skip
            exact absurd h19 (by decide)
    · skip
      refine r_ild1 (pc := 0) dX6_qTakes_0 ?_
      refine r_iconst (v := nI 3) (pc := 1) dX6_qTakes_1 (by decide) ?_
      first | refine r_icmp_geN (pc := 2) (tgt := 15) dX6_qTakes_2 (by decide) (by omega) (by omega) (fun h2 => ?_) (fun h2 => ?_) | refine r_icmp_ge (pc := 2) (tgt := 15) dX6_qTakes_2 (by decide) (fun h2 => ?_) (fun h2 => ?_)
      · skip
        exact absurd h2 (by decide)
      · skip
        refine r_lld2 (pc := 5) dX6_qTakes_5 ?_
        refine r_lconst (v := lI 1) (pc := 6) dX6_qTakes_6 rfl ?_
        refine r_lcmp (pc := 7) dX6_qTakes_7 ?_
        first | refine r_if_neCI (pc := 8) (tgt := 15) dX6_qTakes_8 (by decide) (by constructor <;> omega) (by constructor <;> omega) (fun h8 => ?_) (fun h8 => ?_) | refine r_if_neC (pc := 8) (tgt := 15) dX6_qTakes_8 (by decide) (fun h8 => ?_) (fun h8 => ?_)
        · skip
          refine r_iconst (v := nI 0) (pc := 15) dX6_qTakes_15 (by decide) ?_
          refine r_ist5 (pc := 16) dX6_qTakes_16 ?_
          refine r_ild1 (pc := 18) dX6_qTakes_18 ?_
          first | refine r_if_neZ (pc := 19) (tgt := 38) dX6_qTakes_19 (by decide) (fun h19 => ?_) (fun h19 => ?_) | refine r_if_neN (pc := 19) (tgt := 38) dX6_qTakes_19 (by decide) (by omega) (fun h19 => ?_) (fun h19 => ?_) | refine r_if_ne (pc := 19) (tgt := 38) dX6_qTakes_19 (by decide) (fun h19 => ?_) (fun h19 => ?_)
          · skip
            refine r_ild1 (pc := 38) dX6_qTakes_38 ?_
            refine r_iconst (v := nI 1) (pc := 39) dX6_qTakes_39 (by decide) ?_
            first | refine r_icmp_neN (pc := 40) (tgt := 55) dX6_qTakes_40 (by decide) (by omega) (by omega) (fun h40 => ?_) (fun h40 => ?_) | refine r_icmp_ne (pc := 40) (tgt := 55) dX6_qTakes_40 (by decide) (fun h40 => ?_) (fun h40 => ?_)
            · skip
              refine r_ild1 (pc := 55) dX6_qTakes_55 ?_
              refine r_iconst (v := nI 2) (pc := 56) dX6_qTakes_56 (by decide) ?_
              first | refine r_icmp_neN (pc := 57) (tgt := 75) dX6_qTakes_57 (by decide) (by omega) (by omega) (fun h57 => ?_) (fun h57 => ?_) | refine r_icmp_ne (pc := 57) (tgt := 75) dX6_qTakes_57 (by decide) (fun h57 => ?_) (fun h57 => ?_)
              · skip
                exact absurd h57 (by decide)
              · skip
                refine r_ild5 (pc := 60) dX6_qTakes_60 ?_
                first | refine r_if_eqZ (pc := 62) (tgt := 75) dX6_qTakes_62 (by decide) (fun h62 => ?_) (fun h62 => ?_) | refine r_if_eqN (pc := 62) (tgt := 75) dX6_qTakes_62 (by decide) (by omega) (fun h62 => ?_) (fun h62 => ?_) | refine r_if_eq (pc := 62) (tgt := 75) dX6_qTakes_62 (by decide) (fun h62 => ?_) (fun h62 => ?_)
                · skip
                  refine r_ild1 (pc := 75) dX6_qTakes_75 ?_
                  refine r_iconst (v := nI 3) (pc := 76) dX6_qTakes_76 (by decide) ?_
                  first | refine r_icmp_neN (pc := 77) (tgt := 90) dX6_qTakes_77 (by decide) (by omega) (by omega) (fun h77 => ?_) (fun h77 => ?_) | refine r_icmp_ne (pc := 77) (tgt := 90) dX6_qTakes_77 (by decide) (fun h77 => ?_) (fun h77 => ?_)
                  · skip
                    refine r_ild1 (pc := 90) dX6_qTakes_90 ?_
                    refine r_iconst (v := nI 3) (pc := 91) dX6_qTakes_91 (by decide) ?_
                    first | refine r_icmp_leN (pc := 92) (tgt := 133) dX6_qTakes_92 (by decide) (by omega) (by omega) (fun h92 => ?_) (fun h92 => ?_) | refine r_icmp_le (pc := 92) (tgt := 133) dX6_qTakes_92 (by decide) (fun h92 => ?_) (fun h92 => ?_)
                    · skip
                      refine r_ald0 (pc := 133) dX6_qTakes_133 ?_
                      refine r_iconst (v := nI 0) (pc := 134) dX6_qTakes_134 (by decide) ?_
                      refine m_putI hS (pc := 135) dX6_qTakes_135 fl_X6_674 fw_X6_110 (by first | rfl | exact zI_nar | assumption) (by first | rfl | exact zI_fit | assumption) ?_
                      refine r_vret (pc := 138) dX6_qTakes_138 ?_
                      exact ⟨_, rfl, rfl, (by rw [show stpA1 2 ans v i = ans by rw [stpA1_2, if_neg hv1]]; exact h109), rfl, Fr.tF Fr.rf (by decide)⟩
                    · skip
                      exact absurd h92 (by decide)
                  · skip
                    exact absurd h77 (by decide)
                · skip
                  exact absurd h62 (by decide)
            · skip
              exact absurd h40 (by decide)
          · skip
            exact absurd h19 (by decide)
        · skip
          exact absurd h8 hv1
  · skip
    refine r_ild1 (pc := 0) dX6_qTakes_0 ?_
    refine r_iconst (v := nI 3) (pc := 1) dX6_qTakes_1 (by decide) ?_
    first | refine r_icmp_geN (pc := 2) (tgt := 15) dX6_qTakes_2 (by decide) (by omega) (by omega) (fun h2 => ?_) (fun h2 => ?_) | refine r_icmp_ge (pc := 2) (tgt := 15) dX6_qTakes_2 (by decide) (fun h2 => ?_) (fun h2 => ?_)
    · skip
      refine r_iconst (v := nI 0) (pc := 15) dX6_qTakes_15 (by decide) ?_
      refine r_ist5 (pc := 16) dX6_qTakes_16 ?_
      refine r_ild1 (pc := 18) dX6_qTakes_18 ?_
      first | refine r_if_neZ (pc := 19) (tgt := 38) dX6_qTakes_19 (by decide) (fun h19 => ?_) (fun h19 => ?_) | refine r_if_neN (pc := 19) (tgt := 38) dX6_qTakes_19 (by decide) (by omega) (fun h19 => ?_) (fun h19 => ?_) | refine r_if_ne (pc := 19) (tgt := 38) dX6_qTakes_19 (by decide) (fun h19 => ?_) (fun h19 => ?_)
      · skip
        refine r_ild1 (pc := 38) dX6_qTakes_38 ?_
        refine r_iconst (v := nI 1) (pc := 39) dX6_qTakes_39 (by decide) ?_
        first | refine r_icmp_neN (pc := 40) (tgt := 55) dX6_qTakes_40 (by decide) (by omega) (by omega) (fun h40 => ?_) (fun h40 => ?_) | refine r_icmp_ne (pc := 40) (tgt := 55) dX6_qTakes_40 (by decide) (fun h40 => ?_) (fun h40 => ?_)
        · skip
          refine r_ild1 (pc := 55) dX6_qTakes_55 ?_
          refine r_iconst (v := nI 2) (pc := 56) dX6_qTakes_56 (by decide) ?_
          first | refine r_icmp_neN (pc := 57) (tgt := 75) dX6_qTakes_57 (by decide) (by omega) (by omega) (fun h57 => ?_) (fun h57 => ?_) | refine r_icmp_ne (pc := 57) (tgt := 75) dX6_qTakes_57 (by decide) (fun h57 => ?_) (fun h57 => ?_)
          · skip
            refine r_ild1 (pc := 75) dX6_qTakes_75 ?_
            refine r_iconst (v := nI 3) (pc := 76) dX6_qTakes_76 (by decide) ?_
            first | refine r_icmp_neN (pc := 77) (tgt := 90) dX6_qTakes_77 (by decide) (by omega) (by omega) (fun h77 => ?_) (fun h77 => ?_) | refine r_icmp_ne (pc := 77) (tgt := 90) dX6_qTakes_77 (by decide) (fun h77 => ?_) (fun h77 => ?_)
            · skip
              exact absurd h77 (by decide)
            · skip
              refine r_ald0 (pc := 80) dX6_qTakes_80 ?_
              refine r_dup (pc := 81) dX6_qTakes_81 rfl ?_
              refine m_getL hS (pc := 82) dX6_qTakes_82 fl_X6_669 ?_
              refine Bd.eqL h109 ?_
              refine r_lld2 (pc := 85) dX6_qTakes_85 ?_
              first | refine r_laddI (pc := 86) dX6_qTakes_86 ?_ | refine r_ladd (pc := 86) dX6_qTakes_86 ?_
              refine m_putL hS (pc := 87) dX6_qTakes_87 fl_X6_669 fw_X6_109 ?_
              refine r_ild1 (pc := 90) dX6_qTakes_90 ?_
              refine r_iconst (v := nI 3) (pc := 91) dX6_qTakes_91 (by decide) ?_
              first | refine r_icmp_leN (pc := 92) (tgt := 133) dX6_qTakes_92 (by decide) (by omega) (by omega) (fun h92 => ?_) (fun h92 => ?_) | refine r_icmp_le (pc := 92) (tgt := 133) dX6_qTakes_92 (by decide) (fun h92 => ?_) (fun h92 => ?_)
              · skip
                refine r_ald0 (pc := 133) dX6_qTakes_133 ?_
                refine r_iconst (v := nI 0) (pc := 134) dX6_qTakes_134 (by decide) ?_
                refine m_putI hS (pc := 135) dX6_qTakes_135 fl_X6_674 fw_X6_110 (by first | rfl | exact zI_nar | assumption) (by first | rfl | exact zI_fit | assumption) ?_
                refine r_vret (pc := 138) dX6_qTakes_138 ?_
                exact ⟨_, rfl, rfl, (by rw [show stpA1 3 ans v i = ans + v by rw [stpA1_3]]; rfl), rfl, Fr.tF (Fr.tG Fr.rf (by decide)) (by decide)⟩
              · skip
                exact absurd h92 (by decide)
          · skip
            exact absurd h57 (by decide)
        · skip
          exact absurd h40 (by decide)
      · skip
        exact absurd h19 (by decide)
    · skip
      exact absurd h2 (by decide)
  · by_cases hi0 : i = 0
    · skip
      refine r_ild1 (pc := 0) dX6_qTakes_0 ?_
      refine r_iconst (v := nI 3) (pc := 1) dX6_qTakes_1 (by decide) ?_
      first | refine r_icmp_geN (pc := 2) (tgt := 15) dX6_qTakes_2 (by decide) (by omega) (by omega) (fun h2 => ?_) (fun h2 => ?_) | refine r_icmp_ge (pc := 2) (tgt := 15) dX6_qTakes_2 (by decide) (fun h2 => ?_) (fun h2 => ?_)
      · skip
        refine r_iconst (v := nI 0) (pc := 15) dX6_qTakes_15 (by decide) ?_
        refine r_ist5 (pc := 16) dX6_qTakes_16 ?_
        refine r_ild1 (pc := 18) dX6_qTakes_18 ?_
        first | refine r_if_neZ (pc := 19) (tgt := 38) dX6_qTakes_19 (by decide) (fun h19 => ?_) (fun h19 => ?_) | refine r_if_neN (pc := 19) (tgt := 38) dX6_qTakes_19 (by decide) (by omega) (fun h19 => ?_) (fun h19 => ?_) | refine r_if_ne (pc := 19) (tgt := 38) dX6_qTakes_19 (by decide) (fun h19 => ?_) (fun h19 => ?_)
        · skip
          refine r_ild1 (pc := 38) dX6_qTakes_38 ?_
          refine r_iconst (v := nI 1) (pc := 39) dX6_qTakes_39 (by decide) ?_
          first | refine r_icmp_neN (pc := 40) (tgt := 55) dX6_qTakes_40 (by decide) (by omega) (by omega) (fun h40 => ?_) (fun h40 => ?_) | refine r_icmp_ne (pc := 40) (tgt := 55) dX6_qTakes_40 (by decide) (fun h40 => ?_) (fun h40 => ?_)
          · skip
            refine r_ild1 (pc := 55) dX6_qTakes_55 ?_
            refine r_iconst (v := nI 2) (pc := 56) dX6_qTakes_56 (by decide) ?_
            first | refine r_icmp_neN (pc := 57) (tgt := 75) dX6_qTakes_57 (by decide) (by omega) (by omega) (fun h57 => ?_) (fun h57 => ?_) | refine r_icmp_ne (pc := 57) (tgt := 75) dX6_qTakes_57 (by decide) (fun h57 => ?_) (fun h57 => ?_)
            · skip
              refine r_ild1 (pc := 75) dX6_qTakes_75 ?_
              refine r_iconst (v := nI 3) (pc := 76) dX6_qTakes_76 (by decide) ?_
              first | refine r_icmp_neN (pc := 77) (tgt := 90) dX6_qTakes_77 (by decide) (by omega) (by omega) (fun h77 => ?_) (fun h77 => ?_) | refine r_icmp_ne (pc := 77) (tgt := 90) dX6_qTakes_77 (by decide) (fun h77 => ?_) (fun h77 => ?_)
              · skip
                refine r_ild1 (pc := 90) dX6_qTakes_90 ?_
                refine r_iconst (v := nI 3) (pc := 91) dX6_qTakes_91 (by decide) ?_
                first | refine r_icmp_leN (pc := 92) (tgt := 133) dX6_qTakes_92 (by decide) (by omega) (by omega) (fun h92 => ?_) (fun h92 => ?_) | refine r_icmp_le (pc := 92) (tgt := 133) dX6_qTakes_92 (by decide) (fun h92 => ?_) (fun h92 => ?_)
                · skip
                  exact absurd h92 (by decide)
                · skip
                  refine r_ald0 (pc := 95) dX6_qTakes_95 ?_
                  refine m_getI hS (pc := 96) dX6_qTakes_96 fl_X6_674 ?_
                  refine Bd.eqI h110 ?_
                  first | refine r_if_neZ (pc := 99) (tgt := 128) dX6_qTakes_99 (by decide) (fun h99 => ?_) (fun h99 => ?_) | refine r_if_neN (pc := 99) (tgt := 128) dX6_qTakes_99 (by decide) (by omega) (fun h99 => ?_) (fun h99 => ?_) | refine r_if_ne (pc := 99) (tgt := 128) dX6_qTakes_99 (by decide) (fun h99 => ?_) (fun h99 => ?_)
                  · skip
                    refine r_ald0 (pc := 128) dX6_qTakes_128 ?_
                    refine r_lld2 (pc := 129) dX6_qTakes_129 ?_
                    refine m_putL hS (pc := 130) dX6_qTakes_130 fl_X6_669 fw_X6_109 ?_
                    refine r_ald0 (pc := 133) dX6_qTakes_133 ?_
                    refine r_iconst (v := nI 0) (pc := 134) dX6_qTakes_134 (by decide) ?_
                    refine m_putI hS (pc := 135) dX6_qTakes_135 fl_X6_674 fw_X6_110 (by first | rfl | exact zI_nar | assumption) (by first | rfl | exact zI_fit | assumption) ?_
                    refine r_vret (pc := 138) dX6_qTakes_138 ?_
                    exact ⟨_, rfl, rfl, (by rw [show stpA1 4 ans v i = v by rw [stpA1_4, if_pos (Or.inl hi0)]]; rfl), rfl, Fr.tF (Fr.tG Fr.rf (by decide)) (by decide)⟩
                  · skip
                    exact absurd hi0 h99
              · skip
                exact absurd h77 (by decide)
            · skip
              exact absurd h57 (by decide)
          · skip
            exact absurd h40 (by decide)
        · skip
          exact absurd h19 (by decide)
      · skip
        exact absurd h2 (by decide)
    · by_cases hlt : ans < v
      · skip
        refine r_ild1 (pc := 0) dX6_qTakes_0 ?_
        refine r_iconst (v := nI 3) (pc := 1) dX6_qTakes_1 (by decide) ?_
        first | refine r_icmp_geN (pc := 2) (tgt := 15) dX6_qTakes_2 (by decide) (by omega) (by omega) (fun h2 => ?_) (fun h2 => ?_) | refine r_icmp_ge (pc := 2) (tgt := 15) dX6_qTakes_2 (by decide) (fun h2 => ?_) (fun h2 => ?_)
        · skip
          refine r_iconst (v := nI 0) (pc := 15) dX6_qTakes_15 (by decide) ?_
          refine r_ist5 (pc := 16) dX6_qTakes_16 ?_
          refine r_ild1 (pc := 18) dX6_qTakes_18 ?_
          first | refine r_if_neZ (pc := 19) (tgt := 38) dX6_qTakes_19 (by decide) (fun h19 => ?_) (fun h19 => ?_) | refine r_if_neN (pc := 19) (tgt := 38) dX6_qTakes_19 (by decide) (by omega) (fun h19 => ?_) (fun h19 => ?_) | refine r_if_ne (pc := 19) (tgt := 38) dX6_qTakes_19 (by decide) (fun h19 => ?_) (fun h19 => ?_)
          · skip
            refine r_ild1 (pc := 38) dX6_qTakes_38 ?_
            refine r_iconst (v := nI 1) (pc := 39) dX6_qTakes_39 (by decide) ?_
            first | refine r_icmp_neN (pc := 40) (tgt := 55) dX6_qTakes_40 (by decide) (by omega) (by omega) (fun h40 => ?_) (fun h40 => ?_) | refine r_icmp_ne (pc := 40) (tgt := 55) dX6_qTakes_40 (by decide) (fun h40 => ?_) (fun h40 => ?_)
            · skip
              refine r_ild1 (pc := 55) dX6_qTakes_55 ?_
              refine r_iconst (v := nI 2) (pc := 56) dX6_qTakes_56 (by decide) ?_
              first | refine r_icmp_neN (pc := 57) (tgt := 75) dX6_qTakes_57 (by decide) (by omega) (by omega) (fun h57 => ?_) (fun h57 => ?_) | refine r_icmp_ne (pc := 57) (tgt := 75) dX6_qTakes_57 (by decide) (fun h57 => ?_) (fun h57 => ?_)
              · skip
                refine r_ild1 (pc := 75) dX6_qTakes_75 ?_
                refine r_iconst (v := nI 3) (pc := 76) dX6_qTakes_76 (by decide) ?_
                first | refine r_icmp_neN (pc := 77) (tgt := 90) dX6_qTakes_77 (by decide) (by omega) (by omega) (fun h77 => ?_) (fun h77 => ?_) | refine r_icmp_ne (pc := 77) (tgt := 90) dX6_qTakes_77 (by decide) (fun h77 => ?_) (fun h77 => ?_)
                · skip
                  refine r_ild1 (pc := 90) dX6_qTakes_90 ?_
                  refine r_iconst (v := nI 3) (pc := 91) dX6_qTakes_91 (by decide) ?_
                  first | refine r_icmp_leN (pc := 92) (tgt := 133) dX6_qTakes_92 (by decide) (by omega) (by omega) (fun h92 => ?_) (fun h92 => ?_) | refine r_icmp_le (pc := 92) (tgt := 133) dX6_qTakes_92 (by decide) (fun h92 => ?_) (fun h92 => ?_)
                  · skip
                    exact absurd h92 (by decide)
                  · skip
                    refine r_ald0 (pc := 95) dX6_qTakes_95 ?_
                    refine m_getI hS (pc := 96) dX6_qTakes_96 fl_X6_674 ?_
                    refine Bd.eqI h110 ?_
                    first | refine r_if_neZ (pc := 99) (tgt := 128) dX6_qTakes_99 (by decide) (fun h99 => ?_) (fun h99 => ?_) | refine r_if_neN (pc := 99) (tgt := 128) dX6_qTakes_99 (by decide) (by omega) (fun h99 => ?_) (fun h99 => ?_) | refine r_if_ne (pc := 99) (tgt := 128) dX6_qTakes_99 (by decide) (fun h99 => ?_) (fun h99 => ?_)
                    · skip
                      exact absurd h99 hi0
                    · skip
                      refine r_ild1 (pc := 102) dX6_qTakes_102 ?_
                      refine r_iconst (v := nI 4) (pc := 103) dX6_qTakes_103 (by decide) ?_
                      first | refine r_icmp_neN (pc := 104) (tgt := 119) dX6_qTakes_104 (by decide) (by omega) (by omega) (fun h104 => ?_) (fun h104 => ?_) | refine r_icmp_ne (pc := 104) (tgt := 119) dX6_qTakes_104 (by decide) (fun h104 => ?_) (fun h104 => ?_)
                      · skip
                        exact absurd h104 (by decide)
                      · skip
                        refine r_lld2 (pc := 107) dX6_qTakes_107 ?_
                        refine r_ald0 (pc := 108) dX6_qTakes_108 ?_
                        refine m_getL hS (pc := 109) dX6_qTakes_109 fl_X6_669 ?_
                        refine Bd.eqL h109 ?_
                        refine r_lcmp (pc := 112) dX6_qTakes_112 ?_
                        first | refine r_if_leCI (pc := 113) (tgt := 133) dX6_qTakes_113 (by decide) (by constructor <;> omega) (by constructor <;> omega) (fun h113 => ?_) (fun h113 => ?_) | refine r_if_leC (pc := 113) (tgt := 133) dX6_qTakes_113 (by decide) (fun h113 => ?_) (fun h113 => ?_)
                        · skip
                          exact absurd h113 (by omega)
                        · skip
                          refine r_goto (pc := 116) (tgt := 128) dX6_qTakes_116 (by decide) ?_
                          refine r_ald0 (pc := 128) dX6_qTakes_128 ?_
                          refine r_lld2 (pc := 129) dX6_qTakes_129 ?_
                          refine m_putL hS (pc := 130) dX6_qTakes_130 fl_X6_669 fw_X6_109 ?_
                          refine r_ald0 (pc := 133) dX6_qTakes_133 ?_
                          refine r_iconst (v := nI 0) (pc := 134) dX6_qTakes_134 (by decide) ?_
                          refine m_putI hS (pc := 135) dX6_qTakes_135 fl_X6_674 fw_X6_110 (by first | rfl | exact zI_nar | assumption) (by first | rfl | exact zI_fit | assumption) ?_
                          refine r_vret (pc := 138) dX6_qTakes_138 ?_
                          exact ⟨_, rfl, rfl, (by rw [show stpA1 4 ans v i = v by rw [stpA1_4, if_pos (Or.inr hlt)]]; rfl), rfl, Fr.tF (Fr.tG Fr.rf (by decide)) (by decide)⟩
                · skip
                  exact absurd h77 (by decide)
              · skip
                exact absurd h57 (by decide)
            · skip
              exact absurd h40 (by decide)
          · skip
            exact absurd h19 (by decide)
        · skip
          exact absurd h2 (by decide)
      · skip
        refine r_ild1 (pc := 0) dX6_qTakes_0 ?_
        refine r_iconst (v := nI 3) (pc := 1) dX6_qTakes_1 (by decide) ?_
        first | refine r_icmp_geN (pc := 2) (tgt := 15) dX6_qTakes_2 (by decide) (by omega) (by omega) (fun h2 => ?_) (fun h2 => ?_) | refine r_icmp_ge (pc := 2) (tgt := 15) dX6_qTakes_2 (by decide) (fun h2 => ?_) (fun h2 => ?_)
        · skip
          refine r_iconst (v := nI 0) (pc := 15) dX6_qTakes_15 (by decide) ?_
          refine r_ist5 (pc := 16) dX6_qTakes_16 ?_
          refine r_ild1 (pc := 18) dX6_qTakes_18 ?_
          first | refine r_if_neZ (pc := 19) (tgt := 38) dX6_qTakes_19 (by decide) (fun h19 => ?_) (fun h19 => ?_) | refine r_if_neN (pc := 19) (tgt := 38) dX6_qTakes_19 (by decide) (by omega) (fun h19 => ?_) (fun h19 => ?_) | refine r_if_ne (pc := 19) (tgt := 38) dX6_qTakes_19 (by decide) (fun h19 => ?_) (fun h19 => ?_)
          · skip
            refine r_ild1 (pc := 38) dX6_qTakes_38 ?_
            refine r_iconst (v := nI 1) (pc := 39) dX6_qTakes_39 (by decide) ?_
            first | refine r_icmp_neN (pc := 40) (tgt := 55) dX6_qTakes_40 (by decide) (by omega) (by omega) (fun h40 => ?_) (fun h40 => ?_) | refine r_icmp_ne (pc := 40) (tgt := 55) dX6_qTakes_40 (by decide) (fun h40 => ?_) (fun h40 => ?_)
            · skip
              refine r_ild1 (pc := 55) dX6_qTakes_55 ?_
              refine r_iconst (v := nI 2) (pc := 56) dX6_qTakes_56 (by decide) ?_
              first | refine r_icmp_neN (pc := 57) (tgt := 75) dX6_qTakes_57 (by decide) (by omega) (by omega) (fun h57 => ?_) (fun h57 => ?_) | refine r_icmp_ne (pc := 57) (tgt := 75) dX6_qTakes_57 (by decide) (fun h57 => ?_) (fun h57 => ?_)
              · skip
                refine r_ild1 (pc := 75) dX6_qTakes_75 ?_
                refine r_iconst (v := nI 3) (pc := 76) dX6_qTakes_76 (by decide) ?_
                first | refine r_icmp_neN (pc := 77) (tgt := 90) dX6_qTakes_77 (by decide) (by omega) (by omega) (fun h77 => ?_) (fun h77 => ?_) | refine r_icmp_ne (pc := 77) (tgt := 90) dX6_qTakes_77 (by decide) (fun h77 => ?_) (fun h77 => ?_)
                · skip
                  refine r_ild1 (pc := 90) dX6_qTakes_90 ?_
                  refine r_iconst (v := nI 3) (pc := 91) dX6_qTakes_91 (by decide) ?_
                  first | refine r_icmp_leN (pc := 92) (tgt := 133) dX6_qTakes_92 (by decide) (by omega) (by omega) (fun h92 => ?_) (fun h92 => ?_) | refine r_icmp_le (pc := 92) (tgt := 133) dX6_qTakes_92 (by decide) (fun h92 => ?_) (fun h92 => ?_)
                  · skip
                    exact absurd h92 (by decide)
                  · skip
                    refine r_ald0 (pc := 95) dX6_qTakes_95 ?_
                    refine m_getI hS (pc := 96) dX6_qTakes_96 fl_X6_674 ?_
                    refine Bd.eqI h110 ?_
                    first | refine r_if_neZ (pc := 99) (tgt := 128) dX6_qTakes_99 (by decide) (fun h99 => ?_) (fun h99 => ?_) | refine r_if_neN (pc := 99) (tgt := 128) dX6_qTakes_99 (by decide) (by omega) (fun h99 => ?_) (fun h99 => ?_) | refine r_if_ne (pc := 99) (tgt := 128) dX6_qTakes_99 (by decide) (fun h99 => ?_) (fun h99 => ?_)
                    · skip
                      exact absurd h99 hi0
                    · skip
                      refine r_ild1 (pc := 102) dX6_qTakes_102 ?_
                      refine r_iconst (v := nI 4) (pc := 103) dX6_qTakes_103 (by decide) ?_
                      first | refine r_icmp_neN (pc := 104) (tgt := 119) dX6_qTakes_104 (by decide) (by omega) (by omega) (fun h104 => ?_) (fun h104 => ?_) | refine r_icmp_ne (pc := 104) (tgt := 119) dX6_qTakes_104 (by decide) (fun h104 => ?_) (fun h104 => ?_)
                      · skip
                        exact absurd h104 (by decide)
                      · skip
                        refine r_lld2 (pc := 107) dX6_qTakes_107 ?_
                        refine r_ald0 (pc := 108) dX6_qTakes_108 ?_
                        refine m_getL hS (pc := 109) dX6_qTakes_109 fl_X6_669 ?_
                        refine Bd.eqL h109 ?_
                        refine r_lcmp (pc := 112) dX6_qTakes_112 ?_
                        first | refine r_if_leCI (pc := 113) (tgt := 133) dX6_qTakes_113 (by decide) (by constructor <;> omega) (by constructor <;> omega) (fun h113 => ?_) (fun h113 => ?_) | refine r_if_leC (pc := 113) (tgt := 133) dX6_qTakes_113 (by decide) (fun h113 => ?_) (fun h113 => ?_)
                        · skip
                          refine r_ald0 (pc := 133) dX6_qTakes_133 ?_
                          refine r_iconst (v := nI 0) (pc := 134) dX6_qTakes_134 (by decide) ?_
                          refine m_putI hS (pc := 135) dX6_qTakes_135 fl_X6_674 fw_X6_110 (by first | rfl | exact zI_nar | assumption) (by first | rfl | exact zI_fit | assumption) ?_
                          refine r_vret (pc := 138) dX6_qTakes_138 ?_
                          exact ⟨_, rfl, rfl, (by rw [show stpA1 4 ans v i = ans by rw [stpA1_4, if_neg (by omega)]]; exact h109), rfl, Fr.tF Fr.rf (by decide)⟩
                        · skip
                          exact absurd (by omega) h113
                · skip
                  exact absurd h77 (by decide)
              · skip
                exact absurd h57 (by decide)
            · skip
              exact absurd h40 (by decide)
          · skip
            exact absurd h19 (by decide)
        · skip
          exact absurd h2 (by decide)
  · by_cases hi0 : i = 0
    · skip
      refine r_ild1 (pc := 0) dX6_qTakes_0 ?_
      refine r_iconst (v := nI 3) (pc := 1) dX6_qTakes_1 (by decide) ?_
      first | refine r_icmp_geN (pc := 2) (tgt := 15) dX6_qTakes_2 (by decide) (by omega) (by omega) (fun h2 => ?_) (fun h2 => ?_) | refine r_icmp_ge (pc := 2) (tgt := 15) dX6_qTakes_2 (by decide) (fun h2 => ?_) (fun h2 => ?_)
      · skip
        refine r_iconst (v := nI 0) (pc := 15) dX6_qTakes_15 (by decide) ?_
        refine r_ist5 (pc := 16) dX6_qTakes_16 ?_
        refine r_ild1 (pc := 18) dX6_qTakes_18 ?_
        first | refine r_if_neZ (pc := 19) (tgt := 38) dX6_qTakes_19 (by decide) (fun h19 => ?_) (fun h19 => ?_) | refine r_if_neN (pc := 19) (tgt := 38) dX6_qTakes_19 (by decide) (by omega) (fun h19 => ?_) (fun h19 => ?_) | refine r_if_ne (pc := 19) (tgt := 38) dX6_qTakes_19 (by decide) (fun h19 => ?_) (fun h19 => ?_)
        · skip
          refine r_ild1 (pc := 38) dX6_qTakes_38 ?_
          refine r_iconst (v := nI 1) (pc := 39) dX6_qTakes_39 (by decide) ?_
          first | refine r_icmp_neN (pc := 40) (tgt := 55) dX6_qTakes_40 (by decide) (by omega) (by omega) (fun h40 => ?_) (fun h40 => ?_) | refine r_icmp_ne (pc := 40) (tgt := 55) dX6_qTakes_40 (by decide) (fun h40 => ?_) (fun h40 => ?_)
          · skip
            refine r_ild1 (pc := 55) dX6_qTakes_55 ?_
            refine r_iconst (v := nI 2) (pc := 56) dX6_qTakes_56 (by decide) ?_
            first | refine r_icmp_neN (pc := 57) (tgt := 75) dX6_qTakes_57 (by decide) (by omega) (by omega) (fun h57 => ?_) (fun h57 => ?_) | refine r_icmp_ne (pc := 57) (tgt := 75) dX6_qTakes_57 (by decide) (fun h57 => ?_) (fun h57 => ?_)
            · skip
              refine r_ild1 (pc := 75) dX6_qTakes_75 ?_
              refine r_iconst (v := nI 3) (pc := 76) dX6_qTakes_76 (by decide) ?_
              first | refine r_icmp_neN (pc := 77) (tgt := 90) dX6_qTakes_77 (by decide) (by omega) (by omega) (fun h77 => ?_) (fun h77 => ?_) | refine r_icmp_ne (pc := 77) (tgt := 90) dX6_qTakes_77 (by decide) (fun h77 => ?_) (fun h77 => ?_)
              · skip
                refine r_ild1 (pc := 90) dX6_qTakes_90 ?_
                refine r_iconst (v := nI 3) (pc := 91) dX6_qTakes_91 (by decide) ?_
                first | refine r_icmp_leN (pc := 92) (tgt := 133) dX6_qTakes_92 (by decide) (by omega) (by omega) (fun h92 => ?_) (fun h92 => ?_) | refine r_icmp_le (pc := 92) (tgt := 133) dX6_qTakes_92 (by decide) (fun h92 => ?_) (fun h92 => ?_)
                · skip
                  exact absurd h92 (by decide)
                · skip
                  refine r_ald0 (pc := 95) dX6_qTakes_95 ?_
                  refine m_getI hS (pc := 96) dX6_qTakes_96 fl_X6_674 ?_
                  refine Bd.eqI h110 ?_
                  first | refine r_if_neZ (pc := 99) (tgt := 128) dX6_qTakes_99 (by decide) (fun h99 => ?_) (fun h99 => ?_) | refine r_if_neN (pc := 99) (tgt := 128) dX6_qTakes_99 (by decide) (by omega) (fun h99 => ?_) (fun h99 => ?_) | refine r_if_ne (pc := 99) (tgt := 128) dX6_qTakes_99 (by decide) (fun h99 => ?_) (fun h99 => ?_)
                  · skip
                    refine r_ald0 (pc := 128) dX6_qTakes_128 ?_
                    refine r_lld2 (pc := 129) dX6_qTakes_129 ?_
                    refine m_putL hS (pc := 130) dX6_qTakes_130 fl_X6_669 fw_X6_109 ?_
                    refine r_ald0 (pc := 133) dX6_qTakes_133 ?_
                    refine r_iconst (v := nI 0) (pc := 134) dX6_qTakes_134 (by decide) ?_
                    refine m_putI hS (pc := 135) dX6_qTakes_135 fl_X6_674 fw_X6_110 (by first | rfl | exact zI_nar | assumption) (by first | rfl | exact zI_fit | assumption) ?_
                    refine r_vret (pc := 138) dX6_qTakes_138 ?_
                    exact ⟨_, rfl, rfl, (by rw [show stpA1 5 ans v i = v by rw [stpA1_5, if_pos (Or.inl hi0)]]; rfl), rfl, Fr.tF (Fr.tG Fr.rf (by decide)) (by decide)⟩
                  · skip
                    exact absurd hi0 h99
              · skip
                exact absurd h77 (by decide)
            · skip
              exact absurd h57 (by decide)
          · skip
            exact absurd h40 (by decide)
        · skip
          exact absurd h19 (by decide)
      · skip
        exact absurd h2 (by decide)
    · by_cases hlt : v < ans
      · skip
        refine r_ild1 (pc := 0) dX6_qTakes_0 ?_
        refine r_iconst (v := nI 3) (pc := 1) dX6_qTakes_1 (by decide) ?_
        first | refine r_icmp_geN (pc := 2) (tgt := 15) dX6_qTakes_2 (by decide) (by omega) (by omega) (fun h2 => ?_) (fun h2 => ?_) | refine r_icmp_ge (pc := 2) (tgt := 15) dX6_qTakes_2 (by decide) (fun h2 => ?_) (fun h2 => ?_)
        · skip
          refine r_iconst (v := nI 0) (pc := 15) dX6_qTakes_15 (by decide) ?_
          refine r_ist5 (pc := 16) dX6_qTakes_16 ?_
          refine r_ild1 (pc := 18) dX6_qTakes_18 ?_
          first | refine r_if_neZ (pc := 19) (tgt := 38) dX6_qTakes_19 (by decide) (fun h19 => ?_) (fun h19 => ?_) | refine r_if_neN (pc := 19) (tgt := 38) dX6_qTakes_19 (by decide) (by omega) (fun h19 => ?_) (fun h19 => ?_) | refine r_if_ne (pc := 19) (tgt := 38) dX6_qTakes_19 (by decide) (fun h19 => ?_) (fun h19 => ?_)
          · skip
            refine r_ild1 (pc := 38) dX6_qTakes_38 ?_
            refine r_iconst (v := nI 1) (pc := 39) dX6_qTakes_39 (by decide) ?_
            first | refine r_icmp_neN (pc := 40) (tgt := 55) dX6_qTakes_40 (by decide) (by omega) (by omega) (fun h40 => ?_) (fun h40 => ?_) | refine r_icmp_ne (pc := 40) (tgt := 55) dX6_qTakes_40 (by decide) (fun h40 => ?_) (fun h40 => ?_)
            · skip
              refine r_ild1 (pc := 55) dX6_qTakes_55 ?_
              refine r_iconst (v := nI 2) (pc := 56) dX6_qTakes_56 (by decide) ?_
              first | refine r_icmp_neN (pc := 57) (tgt := 75) dX6_qTakes_57 (by decide) (by omega) (by omega) (fun h57 => ?_) (fun h57 => ?_) | refine r_icmp_ne (pc := 57) (tgt := 75) dX6_qTakes_57 (by decide) (fun h57 => ?_) (fun h57 => ?_)
              · skip
                refine r_ild1 (pc := 75) dX6_qTakes_75 ?_
                refine r_iconst (v := nI 3) (pc := 76) dX6_qTakes_76 (by decide) ?_
                first | refine r_icmp_neN (pc := 77) (tgt := 90) dX6_qTakes_77 (by decide) (by omega) (by omega) (fun h77 => ?_) (fun h77 => ?_) | refine r_icmp_ne (pc := 77) (tgt := 90) dX6_qTakes_77 (by decide) (fun h77 => ?_) (fun h77 => ?_)
                · skip
                  refine r_ild1 (pc := 90) dX6_qTakes_90 ?_
                  refine r_iconst (v := nI 3) (pc := 91) dX6_qTakes_91 (by decide) ?_
                  first | refine r_icmp_leN (pc := 92) (tgt := 133) dX6_qTakes_92 (by decide) (by omega) (by omega) (fun h92 => ?_) (fun h92 => ?_) | refine r_icmp_le (pc := 92) (tgt := 133) dX6_qTakes_92 (by decide) (fun h92 => ?_) (fun h92 => ?_)
                  · skip
                    exact absurd h92 (by decide)
                  · skip
                    refine r_ald0 (pc := 95) dX6_qTakes_95 ?_
                    refine m_getI hS (pc := 96) dX6_qTakes_96 fl_X6_674 ?_
                    refine Bd.eqI h110 ?_
                    first | refine r_if_neZ (pc := 99) (tgt := 128) dX6_qTakes_99 (by decide) (fun h99 => ?_) (fun h99 => ?_) | refine r_if_neN (pc := 99) (tgt := 128) dX6_qTakes_99 (by decide) (by omega) (fun h99 => ?_) (fun h99 => ?_) | refine r_if_ne (pc := 99) (tgt := 128) dX6_qTakes_99 (by decide) (fun h99 => ?_) (fun h99 => ?_)
                    · skip
                      exact absurd h99 hi0
                    · skip
                      refine r_ild1 (pc := 102) dX6_qTakes_102 ?_
                      refine r_iconst (v := nI 4) (pc := 103) dX6_qTakes_103 (by decide) ?_
                      first | refine r_icmp_neN (pc := 104) (tgt := 119) dX6_qTakes_104 (by decide) (by omega) (by omega) (fun h104 => ?_) (fun h104 => ?_) | refine r_icmp_ne (pc := 104) (tgt := 119) dX6_qTakes_104 (by decide) (fun h104 => ?_) (fun h104 => ?_)
                      · skip
                        refine r_lld2 (pc := 119) dX6_qTakes_119 ?_
                        refine r_ald0 (pc := 120) dX6_qTakes_120 ?_
                        refine m_getL hS (pc := 121) dX6_qTakes_121 fl_X6_669 ?_
                        refine Bd.eqL h109 ?_
                        refine r_lcmp (pc := 124) dX6_qTakes_124 ?_
                        first | refine r_if_geCI (pc := 125) (tgt := 133) dX6_qTakes_125 (by decide) (by constructor <;> omega) (by constructor <;> omega) (fun h125 => ?_) (fun h125 => ?_) | refine r_if_geC (pc := 125) (tgt := 133) dX6_qTakes_125 (by decide) (fun h125 => ?_) (fun h125 => ?_)
                        · skip
                          exact absurd h125 (by omega)
                        · skip
                          refine r_ald0 (pc := 128) dX6_qTakes_128 ?_
                          refine r_lld2 (pc := 129) dX6_qTakes_129 ?_
                          refine m_putL hS (pc := 130) dX6_qTakes_130 fl_X6_669 fw_X6_109 ?_
                          refine r_ald0 (pc := 133) dX6_qTakes_133 ?_
                          refine r_iconst (v := nI 0) (pc := 134) dX6_qTakes_134 (by decide) ?_
                          refine m_putI hS (pc := 135) dX6_qTakes_135 fl_X6_674 fw_X6_110 (by first | rfl | exact zI_nar | assumption) (by first | rfl | exact zI_fit | assumption) ?_
                          refine r_vret (pc := 138) dX6_qTakes_138 ?_
                          exact ⟨_, rfl, rfl, (by rw [show stpA1 5 ans v i = v by rw [stpA1_5, if_pos (Or.inr hlt)]]; rfl), rfl, Fr.tF (Fr.tG Fr.rf (by decide)) (by decide)⟩
                      · skip
                        exact absurd h104 (by decide)
                · skip
                  exact absurd h77 (by decide)
              · skip
                exact absurd h57 (by decide)
            · skip
              exact absurd h40 (by decide)
          · skip
            exact absurd h19 (by decide)
        · skip
          exact absurd h2 (by decide)
      · skip
        refine r_ild1 (pc := 0) dX6_qTakes_0 ?_
        refine r_iconst (v := nI 3) (pc := 1) dX6_qTakes_1 (by decide) ?_
        first | refine r_icmp_geN (pc := 2) (tgt := 15) dX6_qTakes_2 (by decide) (by omega) (by omega) (fun h2 => ?_) (fun h2 => ?_) | refine r_icmp_ge (pc := 2) (tgt := 15) dX6_qTakes_2 (by decide) (fun h2 => ?_) (fun h2 => ?_)
        · skip
          refine r_iconst (v := nI 0) (pc := 15) dX6_qTakes_15 (by decide) ?_
          refine r_ist5 (pc := 16) dX6_qTakes_16 ?_
          refine r_ild1 (pc := 18) dX6_qTakes_18 ?_
          first | refine r_if_neZ (pc := 19) (tgt := 38) dX6_qTakes_19 (by decide) (fun h19 => ?_) (fun h19 => ?_) | refine r_if_neN (pc := 19) (tgt := 38) dX6_qTakes_19 (by decide) (by omega) (fun h19 => ?_) (fun h19 => ?_) | refine r_if_ne (pc := 19) (tgt := 38) dX6_qTakes_19 (by decide) (fun h19 => ?_) (fun h19 => ?_)
          · skip
            refine r_ild1 (pc := 38) dX6_qTakes_38 ?_
            refine r_iconst (v := nI 1) (pc := 39) dX6_qTakes_39 (by decide) ?_
            first | refine r_icmp_neN (pc := 40) (tgt := 55) dX6_qTakes_40 (by decide) (by omega) (by omega) (fun h40 => ?_) (fun h40 => ?_) | refine r_icmp_ne (pc := 40) (tgt := 55) dX6_qTakes_40 (by decide) (fun h40 => ?_) (fun h40 => ?_)
            · skip
              refine r_ild1 (pc := 55) dX6_qTakes_55 ?_
              refine r_iconst (v := nI 2) (pc := 56) dX6_qTakes_56 (by decide) ?_
              first | refine r_icmp_neN (pc := 57) (tgt := 75) dX6_qTakes_57 (by decide) (by omega) (by omega) (fun h57 => ?_) (fun h57 => ?_) | refine r_icmp_ne (pc := 57) (tgt := 75) dX6_qTakes_57 (by decide) (fun h57 => ?_) (fun h57 => ?_)
              · skip
                refine r_ild1 (pc := 75) dX6_qTakes_75 ?_
                refine r_iconst (v := nI 3) (pc := 76) dX6_qTakes_76 (by decide) ?_
                first | refine r_icmp_neN (pc := 77) (tgt := 90) dX6_qTakes_77 (by decide) (by omega) (by omega) (fun h77 => ?_) (fun h77 => ?_) | refine r_icmp_ne (pc := 77) (tgt := 90) dX6_qTakes_77 (by decide) (fun h77 => ?_) (fun h77 => ?_)
                · skip
                  refine r_ild1 (pc := 90) dX6_qTakes_90 ?_
                  refine r_iconst (v := nI 3) (pc := 91) dX6_qTakes_91 (by decide) ?_
                  first | refine r_icmp_leN (pc := 92) (tgt := 133) dX6_qTakes_92 (by decide) (by omega) (by omega) (fun h92 => ?_) (fun h92 => ?_) | refine r_icmp_le (pc := 92) (tgt := 133) dX6_qTakes_92 (by decide) (fun h92 => ?_) (fun h92 => ?_)
                  · skip
                    exact absurd h92 (by decide)
                  · skip
                    refine r_ald0 (pc := 95) dX6_qTakes_95 ?_
                    refine m_getI hS (pc := 96) dX6_qTakes_96 fl_X6_674 ?_
                    refine Bd.eqI h110 ?_
                    first | refine r_if_neZ (pc := 99) (tgt := 128) dX6_qTakes_99 (by decide) (fun h99 => ?_) (fun h99 => ?_) | refine r_if_neN (pc := 99) (tgt := 128) dX6_qTakes_99 (by decide) (by omega) (fun h99 => ?_) (fun h99 => ?_) | refine r_if_ne (pc := 99) (tgt := 128) dX6_qTakes_99 (by decide) (fun h99 => ?_) (fun h99 => ?_)
                    · skip
                      exact absurd h99 hi0
                    · skip
                      refine r_ild1 (pc := 102) dX6_qTakes_102 ?_
                      refine r_iconst (v := nI 4) (pc := 103) dX6_qTakes_103 (by decide) ?_
                      first | refine r_icmp_neN (pc := 104) (tgt := 119) dX6_qTakes_104 (by decide) (by omega) (by omega) (fun h104 => ?_) (fun h104 => ?_) | refine r_icmp_ne (pc := 104) (tgt := 119) dX6_qTakes_104 (by decide) (fun h104 => ?_) (fun h104 => ?_)
                      · skip
                        refine r_lld2 (pc := 119) dX6_qTakes_119 ?_
                        refine r_ald0 (pc := 120) dX6_qTakes_120 ?_
                        refine m_getL hS (pc := 121) dX6_qTakes_121 fl_X6_669 ?_
                        refine Bd.eqL h109 ?_
                        refine r_lcmp (pc := 124) dX6_qTakes_124 ?_
                        first | refine r_if_geCI (pc := 125) (tgt := 133) dX6_qTakes_125 (by decide) (by constructor <;> omega) (by constructor <;> omega) (fun h125 => ?_) (fun h125 => ?_) | refine r_if_geC (pc := 125) (tgt := 133) dX6_qTakes_125 (by decide) (fun h125 => ?_) (fun h125 => ?_)
                        · skip
                          refine r_ald0 (pc := 133) dX6_qTakes_133 ?_
                          refine r_iconst (v := nI 0) (pc := 134) dX6_qTakes_134 (by decide) ?_
                          refine m_putI hS (pc := 135) dX6_qTakes_135 fl_X6_674 fw_X6_110 (by first | rfl | exact zI_nar | assumption) (by first | rfl | exact zI_fit | assumption) ?_
                          refine r_vret (pc := 138) dX6_qTakes_138 ?_
                          exact ⟨_, rfl, rfl, (by rw [show stpA1 5 ans v i = ans by rw [stpA1_5, if_neg (by omega)]]; exact h109), rfl, Fr.tF Fr.rf (by decide)⟩
                        · skip
                          exact absurd (by omega) h125
                      · skip
                        exact absurd h104 (by decide)
                · skip
                  exact absurd h77 (by decide)
              · skip
                exact absurd h57 (by decide)
            · skip
              exact absurd h40 (by decide)
          · skip
            exact absurd h19 (by decide)
        · skip
          exact absurd h2 (by decide)
theorem evA_b {cs : List Nat} {b0 : Bool} (ht : tyC cs [] = some [b0]) (i : Nat) : b6 (evA T t cs i) := by
  obtain ⟨v, hv, hok⟩ := rpn_one (env := envA T t i) (ofn := ofnA T t i) ht
  have hev : evA T t cs i = v := by unfold evA; rw [hv]; rfl
  rw [hev]; exact okv_b6 hok
theorem askLoop {k : Nat} {cs : List Nat} {b0 : Bool} (hS : ShM g M o) (hk : k < 6) (hTB : TB T) (hB : SB (tn T) t) (hh : hol (mA s 101) 0 cs) (h102 : mF s 102 = nI cs.length) (hl : cs.length ≤ 1690) (hc : okX 3 cs) (ht : tyC cs [] = some [b0]) (h54 : mF s 54 = nI 3) (hT : RT s T) (hN : RN s (tn T) t) :
    ∀ (m i : Nat) (s1 : MS), i + m = tn T → mG s1 109 = lI (ansF k (evA T t cs) i) → mF s1 110 = zI (i = 0) → Fr [108, 110] [109] [] [107] s s1 →
    Bd g yX6_ask cX6_ask 3 (some Jvm.ClassFile.FieldType.long) [] 9 0 0 (putM M o s1) 188 [some (.ref o), some (.int (nI k)), some (.int (nI i))] [] (QM M o (fun r s' => r = some (.long (lI (ansF k (evA T t cs) (tn T)))) ∧ Fr [108, 110] [109] [] [107] s s')) noX := by
  have h8 := hTB.1
  intro m
  induction m with
  | zero =>
    intro i s1 hi h109 h110 hf
    have hi : i = tn T := hi
    subst hi
    refine r_ild2 (pc := 188) dX6_ask_188 ?_
    refine r_ald0 (pc := 189) dX6_ask_189 ?_
    refine m_getI hS (pc := 190) dX6_ask_190 fl_X6_382 ?_
    refine Bd.eqI ((hf.1 40 (by decide)).trans hT.2.1) ?_
    first | refine r_icmp_geN (pc := 193) (tgt := 213) dX6_ask_193 (by decide) (by omega) (by omega) (fun h193 => ?_) (fun h193 => ?_) | refine r_icmp_ge (pc := 193) (tgt := 213) dX6_ask_193 (by decide) (fun h193 => ?_) (fun h193 => ?_)
    · skip
      refine r_ald0 (pc := 213) dX6_ask_213 ?_
      refine m_getL hS (pc := 214) dX6_ask_214 fl_X6_669 ?_
      refine Bd.eqL h109 ?_
      refine r_lret (pc := 217) dX6_ask_217 ?_
      exact ⟨_, rfl, rfl, hf⟩
    · skip
      exact absurd h193 (by omega)
  | succ m ih =>
    intro i s1 hi h109 h110 hf
    have hb := ansF_b (k := k) (vs := evA T t cs) i (by omega) (fun j _ => evA_b ht j)
    have htl := ct_X6_qTold (s := s1) (i := i) hS hTB hB (by omega) (by rw [hf.2.2.1 101 (by decide)]; exact hh) ((hf.1 102 (by decide)).trans h102) hl hc ht ((hf.1 54 (by decide)).trans h54) (hT.fr hf (by decide) (by decide)) (hN.fr hf (by decide))
    refine r_ild2 (pc := 188) dX6_ask_188 ?_
    refine r_ald0 (pc := 189) dX6_ask_189 ?_
    refine m_getI hS (pc := 190) dX6_ask_190 fl_X6_382 ?_
    refine Bd.eqI ((hf.1 40 (by decide)).trans hT.2.1) ?_
    first | refine r_icmp_geN (pc := 193) (tgt := 213) dX6_ask_193 (by decide) (by omega) (by omega) (fun h193 => ?_) (fun h193 => ?_) | refine r_icmp_ge (pc := 193) (tgt := 213) dX6_ask_193 (by decide) (fun h193 => ?_) (fun h193 => ?_)
    · skip
      exact absurd h193 (by omega)
    · skip
      refine r_ald0 (pc := 196) dX6_ask_196 ?_
      refine r_ild1 (pc := 197) dX6_ask_197 ?_
      refine r_ald0 (pc := 198) dX6_ask_198 ?_
      refine r_ild2 (pc := 199) dX6_ask_199 ?_
      refine r_cV (pc := 200) dX6_ask_200 cv_X6_682 hS.k htl rfl rfl (Nat.le_of_ble_eq_true rfl) (by decide) ?_
      rintro _ _ ⟨s2, rfl, rfl, hf2⟩
      refine r_ild2 (pc := 203) dX6_ask_203 ?_
      refine r_cV (pc := 204) dX6_ask_204 cv_X6_685 hS.k (ct_X6_qTakes hS hk (evA_b ht i) (by constructor <;> omega) (by omega) ((hf2.2.1 109 (by decide)).trans h109) ((hf2.1 110 (by decide)).trans h110)) rfl rfl (Nat.le_of_ble_eq_true rfl) (by decide) ?_
      rintro _ _ ⟨s3, rfl, rfl, h1093, h1103, hf3⟩
      first | refine r_iinc2N (j := 1) (pc := 207) dX6_ask_207 rfl ?_ | refine r_iinc2 (pc := 207) dX6_ask_207 ?_
      refine r_goto (pc := 210) (tgt := 188) dX6_ask_210 (by decide) ?_
      exact ih (i + 1) s3 (by omega) h1093 (by rw [h1103, zI_f (by omega)]; rfl) (hf.trans ((hf2.mono (by decide) (by decide) (by decide) (by decide)).trans (hf3.mono (by decide) (by decide) (by decide) (by decide))))
abbrev NTH : Int := -1000000000000000
theorem ask133B {e : Nat × Nat} {k1 : Int32} {w2 : Option Value} (hS : ShM g M o) (hI : IM s1 (uTp q (gTp q) 0)) (hB : BD s1 e) :
    Bd g yX6_ask cX6_ask 3 (some Jvm.ClassFile.FieldType.long) [] 9 0 0 (putM M o s1) 133 [some (.ref o), some (.int k1), w2] [] (PM M o (uFt (uTp q (gTp q) 0) (e.1, some e.2)) (.long (lI NTH))) noX := by
  have hI2 : IM (tF (tF s1 7 (nI e.1)) 8 (oI (some e.2))) (uFt (uTp q (gTp q) 0) (e.1, some e.2)) := hI.flt
  refine r_ald0 (pc := 133) dX6_ask_133 ?_
  refine r_ald0 (pc := 134) dX6_ask_134 ?_
  refine m_getI hS (pc := 135) dX6_ask_135 fl_X6_237 ?_
  refine Bd.eqI (x' := nI e.1) hB.1 ?_
  refine m_putI hS (pc := 138) dX6_ask_138 fl_X6_369 fw_X6_7 rfl rfl ?_
  refine r_ald0 (pc := 141) dX6_ask_141 ?_
  refine r_ald0 (pc := 142) dX6_ask_142 ?_
  refine m_getI hS (pc := 143) dX6_ask_143 fl_X6_240 ?_
  refine Bd.eqI (x' := nI e.2) hB.2.1 ?_
  refine m_putI hS (pc := 146) dX6_ask_146 fl_X6_13 fw_X6_8 rfl rfl ?_
  refine r_ald0 (pc := 149) dX6_ask_149 ?_
  refine m_getI hS (pc := 150) dX6_ask_150 fl_X6_237 ?_
  refine Bd.eqI (x' := nI e.1) hB.1 ?_
  refine r_if_eqN (pc := 153) (tgt := 160) dX6_ask_153 (by decide) (by have := hB.2.2.2.1; omega) (fun h153 => ?_) (fun h153 => ?_)
  · skip
    exact absurd h153 (by have := hB.2.2.1; omega)
  · skip
    refine r_ldc2 (v := -1000000000000000) (pc := 156) dX6_ask_156 q2439 ?_
    refine Bd.eqL (x' := lI (-1000000000000000)) (by decide) ?_
    refine r_lret (pc := 159) dX6_ask_159 ?_
    exact ⟨_, rfl, rfl, hI2⟩
theorem ask133 {k op b : Nat} {cs : List Nat} {b0 : Bool} {w2 : Option Value} (hS : ShM g M o) (hI : IM s1 (uTp q (gTp q) 0)) (hG : GI q) (hR : RP s1 f n b) (hk : k < 6) (hQ : RQ s1 cs [] op) (hc : okX 3 cs) (ht : tyC cs [] = some [b0]) :
    Bd g yX6_ask cX6_ask 3 (some Jvm.ClassFile.FieldType.long) [] 9 0 0 (putM M o s1) 133 [some (.ref o), some (.int (nI k)), w2] [] (PM M o (uFt (uTp q (gTp q) 0) (0, none)) (.long (lI (ansF k (evA (gT q) (gS q) cs) (tn (gT q)))))) noX := by
  have hI2 : IM (tF (tF s1 7 (nI 0)) 8 (oI none)) (uFt (uTp q (gTp q) 0) (0, none)) := hI.flt
  have hTB := hG.2.2.1
  have hB := hG.2.2.2.2.2.1.1
  have hT := hI.2.2.2.1.1
  have hN := hI.2.2.2.2.1.1
  have h7 : cs.length + 0 ≤ 1601 := hQ.2.2.2.2.2.2
  have key : ∀ (z : Int), z = (if k < 2 then -1 else 0) → Bd g yX6_ask cX6_ask 3 (some Jvm.ClassFile.FieldType.long) [] 9 0 0 (putM M o (tF (tF s1 7 (nI 0)) 8 (oI none))) 173 [some (.ref o), some (.int (nI k)), w2] [.long (lI z), .ref o] (PM M o (uFt (uTp q (gTp q) 0) (0, none)) (.long (lI (ansF k (evA (gT q) (gS q) cs) (tn (gT q)))))) noX := by
    intro z hz
    have hF : Fr [7, 8, 54, 110] [109] [] [] s1 (tF (tF (tG (tF (tF s1 7 (nI 0)) 8 (oI none)) 109 (lI z)) 110 (nI 1)) 54 (nI 3)) := Fr.tF (Fr.tF (Fr.tG (Fr.tF (Fr.tF Fr.rf (by decide)) (by decide)) (by decide)) (by decide)) (by decide)
    have hF2 : Fr [54, 110] [109] [] [] (tF (tF s1 7 (nI 0)) 8 (oI none)) (tF (tF (tG (tF (tF s1 7 (nI 0)) 8 (oI none)) 109 (lI z)) 110 (nI 1)) 54 (nI 3)) := Fr.tF (Fr.tF (Fr.tG Fr.rf (by decide)) (by decide)) (by decide)
    have hlp := askLoop (s := tF (tF (tG (tF (tF s1 7 (nI 0)) 8 (oI none)) 109 (lI z)) 110 (nI 1)) 54 (nI 3)) hS hk hTB hB hQ.2.1 hQ.1 (by omega) hc ht rfl (hT.fr hF (by decide) (by decide)) (hN.fr hF (by decide)) (tn (gT q)) 0 _ (by omega) (by show lI z = lI (if k < 2 then -1 else 0); rw [hz]) (by rw [zI_t rfl]; rfl) Fr.rf
    refine m_putL hS (pc := 173) dX6_ask_173 fl_X6_669 fw_X6_109 ?_
    refine r_ald0 (pc := 176) dX6_ask_176 ?_
    refine r_iconst (v := nI 1) (pc := 177) dX6_ask_177 (by decide) ?_
    refine m_putI hS (pc := 178) dX6_ask_178 fl_X6_674 fw_X6_110 (by first | rfl | exact zI_nar | assumption) (by first | rfl | exact zI_fit | assumption) ?_
    refine r_ald0 (pc := 181) dX6_ask_181 ?_
    refine r_iconst (v := nI 3) (pc := 182) dX6_ask_182 (by decide) ?_
    refine m_putI hS (pc := 183) dX6_ask_183 fl_X6_295 fw_X6_54 rfl rfl ?_
    refine r_iconst (v := nI 0) (pc := 186) dX6_ask_186 (by decide) ?_
    refine r_ist2 (pc := 187) dX6_ask_187 ?_
    refine Bd.post ?_ (fun _ _ h => h) hlp
    rintro r M' ⟨s9, e1, e2, e3⟩; exact ⟨s9, e1, e2, (hI2.fr hF2 (by decide) (by decide) (by decide) (by decide)).fr e3 (by decide) (by decide) (by decide) (by decide)⟩
  refine r_ald0 (pc := 133) dX6_ask_133 ?_
  refine r_ald0 (pc := 134) dX6_ask_134 ?_
  refine m_getI hS (pc := 135) dX6_ask_135 fl_X6_237 ?_
  refine Bd.eqI (x' := nI 0) hR.2.1 ?_
  refine m_putI hS (pc := 138) dX6_ask_138 fl_X6_369 fw_X6_7 rfl rfl ?_
  refine r_ald0 (pc := 141) dX6_ask_141 ?_
  refine r_ald0 (pc := 142) dX6_ask_142 ?_
  refine m_getI hS (pc := 143) dX6_ask_143 fl_X6_240 ?_
  refine Bd.eqI (x' := oI none) hR.2.2.2.2 ?_
  refine m_putI hS (pc := 146) dX6_ask_146 fl_X6_13 fw_X6_8 rfl rfl ?_
  refine r_ald0 (pc := 149) dX6_ask_149 ?_
  refine m_getI hS (pc := 150) dX6_ask_150 fl_X6_237 ?_
  refine Bd.eqI (x' := nI 0) hR.2.1 ?_
  first | refine r_if_eqZ (pc := 153) (tgt := 160) dX6_ask_153 (by decide) (fun h153 => ?_) (fun h153 => ?_) | refine r_if_eqN (pc := 153) (tgt := 160) dX6_ask_153 (by decide) (by omega) (fun h153 => ?_) (fun h153 => ?_) | refine r_if_eq (pc := 153) (tgt := 160) dX6_ask_153 (by decide) (fun h153 => ?_) (fun h153 => ?_)
  · skip
    refine r_ald0 (pc := 160) dX6_ask_160 ?_
    refine r_ild1 (pc := 161) dX6_ask_161 ?_
    refine r_iconst (v := nI 2) (pc := 162) dX6_ask_162 (by decide) ?_
    first | refine r_icmp_geN (pc := 163) (tgt := 172) dX6_ask_163 (by decide) (by omega) (by omega) (fun h163 => ?_) (fun h163 => ?_) | refine r_icmp_ge (pc := 163) (tgt := 172) dX6_ask_163 (by decide) (fun h163 => ?_) (fun h163 => ?_)
    · skip
      refine r_lconst (v := lI 0) (pc := 172) dX6_ask_172 rfl ?_
      first | exact key (-1) (by rw [if_pos (by omega)]) | exact key 0 (by rw [if_neg (by omega)])
    · skip
      refine r_ldc2 (v := -1) (pc := 166) dX6_ask_166 q2444 ?_
      refine Bd.eqL (x' := lI (-1)) (by decide) ?_
      refine r_goto (pc := 169) (tgt := 173) dX6_ask_169 (by decide) ?_
      first | exact key (-1) (by rw [if_pos (by omega)]) | exact key 0 (by rw [if_neg (by omega)])
  · skip
    exact absurd rfl h153
/-- behind the text: its end, or a fault -/
theorem ask109 {k op b : Nat} {y : List Nat × Nat} {b0 : Bool} {w2 : Option Value} (hS : ShM g M o) (hI : IM s1 (uTp q (gTp q) 0)) (hG : GI q) (hR : RP s1 f n b) (hb : skip f n b = skip f n y.2) (hk : k < 6) (hQ : RQ s1 y.1 [] op) (hc : okX 3 y.1) (ht : tyC y.1 [] = some [b0]) :
    ∀ z : Pz (Nat × List Nat), z = (if lookO f n y.2 = none then .ok (k, y.1) else .error (1, skip f n y.2)) → Bd g yX6_ask cX6_ask 3 (some Jvm.ClassFile.FieldType.long) [] 9 0 0 (putM M o s1) 109 [some (.ref o), some (.int (nI k)), w2] [] (match z with
      | .error e => PM M o (uFt (uTp q (gTp q) 0) (e.1, some e.2)) (.long (lI NTH))
      | .ok y => PM M o (uFt (uTp q (gTp q) 0) (0, none)) (.long (lI (ansF y.1 (evA (gT q) (gS q) y.2) (tn (gT q)))))) noX := by
  intro z hz
  have hn := hR.1.2.2.2.1
  have hsl := skip_le (f := f) hR.1.2.2.1
  have hlo : lookO f n b = lookO f n y.2 := by unfold lookO; rw [hb]
  have hlk := ct_X6_lookP hS hR
  cases hl : lookO f n b with
  | none =>
    rw [if_pos (hlo.symm.trans hl)] at hz
    subst hz
    rw [hl] at hlk
    refine r_ald0 (pc := 109) dX6_ask_109 ?_
    refine m_getI hS (pc := 110) dX6_ask_110 fl_X6_237 ?_
    refine Bd.eqI hR.2.1 ?_
    first | refine r_if_neZ (pc := 113) (tgt := 133) dX6_ask_113 (by decide) (fun h113 => ?_) (fun h113 => ?_) | refine r_if_neN (pc := 113) (tgt := 133) dX6_ask_113 (by decide) (by omega) (fun h113 => ?_) (fun h113 => ?_) | refine r_if_ne (pc := 113) (tgt := 133) dX6_ask_113 (by decide) (fun h113 => ?_) (fun h113 => ?_)
    · skip
      exact absurd rfl h113
    · skip
      refine r_ald0 (pc := 116) dX6_ask_116 ?_
      refine r_cV (pc := 117) dX6_ask_117 cv_X6_249 hS.k hlk rfl rfl (Nat.le_of_ble_eq_true rfl) (by decide) ?_
      rintro _ _ ⟨s2, rfl, rfl, hR2, hf2⟩
      refine r_iconst (v := -1) (pc := 120) dX6_ask_120 (by decide) ?_
      refine r_icmp_eq (pc := 121) (tgt := 133) dX6_ask_121 (by decide) (fun h121 => ?_) (fun h121 => ?_)
      · skip
        exact ask133 hS (hI.fr hf2 (by decide) (by decide) (by decide) (by decide)) hG hR2 hk (hQ.fr hf2 (by decide) (by decide)) hc ht
      · skip
        exact absurd rfl h121
  | some d =>
    have hd := (lookO_lt hR hl).1
    rw [if_neg (by rw [← hlo, hl]; intro q; cases q), ← hb] at hz
    subst hz
    rw [hl] at hlk
    rw [show oI (some d) = nI d from rfl] at hlk
    refine r_ald0 (pc := 109) dX6_ask_109 ?_
    refine m_getI hS (pc := 110) dX6_ask_110 fl_X6_237 ?_
    refine Bd.eqI hR.2.1 ?_
    first | refine r_if_neZ (pc := 113) (tgt := 133) dX6_ask_113 (by decide) (fun h113 => ?_) (fun h113 => ?_) | refine r_if_neN (pc := 113) (tgt := 133) dX6_ask_113 (by decide) (by omega) (fun h113 => ?_) (fun h113 => ?_) | refine r_if_ne (pc := 113) (tgt := 133) dX6_ask_113 (by decide) (fun h113 => ?_) (fun h113 => ?_)
    · skip
      exact absurd rfl h113
    · skip
      refine r_ald0 (pc := 116) dX6_ask_116 ?_
      refine r_cV (pc := 117) dX6_ask_117 cv_X6_249 hS.k hlk rfl rfl (Nat.le_of_ble_eq_true rfl) (by decide) ?_
      rintro _ _ ⟨s2, rfl, rfl, hR2, hf2⟩
      refine r_iconst (v := -1) (pc := 120) dX6_ask_120 (by decide) ?_
      refine r_icmp_eq (pc := 121) (tgt := 133) dX6_ask_121 (by decide) (fun h121 => ?_) (fun h121 => ?_)
      · skip
        exact absurd h121 (nI_m1 (by omega))
      · skip
        refine r_ald0 (pc := 124) dX6_ask_124 ?_
        refine r_iconst (v := nI 1) (pc := 125) dX6_ask_125 (by decide) ?_
        refine r_ald0 (pc := 126) dX6_ask_126 ?_
        refine m_getI hS (pc := 127) dX6_ask_127 fl_X6_243 ?_
        refine Bd.eqI hR2.1.2.1 ?_
        refine r_cV (pc := 130) dX6_ask_130 cv_X6_267 hS.k (ct_X6_failP hS hR2.2.1 (by decide) (by omega)) rfl rfl (Nat.le_of_ble_eq_true rfl) (by decide) ?_
        rintro _ _ ⟨s3, rfl, rfl, hB, hf3⟩
        exact ask133B hS ((hI.fr hf2 (by decide) (by decide) (by decide) (by decide)).fr hf3 (by decide) (by decide) (by decide) (by decide)) hB
theorem ask109B {e : Nat × Nat} {k1 : Int32} {w2 : Option Value} (hS : ShM g M o) (hI : IM s1 (uTp q (gTp q) 0)) (hB : BD s1 e) :
    Bd g yX6_ask cX6_ask 3 (some Jvm.ClassFile.FieldType.long) [] 9 0 0 (putM M o s1) 109 [some (.ref o), some (.int k1), w2] [] (PM M o (uFt (uTp q (gTp q) 0) (e.1, some e.2)) (.long (lI NTH))) noX := by
  refine r_ald0 (pc := 109) dX6_ask_109 ?_
  refine m_getI hS (pc := 110) dX6_ask_110 fl_X6_237 ?_
  refine r_if_ne (pc := 113) (tgt := 133) dX6_ask_113 (by decide) (fun h113 => ?_) (fun h113 => ?_)
  · skip
    exact ask133B hS hI hB
  · skip
    exact absurd h113 hB.ne
theorem pm_ask (hS : ShM g M o) (hI : IM s q) (hG : GI q) : Ct g yX6_ask cX6_ask 3 (some Jvm.ClassFile.FieldType.long) 9 0 0 [.ref o] (putM M o s) (PM M o (askQ q).2 (.long (askQ q).1)) noX := by
  have hn := hG.1
  have hf256 := hG.2.1
  have hTp := hI.1
  have hW := hI.2.2.2.2.2.2.2.2.2
  have h53 := hI.2.2.2.1.2.1
  refine Ct.of (by decide) (Nat.le_of_ble_eq_true rfl) rfl ?_
  unfold askQ
  cases hit : gIt q with
  | false =>
    rw [hit] at h53
    rw [if_neg (by decide)]
    have hI1 : IM (tF s 1 (nI 0)) (uTp q (gTp q) 0) := hI.tape
    refine r_ald0 (pc := 0) dX6_ask_0 ?_
    refine m_getI hS (pc := 1) dX6_ask_1 fl_X6_375 ?_
    refine Bd.eqI h53 ?_
    first | refine r_if_neZ (pc := 4) (tgt := 16) dX6_ask_4 (by decide) (fun h4 => ?_) (fun h4 => ?_) | refine r_if_neN (pc := 4) (tgt := 16) dX6_ask_4 (by decide) (by omega) (fun h4 => ?_) (fun h4 => ?_) | refine r_if_ne (pc := 4) (tgt := 16) dX6_ask_4 (by decide) (fun h4 => ?_) (fun h4 => ?_)
    · skip
      exact absurd h4 (by decide)
    · skip
      refine r_ald0 (pc := 7) dX6_ask_7 ?_
      refine r_iconst (v := nI 0) (pc := 8) dX6_ask_8 (by decide) ?_
      refine m_putI hS (pc := 9) dX6_ask_9 fl_X6_234 fw_X6_1 rfl rfl ?_
      refine r_ldc2 (v := -1000000000000000) (pc := 12) dX6_ask_12 q2439 ?_
      refine Bd.eqL (x' := lI (-1000000000000000)) (by decide) ?_
      refine r_lret (pc := 15) dX6_ask_15 ?_
      exact ⟨_, rfl, rfl, hI1⟩
  | true =>
    rw [hit] at h53
    rw [if_pos rfl]
    refine Bd.post (Q' := match askP (gTp q) (gTd q) with
      | .error e => PM M o (uFt (uTp q (gTp q) 0) (e.1, some e.2)) (.long (lI NTH))
      | .ok y => PM M o (uFt (uTp q (gTp q) 0) (0, none)) (.long (lI (ansF y.1 (evA (gT q) (gS q) y.2) (tn (gT q)))))) ?_ (fun _ _ h => h) ?_
    · intro v M' h
      cases hz : askP (gTp q) (gTd q) with
      | error e => rw [hz] at h; exact h
      | ok y => rw [hz] at h; exact h
    · have key : ∀ s0 : MS, mF s0 3 = nI (gTd q) → mF s0 2 = nI 0 → mF s0 4 = -1 → mF s0 5 = nI 0 → mF s0 6 = -1 → mF s0 54 = nI 3 → mF s0 102 = nI 0 → mF s0 104 = nI 0 → mF s0 105 = nI 0 → mF s0 106 = nI 0 → IM s0 (uTp q (gTp q) 0) → Bd g yX6_ask cX6_ask 3 (some Jvm.ClassFile.FieldType.long) [] 9 0 0 (putM M o s0) 74 [some (.ref o), none, none] [] (match askP (gTp q) (gTd q) with
        | .error e => PM M o (uFt (uTp q (gTp q) 0) (e.1, some e.2)) (.long (lI NTH))
        | .ok y => PM M o (uFt (uTp q (gTp q) 0) (0, none)) (.long (lI (ansF y.1 (evA (gT q) (gS q) y.2) (tn (gT q)))))) noX := by
        intro s0 k3 k2 k4 k5 k6 k54 k102 k104 k105 k106 hI0
        have hRP : RP s0 (gTp q) (gTd q) 0 := ⟨⟨k3, k2, Nat.zero_le _, hn, hI0.1.2, hf256⟩, k5, ⟨none, k4, fun x hx => (by cases hx), ⟨fun q => (by cases q), fun q => (by cases q)⟩⟩, hI0.2.2.2.2.2.2.2.2.2, k6⟩
        have hQ0 : RQ s0 [] [] 0 := ⟨k102, trivial, k104, trivial, k105, (fun v h => nomatch h), by decide⟩
        have hkd := ct_X6_qKind hS hRP
        unfold askP
        cases hkn : kndP (gTp q) (gTd q) with
        | error e =>
          rw [hkn] at hkd
          rw [bnd_er]
          refine r_ald0 (pc := 74) dX6_ask_74 ?_
          refine r_cV (pc := 75) dX6_ask_75 cv_X6_679 hS.k hkd rfl rfl (Nat.le_of_ble_eq_true rfl) (by decide) ?_
          rintro _ _ ⟨s1, rfl, ⟨rfl, hB⟩, hf1⟩
          have hB : BD s1 e := hB
          refine r_ist1 (pc := 78) dX6_ask_78 ?_
          refine r_ald0 (pc := 79) dX6_ask_79 ?_
          refine m_getI hS (pc := 80) dX6_ask_80 fl_X6_237 ?_
          refine r_if_ne (pc := 83) (tgt := 98) dX6_ask_83 (by decide) (fun h83 => ?_) (fun h83 => ?_)
          · skip
            refine r_ald0 (pc := 98) dX6_ask_98 ?_
            refine m_getI hS (pc := 99) dX6_ask_99 fl_X6_237 ?_
            refine r_if_ne (pc := 102) (tgt := 109) dX6_ask_102 (by decide) (fun h102 => ?_) (fun h102 => ?_)
            · skip
              exact ask109B hS (hI0.fr hf1 (by decide) (by decide) (by decide) (by decide)) hB
            · skip
              exact absurd h102 hB.ne
          · skip
            exact absurd h83 hB.ne
        | ok y =>
          rw [hkn] at hkd
          rw [bnd_ok]
          obtain ⟨y1, y2, y3⟩ := kndP_ok hkn
          by_cases e3 : y.1 < 3
          · have htx : txtP (gTp q) (gTd q) y.1 y.2 = testP (gTp q) (gTd q) (factP (gTp q) (gTd q) 3 6) y.2 := if_pos e3
            have hlaw := testLaw (f := gTp q) (n := gTd q) (x := 3) (o := 6) (a := y.2) (op := 0) [] rfl
            rw [← htx] at hlaw
            have hC : ∀ {s1 : MS}, RP s1 (gTp q) (gTd q) y.2 → Fr [2, 4, 5, 6] [] [] [] s0 s1 → CFT s1 (gTp q) (gTd q) 3 y.2 0 (true, y.2, [], [], 0) := fun {s1} hR1 hf1 => CFT.mk hR1 (hQ0.fr hf1 (by decide) (by decide)) ((hf1.1 106 (by decide)).trans k106) ((hf1.1 54 (by decide)).trans k54) ⟨(by show 0 + 0 + y.2 ≤ y.2; omega), y3, Nat.zero_le _, (show 0 ≤ 6 by decide), fun v h => nomatch h⟩ (by decide)
            have fin : ∀ r, EndT (gTp q) (gTd q) 3 (true, y.2, [], [], 0) r → ∀ z : Pz (Nat × List Nat), (∀ s2, IM s2 (uTp q (gTp q) 0) → TuQ (gTp q) (gTd q) y.2 s2 r → Bd g yX6_ask cX6_ask 3 (some Jvm.ClassFile.FieldType.long) [] 9 0 0 (putM M o s2) 109 [some (.ref o), some (.int (nI y.1)), none] [] (match z with
                | .error e => PM M o (uFt (uTp q (gTp q) 0) (e.1, some e.2)) (.long (lI NTH))
                | .ok y => PM M o (uFt (uTp q (gTp q) 0) (0, none)) (.long (lI (ansF y.1 (evA (gT q) (gS q) y.2) (tn (gT q)))))) noX) → Bd g yX6_ask cX6_ask 3 (some Jvm.ClassFile.FieldType.long) [] 9 0 0 (putM M o s0) 74 [some (.ref o), none, none] [] (match z with
                | .error e => PM M o (uFt (uTp q (gTp q) 0) (e.1, some e.2)) (.long (lI NTH))
                | .ok y => PM M o (uFt (uTp q (gTp q) 0) (0, none)) (.long (lI (ansF y.1 (evA (gT q) (gS q) y.2) (tn (gT q)))))) noX := by
              rintro r ⟨kk, hkk⟩ z hz
              refine r_ald0 (pc := 74) dX6_ask_74 ?_
              refine r_cV (pc := 75) dX6_ask_75 cv_X6_679 hS.k hkd rfl rfl (Nat.le_of_ble_eq_true rfl) (by decide) ?_
              rintro _ _ ⟨s1, rfl, ⟨rfl, hR1⟩, hf1⟩
              refine r_ist1 (pc := 78) dX6_ask_78 ?_
              refine r_ald0 (pc := 79) dX6_ask_79 ?_
              refine m_getI hS (pc := 80) dX6_ask_80 fl_X6_237 ?_
              refine Bd.eqI hR1.2.1 ?_
              first | refine r_if_neZ (pc := 83) (tgt := 98) dX6_ask_83 (by decide) (fun h83 => ?_) (fun h83 => ?_) | refine r_if_neN (pc := 83) (tgt := 98) dX6_ask_83 (by decide) (by omega) (fun h83 => ?_) (fun h83 => ?_) | refine r_if_ne (pc := 83) (tgt := 98) dX6_ask_83 (by decide) (fun h83 => ?_) (fun h83 => ?_)
              · skip
                exact absurd rfl h83
              · skip
                refine r_ild1 (pc := 86) dX6_ask_86 ?_
                refine r_iconst (v := nI 3) (pc := 87) dX6_ask_87 (by decide) ?_
                first | refine r_icmp_geN (pc := 88) (tgt := 98) dX6_ask_88 (by decide) (by omega) (by omega) (fun h88 => ?_) (fun h88 => ?_) | refine r_icmp_ge (pc := 88) (tgt := 98) dX6_ask_88 (by decide) (fun h88 => ?_) (fun h88 => ?_)
                · skip
                  exact absurd h88 (by omega)
                · skip
                  refine r_ald0 (pc := 91) dX6_ask_91 ?_
                  refine r_cV (pc := 92) dX6_ask_92 cv_X6_339 hS.k (ct_X6_qTest hS (hC hR1 hf1) hkk) rfl rfl (Nat.le_of_ble_eq_true rfl) (by decide) ?_
                  rintro _ _ ⟨s2, rfl, rfl, hf2, hU⟩
                  refine r_goto (pc := 95) (tgt := 109) dX6_ask_95 (by decide) ?_
                  exact hz s2 ((hI0.fr hf1 (by decide) (by decide) (by decide) (by decide)).fr hf2 (by decide) (by decide) (by decide) (by decide)) hU
            cases htz : txtP (gTp q) (gTd q) y.1 y.2 with
            | ok z =>
              obtain ⟨⟨z1, z2⟩, z3, z4, z5⟩ := txtP_ok htz
              rw [htz] at hlaw
              rw [bnd_ok]
              exact fin _ hlaw _ (fun s2 hI2 hU => ask109 hS hI2 hG hU.1 (skip_idem _ _ _) y1 hU.2.1 z2 z1 _ rfl)
            | error e =>
              rw [htz] at hlaw
              rw [bnd_er]
              rcases hlaw with hl | ⟨cs, op, hl, e1, e2, e4⟩
              · exact fin _ hl (.error e) (fun s2 hI2 hU => ask109B hS hI2 hU.1)
              · refine fin _ hl (.error e) (fun s2 hI2 hU => ?_)
                obtain ⟨l1, l2⟩ := ltr_skip e2 e4
                have hR2 : RP s2 (gTp q) (gTd q) e.2 := hU.1
                have hlk := ct_X6_lookP hS hR2
                rw [l2] at hlk
                rw [show oI (some (gTp q e.2)) = nI (gTp q e.2) from rfl] at hlk
                have hfe := hf256 e.2
                have hee : e = (1, e.2) := by rw [← e1]
                show Bd g yX6_ask cX6_ask 3 (some Jvm.ClassFile.FieldType.long) [] 9 0 0 _ _ _ _ (PM M o (uFt (uTp q (gTp q) 0) (e.1, some e.2)) (.long (lI NTH))) noX
                refine r_ald0 (pc := 109) dX6_ask_109 ?_
                refine m_getI hS (pc := 110) dX6_ask_110 fl_X6_237 ?_
                refine Bd.eqI hR2.2.1 ?_
                first | refine r_if_neZ (pc := 113) (tgt := 133) dX6_ask_113 (by decide) (fun h113 => ?_) (fun h113 => ?_) | refine r_if_neN (pc := 113) (tgt := 133) dX6_ask_113 (by decide) (by omega) (fun h113 => ?_) (fun h113 => ?_) | refine r_if_ne (pc := 113) (tgt := 133) dX6_ask_113 (by decide) (fun h113 => ?_) (fun h113 => ?_)
                · skip
                  exact absurd rfl h113
                · skip
                  refine r_ald0 (pc := 116) dX6_ask_116 ?_
                  refine r_cV (pc := 117) dX6_ask_117 cv_X6_249 hS.k hlk rfl rfl (Nat.le_of_ble_eq_true rfl) (by decide) ?_
                  rintro _ _ ⟨s3, rfl, rfl, hR3, hf3⟩
                  rw [l1] at hR3
                  refine r_iconst (v := -1) (pc := 120) dX6_ask_120 (by decide) ?_
                  refine r_icmp_eq (pc := 121) (tgt := 133) dX6_ask_121 (by decide) (fun h121 => ?_) (fun h121 => ?_)
                  · skip
                    exact absurd h121 (nI_m1 (by omega))
                  · skip
                    refine r_ald0 (pc := 124) dX6_ask_124 ?_
                    refine r_iconst (v := nI 1) (pc := 125) dX6_ask_125 (by decide) ?_
                    refine r_ald0 (pc := 126) dX6_ask_126 ?_
                    refine m_getI hS (pc := 127) dX6_ask_127 fl_X6_243 ?_
                    refine Bd.eqI hR3.1.2.1 ?_
                    refine r_cV (pc := 130) dX6_ask_130 cv_X6_267 hS.k (ct_X6_failP hS hR3.2.1 (by decide) (by omega)) rfl rfl (Nat.le_of_ble_eq_true rfl) (by decide) ?_
                    rintro _ _ ⟨s4, rfl, rfl, hB, hf4⟩
                    rw [hee]; exact ask133B hS ((hI2.fr hf3 (by decide) (by decide) (by decide) (by decide)).fr hf4 (by decide) (by decide) (by decide) (by decide)) hB
          · have htx : txtP (gTp q) (gTd q) y.1 y.2 = sumP (gTp q) (gTd q) (atomP (gTp q) (gTd q) 3 6) y.2 := if_neg e3
            have hsm : ∀ {s1 : MS}, RP s1 (gTp q) (gTd q) y.2 → Fr [2, 4, 5, 6] [] [] [] s0 s1 → _ := fun {s1} hR1 hf1 => ct_X6_qSums (s := s1) (x := 3) (e0 := 0) (B := []) (cs := []) (op := 0) hS hR1 (hQ0.fr hf1 (by decide) (by decide)) ((hf1.1 106 (by decide)).trans k106) ((hf1.1 54 (by decide)).trans k54) (by decide) (fun v h => nomatch h) (by simp) (by decide)
            rw [show sumP (gTp q) (gTd q) (atomP (gTp q) (gTd q) 3 (6 - 0)) y.2 = txtP (gTp q) (gTd q) y.1 y.2 from htx.symm] at hsm
            cases htz : txtP (gTp q) (gTd q) y.1 y.2 with
            | error e =>
              rw [htz] at hsm
              rw [bnd_er]
              refine r_ald0 (pc := 74) dX6_ask_74 ?_
              refine r_cV (pc := 75) dX6_ask_75 cv_X6_679 hS.k hkd rfl rfl (Nat.le_of_ble_eq_true rfl) (by decide) ?_
              rintro _ _ ⟨s1, rfl, ⟨rfl, hR1⟩, hf1⟩
              refine r_ist1 (pc := 78) dX6_ask_78 ?_
              refine r_ald0 (pc := 79) dX6_ask_79 ?_
              refine m_getI hS (pc := 80) dX6_ask_80 fl_X6_237 ?_
              refine Bd.eqI hR1.2.1 ?_
              first | refine r_if_neZ (pc := 83) (tgt := 98) dX6_ask_83 (by decide) (fun h83 => ?_) (fun h83 => ?_) | refine r_if_neN (pc := 83) (tgt := 98) dX6_ask_83 (by decide) (by omega) (fun h83 => ?_) (fun h83 => ?_) | refine r_if_ne (pc := 83) (tgt := 98) dX6_ask_83 (by decide) (fun h83 => ?_) (fun h83 => ?_)
              · skip
                exact absurd rfl h83
              · skip
                refine r_ild1 (pc := 86) dX6_ask_86 ?_
                refine r_iconst (v := nI 3) (pc := 87) dX6_ask_87 (by decide) ?_
                first | refine r_icmp_geN (pc := 88) (tgt := 98) dX6_ask_88 (by decide) (by omega) (by omega) (fun h88 => ?_) (fun h88 => ?_) | refine r_icmp_ge (pc := 88) (tgt := 98) dX6_ask_88 (by decide) (fun h88 => ?_) (fun h88 => ?_)
                · skip
                  refine r_ald0 (pc := 98) dX6_ask_98 ?_
                  refine m_getI hS (pc := 99) dX6_ask_99 fl_X6_237 ?_
                  refine Bd.eqI hR1.2.1 ?_
                  first | refine r_if_neZ (pc := 102) (tgt := 109) dX6_ask_102 (by decide) (fun h102 => ?_) (fun h102 => ?_) | refine r_if_neN (pc := 102) (tgt := 109) dX6_ask_102 (by decide) (by omega) (fun h102 => ?_) (fun h102 => ?_) | refine r_if_ne (pc := 102) (tgt := 109) dX6_ask_102 (by decide) (fun h102 => ?_) (fun h102 => ?_)
                  · skip
                    exact absurd rfl h102
                  · skip
                    refine r_ald0 (pc := 105) dX6_ask_105 ?_
                    refine r_cV (pc := 106) dX6_ask_106 cv_X6_342 hS.k (hsm hR1 hf1) rfl rfl (Nat.le_of_ble_eq_true rfl) (by decide) ?_
                    rintro _ _ ⟨s2, rfl, rfl, hf2, hU⟩
                    exact ask109B hS ((hI0.fr hf1 (by decide) (by decide) (by decide) (by decide)).fr hf2 (by decide) (by decide) (by decide) (by decide)) hU.1
                · skip
                  exact absurd h88 (by omega)
            | ok z =>
              obtain ⟨⟨z1, z2⟩, z3, z4, z5⟩ := txtP_ok htz
              rw [htz] at hsm
              rw [bnd_ok]
              refine r_ald0 (pc := 74) dX6_ask_74 ?_
              refine r_cV (pc := 75) dX6_ask_75 cv_X6_679 hS.k hkd rfl rfl (Nat.le_of_ble_eq_true rfl) (by decide) ?_
              rintro _ _ ⟨s1, rfl, ⟨rfl, hR1⟩, hf1⟩
              refine r_ist1 (pc := 78) dX6_ask_78 ?_
              refine r_ald0 (pc := 79) dX6_ask_79 ?_
              refine m_getI hS (pc := 80) dX6_ask_80 fl_X6_237 ?_
              refine Bd.eqI hR1.2.1 ?_
              first | refine r_if_neZ (pc := 83) (tgt := 98) dX6_ask_83 (by decide) (fun h83 => ?_) (fun h83 => ?_) | refine r_if_neN (pc := 83) (tgt := 98) dX6_ask_83 (by decide) (by omega) (fun h83 => ?_) (fun h83 => ?_) | refine r_if_ne (pc := 83) (tgt := 98) dX6_ask_83 (by decide) (fun h83 => ?_) (fun h83 => ?_)
              · skip
                exact absurd rfl h83
              · skip
                refine r_ild1 (pc := 86) dX6_ask_86 ?_
                refine r_iconst (v := nI 3) (pc := 87) dX6_ask_87 (by decide) ?_
                first | refine r_icmp_geN (pc := 88) (tgt := 98) dX6_ask_88 (by decide) (by omega) (by omega) (fun h88 => ?_) (fun h88 => ?_) | refine r_icmp_ge (pc := 88) (tgt := 98) dX6_ask_88 (by decide) (fun h88 => ?_) (fun h88 => ?_)
                · skip
                  refine r_ald0 (pc := 98) dX6_ask_98 ?_
                  refine m_getI hS (pc := 99) dX6_ask_99 fl_X6_237 ?_
                  refine Bd.eqI hR1.2.1 ?_
                  first | refine r_if_neZ (pc := 102) (tgt := 109) dX6_ask_102 (by decide) (fun h102 => ?_) (fun h102 => ?_) | refine r_if_neN (pc := 102) (tgt := 109) dX6_ask_102 (by decide) (by omega) (fun h102 => ?_) (fun h102 => ?_) | refine r_if_ne (pc := 102) (tgt := 109) dX6_ask_102 (by decide) (fun h102 => ?_) (fun h102 => ?_)
                  · skip
                    exact absurd rfl h102
                  · skip
                    refine r_ald0 (pc := 105) dX6_ask_105 ?_
                    refine r_cV (pc := 106) dX6_ask_106 cv_X6_342 hS.k (hsm hR1 hf1) rfl rfl (Nat.le_of_ble_eq_true rfl) (by decide) ?_
                    rintro _ _ ⟨s2, rfl, rfl, hf2, hU⟩
                    exact ask109 hS ((hI0.fr hf1 (by decide) (by decide) (by decide) (by decide)).fr hf2 (by decide) (by decide) (by decide) (by decide)) hG hU.1 rfl y1 hU.2 z2 z1 _ rfl
                · skip
                  exact absurd h88 (by omega)
      have hI1 : IM (tF (tF s 3 (nI (gTd q))) 1 (nI 0)) (uTp q (gTp q) 0) := (hI.fr (fs := [3]) (gs := []) (as := []) (bs := []) (Fr.tF Fr.rf (by decide)) (by decide) (by decide) (by decide) (by decide)).tape
      refine r_ald0 (pc := 0) dX6_ask_0 ?_
      refine m_getI hS (pc := 1) dX6_ask_1 fl_X6_375 ?_
      refine Bd.eqI h53 ?_
      first | refine r_if_neZ (pc := 4) (tgt := 16) dX6_ask_4 (by decide) (fun h4 => ?_) (fun h4 => ?_) | refine r_if_neN (pc := 4) (tgt := 16) dX6_ask_4 (by decide) (by omega) (fun h4 => ?_) (fun h4 => ?_) | refine r_if_ne (pc := 4) (tgt := 16) dX6_ask_4 (by decide) (fun h4 => ?_) (fun h4 => ?_)
      · skip
        refine r_ald0 (pc := 16) dX6_ask_16 ?_
        refine r_ald0 (pc := 17) dX6_ask_17 ?_
        refine m_getI hS (pc := 18) dX6_ask_18 fl_X6_234 ?_
        refine Bd.eqI hTp.1 ?_
        refine m_putI hS (pc := 21) dX6_ask_21 fl_X6_246 fw_X6_3 rfl rfl ?_
        refine r_ald0 (pc := 24) dX6_ask_24 ?_
        refine r_iconst (v := nI 0) (pc := 25) dX6_ask_25 (by decide) ?_
        refine m_putI hS (pc := 26) dX6_ask_26 fl_X6_234 fw_X6_1 rfl rfl ?_
        refine r_ald0 (pc := 29) dX6_ask_29 ?_
        refine r_iconst (v := nI 0) (pc := 30) dX6_ask_30 (by decide) ?_
        refine m_putI hS (pc := 31) dX6_ask_31 fl_X6_243 fw_X6_2 rfl rfl ?_
        refine r_ald0 (pc := 34) dX6_ask_34 ?_
        refine r_iconst (v := -1) (pc := 35) dX6_ask_35 (by decide) ?_
        refine m_putI hS (pc := 36) dX6_ask_36 fl_X6_257 fw_X6_4 rfl rfl ?_
        refine r_ald0 (pc := 39) dX6_ask_39 ?_
        refine r_iconst (v := nI 0) (pc := 40) dX6_ask_40 (by decide) ?_
        refine m_putI hS (pc := 41) dX6_ask_41 fl_X6_237 fw_X6_5 rfl rfl ?_
        refine r_ald0 (pc := 44) dX6_ask_44 ?_
        refine r_iconst (v := -1) (pc := 45) dX6_ask_45 (by decide) ?_
        refine m_putI hS (pc := 46) dX6_ask_46 fl_X6_240 fw_X6_6 rfl rfl ?_
        refine r_ald0 (pc := 49) dX6_ask_49 ?_
        refine r_iconst (v := nI 3) (pc := 50) dX6_ask_50 (by decide) ?_
        refine m_putI hS (pc := 51) dX6_ask_51 fl_X6_295 fw_X6_54 rfl rfl ?_
        refine r_ald0 (pc := 54) dX6_ask_54 ?_
        refine r_iconst (v := nI 0) (pc := 55) dX6_ask_55 (by decide) ?_
        refine m_putI hS (pc := 56) dX6_ask_56 fl_X6_327 fw_X6_102 rfl rfl ?_
        refine r_ald0 (pc := 59) dX6_ask_59 ?_
        refine r_iconst (v := nI 0) (pc := 60) dX6_ask_60 (by decide) ?_
        refine m_putI hS (pc := 61) dX6_ask_61 fl_X6_330 fw_X6_104 rfl rfl ?_
        refine r_ald0 (pc := 64) dX6_ask_64 ?_
        refine r_iconst (v := nI 0) (pc := 65) dX6_ask_65 (by decide) ?_
        refine m_putI hS (pc := 66) dX6_ask_66 fl_X6_333 fw_X6_105 rfl rfl ?_
        refine r_ald0 (pc := 69) dX6_ask_69 ?_
        refine r_iconst (v := nI 0) (pc := 70) dX6_ask_70 (by decide) ?_
        refine m_putI hS (pc := 71) dX6_ask_71 fl_X6_336 fw_X6_106 rfl rfl ?_
        exact key _ rfl rfl rfl rfl rfl rfl rfl rfl rfl rfl (hI1.fr (fs := [2, 4, 5, 6, 54, 102, 104, 105, 106]) (gs := []) (as := []) (bs := []) (Fr.tF (Fr.tF (Fr.tF (Fr.tF (Fr.tF (Fr.tF (Fr.tF (Fr.tF (Fr.tF Fr.rf (by decide)) (by decide)) (by decide)) (by decide)) (by decide)) (by decide)) (by decide)) (by decide)) (by decide)) (by decide) (by decide) (by decide) (by decide))
      · skip
        exact absurd h4 (by decide)
end M46
