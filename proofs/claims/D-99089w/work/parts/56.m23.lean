set_option maxRecDepth 100000
/-! THE MODEL: rows seen -/
section M23
variable {g : GC} {M : MM} {o : Nat} {s sB : MS} {M1 : MM} {q : Sg} {T : Te} {t : St} {K : List Ev}
theorem IM.tape {n : Nat} (h : IM s q) : IM (tF s 1 (nI n)) (uTp q (gTp q) n) := by
  have hf : Fr [1] [] [] [] s (tF s 1 (nI n)) := Fr.tF Fr.rf (by decide)
  obtain ⟨a1, a2, a3, a4, a5, a6, a7, a8, a9, a10⟩ := h
  exact ⟨⟨rfl, a1.2⟩, a2.fr hf (by decide), a3.fr hf (by decide), a4.fr hf (by decide) (by decide) (by decide), a5.fr hf (by decide), a6.fr hf (by decide), a7.fr hf (by decide), a8.fr hf (by decide), a9.fr hf (by decide), a10.fr hf (by decide)⟩
theorem rowsOf_len (f : Nat → Nat) : ∀ n, (rowsOf f n).length = n
  | 0 => rfl
  | n + 1 => by show (rowsOf f n ++ [_]).length = n + 1; rw [List.length_append, rowsOf_len f n]; rfl
theorem rowsOf_get (f : Nat → Nat) : ∀ n i a b c, (rowsOf f n)[i]? = some (a, b, c) → i < n ∧ a = f (3 * i) ∧ b = f (3 * i + 1) ∧ c = f (3 * i + 2)
  | 0, i, a, b, c, h => by simp [rowsOf] at h
  | n + 1, i, a, b, c, h => by
    have hl := rowsOf_len f n
    have h : (rowsOf f n ++ [(f (3 * n), f (3 * n + 1), f (3 * n + 2))])[i]? = some (a, b, c) := h
    by_cases e : i < n
    · rw [List.getElem?_append_left (by omega)] at h
      have := rowsOf_get f n i a b c h
      exact ⟨by omega, this.2⟩
    · rw [List.getElem?_append_right (by omega), hl] at h
      by_cases e2 : i = n
      · subst e2
        rw [Nat.sub_self] at h
        cases h
        exact ⟨by omega, rfl, rfl, rfl⟩
      · rw [List.getElem?_eq_none (by simp; omega)] at h; cases h
theorem rowsAll_succ (f : Nat → Nat) (p : Ev → Bool) (n : Nat) : (rowsOf f (n + 1)).all p = ((rowsOf f n).all p && p (f (3 * n), f (3 * n + 1), f (3 * n + 2))) := by
  show (rowsOf f n ++ [_]).all p = _
  rw [List.all_append]; simp
theorem rowsAll_mono (f : Nat → Nat) (p : Ev → Bool) : ∀ k i, (rowsOf f i).all p = false → (rowsOf f (i + k)).all p = false
  | 0, _, h => h
  | k + 1, i, h => by rw [← Nat.add_assoc, rowsAll_succ, rowsAll_mono f p k i h]; rfl
theorem seeCopy {m : Nat} {w2 : Int32} (hS : ShM g M o) (hI : IM s q) (hm : m ≤ 16) :
    ∀ (k i : Nat) (s1 : MS), i + k = 3 * m → (∀ j, j < i → mA s1 68 j = nI (gTp q j)) → Fr [] [] [68] [] s s1 →
    Bd g yX6_see cX6_see 4 (some Jvm.ClassFile.FieldType.int) [] 2 0 0 (putM M o s1) 109 [some (.ref o), some (.int (nI (3 * m))), some (.int w2), some (.int (nI i))] [] (PM M o (uRw q (rowsOf (gTp q) m)) (.int (nI m))) noX := by
  intro k
  induction k with
  | zero =>
    intro i s1 hi h1 hf
    obtain rfl : i = 3 * m := by omega
    have hf2 : Fr [67] [] [68] [] s (tF s1 67 (nI m)) := Fr.tF (hf.mono (by decide) (by decide) (by decide) (by decide)) (by decide)
    refine r_ild3 (pc := 109) dX6_see_109 ?_
    refine r_ild1 (pc := 110) dX6_see_110 ?_
    first | refine r_icmp_geN (pc := 111) (tgt := 132) dX6_see_111 (by decide) (by omega) (by omega) (fun h111 => ?_) (fun h111 => ?_) | refine r_icmp_ge (pc := 111) (tgt := 132) dX6_see_111 (by decide) (fun h111 => ?_) (fun h111 => ?_)
    · skip
      refine r_ald0 (pc := 132) dX6_see_132 ?_
      refine r_ild1 (pc := 133) dX6_see_133 ?_
      refine r_iconst (v := nI 3) (pc := 134) dX6_see_134 (by decide) ?_
      first | refine r_idivN (pc := 135) dX6_see_135 (by omega) (by omega) (by omega) ?_ | refine r_idiv (pc := 135) dX6_see_135 (by decide) ?_
      refine Bd.eqI (x' := nI m) (congrArg nI (by omega)) ?_
      refine m_putI hS (pc := 136) dX6_see_136 fl_X6_391 fw_X6_67 rfl rfl ?_
      refine r_ald0 (pc := 139) dX6_see_139 ?_
      refine m_getI hS (pc := 140) dX6_see_140 fl_X6_391 ?_
      refine r_iret (pc := 143) dX6_see_143 ?_
      obtain ⟨a1, a2, a3, a4, a5, a6, a7, a8, a9, a10⟩ := hI
      refine ⟨_, rfl, rfl, a1.fr hf2 (by decide), a2.fr hf2 (by decide), a3.fr hf2 (by decide), a4.fr hf2 (by decide) (by decide) (by decide), a5.fr hf2 (by decide), a6.fr hf2 (by decide), ⟨?_, ?_⟩, a8.fr hf2 (by decide), a9.fr hf2 (by decide), a10.fr hf2 (by decide)⟩
      · show nI m = nI (rowsOf (gTp q) m).length; rw [rowsOf_len]
      · intro i a b c e; obtain ⟨e0, rfl, rfl, rfl⟩ := rowsOf_get _ _ _ _ _ _ e; exact ⟨h1 _ (by omega), h1 _ (by omega), h1 _ (by omega)⟩
    · skip
      exact absurd h111 (by omega)
  | succ k ih =>
    intro i s1 hi h1 hf
    refine r_ild3 (pc := 109) dX6_see_109 ?_
    refine r_ild1 (pc := 110) dX6_see_110 ?_
    first | refine r_icmp_geN (pc := 111) (tgt := 132) dX6_see_111 (by decide) (by omega) (by omega) (fun h111 => ?_) (fun h111 => ?_) | refine r_icmp_ge (pc := 111) (tgt := 132) dX6_see_111 (by decide) (fun h111 => ?_) (fun h111 => ?_)
    · skip
      exact absurd h111 (by omega)
    · skip
      refine r_ald0 (pc := 114) dX6_see_114 ?_
      refine m_getR hS (pc := 115) dX6_see_115 fl_X6_130 ar68 ?_
      refine r_ild3 (pc := 118) dX6_see_118 ?_
      refine r_ald0 (pc := 119) dX6_see_119 ?_
      refine m_getR hS (pc := 120) dX6_see_120 fl_X6_7 ar0 ?_
      refine r_ild3 (pc := 123) dX6_see_123 ?_
      refine m_iald hS (pc := 124) dX6_see_124 ar0 (by omega) (by omega) ?_
      refine Bd.eqI ((congrFun (hf.2.2.1 0 (by decide)) i).trans (hI.1.2 i (by omega))) ?_
      refine m_iast hS (pc := 125) dX6_see_125 ar68 (by omega) (by omega) ?_
      first | refine r_iinc3N (j := 1) (pc := 126) dX6_see_126 rfl ?_ | refine r_iinc3 (pc := 126) dX6_see_126 ?_
      refine r_goto (pc := 129) (tgt := 109) dX6_see_129 (by decide) ?_
      refine ih (i + 1) _ (by omega) (fun j hj => ?_) (Fr.tA hf (by decide))
      by_cases e : j = i
      · subst e; exact tA_eq
      · rw [tA_ne e]; exact h1 j (by omega)
def seeR (q : Sg) (m : Nat) : Int32 × Sg := if (rowsOf (gTp q) m).all (okRow (tn (gT q))) then (nI m, uRw q (rowsOf (gTp q) m)) else (-1, uRf q 1)
theorem seeLoop {m : Nat} (hS : ShM g M o) (hI : IM s q) (hG : GI q) (hm : m ≤ 16) :
    ∀ (k i : Nat), i + k = m →
    Bd g yX6_see cX6_see 4 (some Jvm.ClassFile.FieldType.int) [] 2 0 0 (putM M o s) 36 [some (.ref o), some (.int (nI (3 * m))), some (.int (zI ((rowsOf (gTp q) i).all (okRow (tn (gT q))) = true))), some (.int (nI (3 * i)))] [] (PM M o (seeR q m).2 (.int (seeR q m).1)) noX := by
  have hT := hI.2.2.2.1.1
  have hn8 := hG.2.2.1.1
  have hby := hG.2.1
  intro k
  induction k with
  | zero =>
    intro i hi
    obtain rfl : i = m := by omega
    cases ha : (rowsOf (gTp q) i).all (okRow (tn (gT q))) with
    | true =>
      rw [show seeR q i = (nI i, uRw q (rowsOf (gTp q) i)) from if_pos ha]
      refine r_ild3 (pc := 36) dX6_see_36 ?_
      refine r_ild1 (pc := 37) dX6_see_37 ?_
      first | refine r_icmp_geN (pc := 38) (tgt := 97) dX6_see_38 (by decide) (by omega) (by omega) (fun h38 => ?_) (fun h38 => ?_) | refine r_icmp_ge (pc := 38) (tgt := 97) dX6_see_38 (by decide) (fun h38 => ?_) (fun h38 => ?_)
      · skip
        refine r_ild2 (pc := 97) dX6_see_97 ?_
        first | refine r_if_neZ (pc := 98) (tgt := 107) dX6_see_98 (by decide) (fun h98 => ?_) (fun h98 => ?_) | refine r_if_neN (pc := 98) (tgt := 107) dX6_see_98 (by decide) (by omega) (fun h98 => ?_) (fun h98 => ?_) | refine r_if_ne (pc := 98) (tgt := 107) dX6_see_98 (by decide) (fun h98 => ?_) (fun h98 => ?_)
        · skip
          refine r_iconst (v := nI 0) (pc := 107) dX6_see_107 (by decide) ?_
          refine r_ist3 (pc := 108) dX6_see_108 ?_
          exact seeCopy hS hI hm (3 * i) 0 s (by omega) (fun j hj => absurd hj (by omega)) Fr.rf
        · skip
          exact absurd rfl h98
      · skip
        exact absurd h38 (by omega)
    | false =>
      rw [show seeR q i = (-1, uRf q 1) from if_neg (by rw [ha]; decide)]
      refine r_ild3 (pc := 36) dX6_see_36 ?_
      refine r_ild1 (pc := 37) dX6_see_37 ?_
      first | refine r_icmp_geN (pc := 38) (tgt := 97) dX6_see_38 (by decide) (by omega) (by omega) (fun h38 => ?_) (fun h38 => ?_) | refine r_icmp_ge (pc := 38) (tgt := 97) dX6_see_38 (by decide) (fun h38 => ?_) (fun h38 => ?_)
      · skip
        refine r_ild2 (pc := 97) dX6_see_97 ?_
        first | refine r_if_neZ (pc := 98) (tgt := 107) dX6_see_98 (by decide) (fun h98 => ?_) (fun h98 => ?_) | refine r_if_neN (pc := 98) (tgt := 107) dX6_see_98 (by decide) (by omega) (fun h98 => ?_) (fun h98 => ?_) | refine r_if_ne (pc := 98) (tgt := 107) dX6_see_98 (by decide) (fun h98 => ?_) (fun h98 => ?_)
        · skip
          exact absurd h98 (by decide)
        · skip
          refine r_ald0 (pc := 101) dX6_see_101 ?_
          refine r_iconst (v := nI 1) (pc := 102) dX6_see_102 (by decide) ?_
          refine r_cV (pc := 103) dX6_see_103 cv_X6_558 hS.k (ct_X6_refuses hS hI (by decide)) rfl rfl (Nat.le_of_ble_eq_true rfl) (by decide) ?_
          rintro _ _ ⟨s1, rfl, rfl, hI1⟩
          refine r_iret (pc := 106) dX6_see_106 ?_
          exact ⟨s1, rfl, rfl, hI1⟩
      · skip
        exact absurd h38 (by omega)
  | succ k ih =>
    intro i hi
    have hih := ih (i + 1) (by omega)
    have hs := rowsAll_succ (gTp q) (okRow (tn (gT q))) i
    have hb0 := hby (3 * i)
    have hb1 := hby (3 * i + 1)
    have hb2 := hby (3 * i + 2)
    cases ha : (rowsOf (gTp q) i).all (okRow (tn (gT q))) with
    | false =>
      have := rowsAll_mono (gTp q) (okRow (tn (gT q))) (k + 1) i ha
      rw [show i + (k + 1) = m by omega] at this
      rw [show seeR q m = (-1, uRf q 1) from if_neg (by rw [this]; decide)]
      refine r_ild3 (pc := 36) dX6_see_36 ?_
      refine r_ild1 (pc := 37) dX6_see_37 ?_
      first | refine r_icmp_geN (pc := 38) (tgt := 97) dX6_see_38 (by decide) (by omega) (by omega) (fun h38 => ?_) (fun h38 => ?_) | refine r_icmp_ge (pc := 38) (tgt := 97) dX6_see_38 (by decide) (fun h38 => ?_) (fun h38 => ?_)
      · skip
        exact absurd h38 (by omega)
      · skip
        refine r_ild2 (pc := 41) dX6_see_41 ?_
        first | refine r_if_eqZ (pc := 42) (tgt := 97) dX6_see_42 (by decide) (fun h42 => ?_) (fun h42 => ?_) | refine r_if_eqN (pc := 42) (tgt := 97) dX6_see_42 (by decide) (by omega) (fun h42 => ?_) (fun h42 => ?_) | refine r_if_eq (pc := 42) (tgt := 97) dX6_see_42 (by decide) (fun h42 => ?_) (fun h42 => ?_)
        · skip
          refine r_ild2 (pc := 97) dX6_see_97 ?_
          first | refine r_if_neZ (pc := 98) (tgt := 107) dX6_see_98 (by decide) (fun h98 => ?_) (fun h98 => ?_) | refine r_if_neN (pc := 98) (tgt := 107) dX6_see_98 (by decide) (by omega) (fun h98 => ?_) (fun h98 => ?_) | refine r_if_ne (pc := 98) (tgt := 107) dX6_see_98 (by decide) (fun h98 => ?_) (fun h98 => ?_)
          · skip
            exact absurd h98 (by decide)
          · skip
            refine r_ald0 (pc := 101) dX6_see_101 ?_
            refine r_iconst (v := nI 1) (pc := 102) dX6_see_102 (by decide) ?_
            refine r_cV (pc := 103) dX6_see_103 cv_X6_558 hS.k (ct_X6_refuses hS hI (by decide)) rfl rfl (Nat.le_of_ble_eq_true rfl) (by decide) ?_
            rintro _ _ ⟨s1, rfl, rfl, hI1⟩
            refine r_iret (pc := 106) dX6_see_106 ?_
            exact ⟨s1, rfl, rfl, hI1⟩
        · skip
          exact absurd h42 (by decide)
    | true =>
      rw [ha, Bool.true_and] at hs
      have hok : okRow (tn (gT q)) (gTp q (3 * i), gTp q (3 * i + 1), gTp q (3 * i + 2)) = (decide (gTp q (3 * i) ≤ 30) && decide (gTp q (3 * i + 1) < tn (gT q)) && decide (gTp q (3 * i + 2) ≤ 99)) := rfl
      rw [hok] at hs
      refine r_ild3 (pc := 36) dX6_see_36 ?_
      refine r_ild1 (pc := 37) dX6_see_37 ?_
      first | refine r_icmp_geN (pc := 38) (tgt := 97) dX6_see_38 (by decide) (by omega) (by omega) (fun h38 => ?_) (fun h38 => ?_) | refine r_icmp_ge (pc := 38) (tgt := 97) dX6_see_38 (by decide) (fun h38 => ?_) (fun h38 => ?_)
      · skip
        exact absurd h38 (by omega)
      · skip
        refine r_ild2 (pc := 41) dX6_see_41 ?_
        first | refine r_if_eqZ (pc := 42) (tgt := 97) dX6_see_42 (by decide) (fun h42 => ?_) (fun h42 => ?_) | refine r_if_eqN (pc := 42) (tgt := 97) dX6_see_42 (by decide) (by omega) (fun h42 => ?_) (fun h42 => ?_) | refine r_if_eq (pc := 42) (tgt := 97) dX6_see_42 (by decide) (fun h42 => ?_) (fun h42 => ?_)
        · skip
          exact absurd rfl h42
        · skip
          refine r_ald0 (pc := 45) dX6_see_45 ?_
          refine m_getR hS (pc := 46) dX6_see_46 fl_X6_7 ar0 ?_
          refine r_ild3 (pc := 49) dX6_see_49 ?_
          refine m_iald hS (pc := 50) dX6_see_50 ar0 (by omega) (by omega) ?_
          refine Bd.eqI (hI.1.2 (3 * i) (by omega)) ?_
          refine r_bipush (v := nI 30) (pc := 51) dX6_see_51 (by decide) ?_
          first | refine r_icmp_gtN (pc := 53) (tgt := 89) dX6_see_53 (by decide) (by omega) (by omega) (fun h53 => ?_) (fun h53 => ?_) | refine r_icmp_gt (pc := 53) (tgt := 89) dX6_see_53 (by decide) (fun h53 => ?_) (fun h53 => ?_)
          · skip
            rw [decide_eq_false (by omega : ¬ gTp q (3 * i) ≤ 30), Bool.false_and, Bool.false_and] at hs
            refine r_iconst (v := nI 0) (pc := 89) dX6_see_89 (by decide) ?_
            refine r_ist2 (pc := 90) dX6_see_90 ?_
            first | refine r_iinc3N (j := 3) (pc := 91) dX6_see_91 rfl ?_ | refine r_iinc3 (pc := 91) dX6_see_91 ?_
            refine r_goto (pc := 94) (tgt := 36) dX6_see_94 (by decide) ?_
            rw [hs] at hih
            exact hih
          · skip
            refine r_ald0 (pc := 56) dX6_see_56 ?_
            refine r_ald0 (pc := 57) dX6_see_57 ?_
            refine m_getR hS (pc := 58) dX6_see_58 fl_X6_7 ar0 ?_
            refine r_ild3 (pc := 61) dX6_see_61 ?_
            refine r_iconst (v := nI 1) (pc := 62) dX6_see_62 (by decide) ?_
            first | refine r_iaddN (pc := 63) dX6_see_63 ?_ | refine r_iaddJ (pc := 63) dX6_see_63 ?_ | refine r_iadd (pc := 63) dX6_see_63 ?_
            refine m_iald hS (pc := 64) dX6_see_64 ar0 (by omega) (by omega) ?_
            refine Bd.eqI (hI.1.2 (3 * i + 1) (by omega)) ?_
            first | refine r_i2lM (pc := 65) dX6_see_65 (by omega) ?_ | refine r_i2lI (pc := 65) dX6_see_65 (by constructor <;> omega) ?_ | refine r_i2lT (pc := 65) dX6_see_65 ?_
            refine r_cV (pc := 66) dX6_see_66 cv_X6_394 hS.k (ct_X6_isPerson hS hT.2.1 hn8 (by constructor <;> omega)) rfl rfl (Nat.le_of_ble_eq_true rfl) (by decide) ?_
            rintro _ _ ⟨rfl, rfl⟩
            first | refine r_if_eqZ (pc := 69) (tgt := 89) dX6_see_69 (by decide) (fun h69 => ?_) (fun h69 => ?_) | refine r_if_eqN (pc := 69) (tgt := 89) dX6_see_69 (by decide) (by omega) (fun h69 => ?_) (fun h69 => ?_) | refine r_if_eq (pc := 69) (tgt := 89) dX6_see_69 (by decide) (fun h69 => ?_) (fun h69 => ?_)
            · skip
              rw [decide_eq_false (by omega : ¬ gTp q (3 * i + 1) < tn (gT q)), Bool.and_false, Bool.false_and] at hs
              refine r_iconst (v := nI 0) (pc := 89) dX6_see_89 (by decide) ?_
              refine r_ist2 (pc := 90) dX6_see_90 ?_
              first | refine r_iinc3N (j := 3) (pc := 91) dX6_see_91 rfl ?_ | refine r_iinc3 (pc := 91) dX6_see_91 ?_
              refine r_goto (pc := 94) (tgt := 36) dX6_see_94 (by decide) ?_
              rw [hs] at hih
              exact hih
            · skip
              refine r_ald0 (pc := 72) dX6_see_72 ?_
              refine m_getR hS (pc := 73) dX6_see_73 fl_X6_7 ar0 ?_
              refine r_ild3 (pc := 76) dX6_see_76 ?_
              refine r_iconst (v := nI 2) (pc := 77) dX6_see_77 (by decide) ?_
              first | refine r_iaddN (pc := 78) dX6_see_78 ?_ | refine r_iaddJ (pc := 78) dX6_see_78 ?_ | refine r_iadd (pc := 78) dX6_see_78 ?_
              refine m_iald hS (pc := 79) dX6_see_79 ar0 (by omega) (by omega) ?_
              refine Bd.eqI (hI.1.2 (3 * i + 2) (by omega)) ?_
              refine r_bipush (v := nI 99) (pc := 80) dX6_see_80 (by decide) ?_
              first | refine r_icmp_gtN (pc := 82) (tgt := 89) dX6_see_82 (by decide) (by omega) (by omega) (fun h82 => ?_) (fun h82 => ?_) | refine r_icmp_gt (pc := 82) (tgt := 89) dX6_see_82 (by decide) (fun h82 => ?_) (fun h82 => ?_)
              · skip
                rw [decide_eq_false (by omega : ¬ gTp q (3 * i + 2) ≤ 99), Bool.and_false] at hs
                refine r_iconst (v := nI 0) (pc := 89) dX6_see_89 (by decide) ?_
                refine r_ist2 (pc := 90) dX6_see_90 ?_
                first | refine r_iinc3N (j := 3) (pc := 91) dX6_see_91 rfl ?_ | refine r_iinc3 (pc := 91) dX6_see_91 ?_
                refine r_goto (pc := 94) (tgt := 36) dX6_see_94 (by decide) ?_
                rw [hs] at hih
                exact hih
              · skip
                rw [decide_eq_true (by omega : gTp q (3 * i) ≤ 30), decide_eq_true (by omega : gTp q (3 * i + 1) < tn (gT q)), decide_eq_true (by omega : gTp q (3 * i + 2) ≤ 99)] at hs
                refine r_iconst (v := nI 1) (pc := 85) dX6_see_85 (by decide) ?_
                refine r_goto (pc := 86) (tgt := 90) dX6_see_86 (by decide) ?_
                refine r_ist2 (pc := 90) dX6_see_90 ?_
                first | refine r_iinc3N (j := 3) (pc := 91) dX6_see_91 rfl ?_ | refine r_iinc3 (pc := 91) dX6_see_91 ?_
                refine r_goto (pc := 94) (tgt := 36) dX6_see_94 (by decide) ?_
                rw [hs] at hih
                exact hih
theorem pm_see (hS : ShM g M o) (hI : IM s q) (hG : GI q) : Ct g yX6_see cX6_see 4 (some Jvm.ClassFile.FieldType.int) 2 0 0 [.ref o] (putM M o s) (PM M o (seeQ q).2 (.int (seeQ q).1)) noX := by
  have hd : gTd q ≤ 1600 := hG.1
  have hI0 : IM (tF s 1 (nI 0)) (uTp q (gTp q) 0) := hI.tape
  have hG0 : GI (uTp q (gTp q) 0) := ⟨by show 0 ≤ 1600; omega, hG.2⟩
  refine Ct.of (by decide) (Nat.le_of_ble_eq_true rfl) rfl ?_
  unfold seeQ
  by_cases hc : 0 < gTd q ∧ gTd q % 3 = 0 ∧ gTd q / 3 ≤ 16
  · have h3 : gTd q = 3 * (gTd q / 3) := by omega
    rw [show (if 0 < gTd q ∧ gTd q % 3 = 0 ∧ gTd q / 3 ≤ 16 ∧ (rowsOf (gTp q) (gTd q / 3)).all (okRow (tn (gT q))) then (nI (gTd q / 3), uRw (uTp q (gTp q) 0) (rowsOf (gTp q) (gTd q / 3))) else (-1, uRf (uTp q (gTp q) 0) 1)) = seeR (uTp q (gTp q) 0) (gTd q / 3) by
      unfold seeR
      by_cases e : (rowsOf (gTp q) (gTd q / 3)).all (okRow (tn (gT q))) = true
      · exact (if_pos ⟨hc.1, hc.2.1, hc.2.2, e⟩).trans (if_pos e).symm
      · exact (if_neg (fun h => e h.2.2.2)).trans (if_neg e).symm]
    have hl := seeLoop (m := gTd q / 3) hS hI0 hG0 hc.2.2 (gTd q / 3) 0 (by omega)
    generalize hu : gTd q / 3 = u at hl hc h3 ⊢
    rw [← h3] at hl
    refine r_ald0 (pc := 0) dX6_see_0 ?_
    refine m_getI hS (pc := 1) dX6_see_1 fl_X6_234 ?_
    refine Bd.eqI hI.1.1 ?_
    refine r_ist1 (pc := 4) dX6_see_4 ?_
    refine r_ald0 (pc := 5) dX6_see_5 ?_
    refine r_iconst (v := nI 0) (pc := 6) dX6_see_6 (by decide) ?_
    refine m_putI hS (pc := 7) dX6_see_7 fl_X6_234 fw_X6_1 rfl rfl ?_
    refine r_ild1 (pc := 10) dX6_see_10 ?_
    first | refine r_if_leN (pc := 11) (tgt := 32) dX6_see_11 (by decide) (by omega) (fun h11 => ?_) (fun h11 => ?_) | refine r_if_le (pc := 11) (tgt := 32) dX6_see_11 (by decide) (fun h11 => ?_) (fun h11 => ?_)
    · skip
      exact absurd h11 (by omega)
    · skip
      refine r_ild1 (pc := 14) dX6_see_14 ?_
      refine r_iconst (v := nI 3) (pc := 15) dX6_see_15 (by decide) ?_
      first | refine r_iremN (pc := 16) dX6_see_16 (by omega) (by omega) (by omega) ?_ | refine r_irem (pc := 16) dX6_see_16 (by decide) ?_
      first | refine r_if_neZ (pc := 17) (tgt := 32) dX6_see_17 (by decide) (fun h17 => ?_) (fun h17 => ?_) | refine r_if_neN (pc := 17) (tgt := 32) dX6_see_17 (by decide) (by omega) (fun h17 => ?_) (fun h17 => ?_) | refine r_if_ne (pc := 17) (tgt := 32) dX6_see_17 (by decide) (fun h17 => ?_) (fun h17 => ?_)
      · skip
        exact absurd h17 (by omega)
      · skip
        refine r_ild1 (pc := 20) dX6_see_20 ?_
        refine r_iconst (v := nI 3) (pc := 21) dX6_see_21 (by decide) ?_
        first | refine r_idivN (pc := 22) dX6_see_22 (by omega) (by omega) (by omega) ?_ | refine r_idiv (pc := 22) dX6_see_22 (by decide) ?_
        refine r_bipush (v := nI 16) (pc := 23) dX6_see_23 (by decide) ?_
        first | refine r_icmp_gtN (pc := 25) (tgt := 32) dX6_see_25 (by decide) (by omega) (by omega) (fun h25 => ?_) (fun h25 => ?_) | refine r_icmp_gt (pc := 25) (tgt := 32) dX6_see_25 (by decide) (fun h25 => ?_) (fun h25 => ?_)
        · skip
          exact absurd h25 (by omega)
        · skip
          refine r_iconst (v := nI 1) (pc := 28) dX6_see_28 (by decide) ?_
          refine r_goto (pc := 29) (tgt := 33) dX6_see_29 (by decide) ?_
          refine r_ist2 (pc := 33) dX6_see_33 ?_
          refine r_iconst (v := nI 0) (pc := 34) dX6_see_34 (by decide) ?_
          refine r_ist3 (pc := 35) dX6_see_35 ?_
          exact hl
  · rw [if_neg (by omega)]
    refine r_ald0 (pc := 0) dX6_see_0 ?_
    refine m_getI hS (pc := 1) dX6_see_1 fl_X6_234 ?_
    refine Bd.eqI hI.1.1 ?_
    refine r_ist1 (pc := 4) dX6_see_4 ?_
    refine r_ald0 (pc := 5) dX6_see_5 ?_
    refine r_iconst (v := nI 0) (pc := 6) dX6_see_6 (by decide) ?_
    refine m_putI hS (pc := 7) dX6_see_7 fl_X6_234 fw_X6_1 rfl rfl ?_
    refine r_ild1 (pc := 10) dX6_see_10 ?_
    first | refine r_if_leN (pc := 11) (tgt := 32) dX6_see_11 (by decide) (by omega) (fun h11 => ?_) (fun h11 => ?_) | refine r_if_le (pc := 11) (tgt := 32) dX6_see_11 (by decide) (fun h11 => ?_) (fun h11 => ?_)
    · skip
      refine r_iconst (v := nI 0) (pc := 32) dX6_see_32 (by decide) ?_
      refine r_ist2 (pc := 33) dX6_see_33 ?_
      refine r_iconst (v := nI 0) (pc := 34) dX6_see_34 (by decide) ?_
      refine r_ist3 (pc := 35) dX6_see_35 ?_
      refine r_ild3 (pc := 36) dX6_see_36 ?_
      refine r_ild1 (pc := 37) dX6_see_37 ?_
      first | refine r_icmp_geN (pc := 38) (tgt := 97) dX6_see_38 (by decide) (by omega) (by omega) (fun h38 => ?_) (fun h38 => ?_) | refine r_icmp_ge (pc := 38) (tgt := 97) dX6_see_38 (by decide) (fun h38 => ?_) (fun h38 => ?_)
      · skip
        refine r_ild2 (pc := 97) dX6_see_97 ?_
        first | refine r_if_neZ (pc := 98) (tgt := 107) dX6_see_98 (by decide) (fun h98 => ?_) (fun h98 => ?_) | refine r_if_neN (pc := 98) (tgt := 107) dX6_see_98 (by decide) (by omega) (fun h98 => ?_) (fun h98 => ?_) | refine r_if_ne (pc := 98) (tgt := 107) dX6_see_98 (by decide) (fun h98 => ?_) (fun h98 => ?_)
        · skip
          exact absurd h98 (by decide)
        · skip
          refine r_ald0 (pc := 101) dX6_see_101 ?_
          refine r_iconst (v := nI 1) (pc := 102) dX6_see_102 (by decide) ?_
          refine r_cV (pc := 103) dX6_see_103 cv_X6_558 hS.k (ct_X6_refuses hS hI0 (by decide)) rfl rfl (Nat.le_of_ble_eq_true rfl) (by decide) ?_
          rintro _ _ ⟨s1, rfl, rfl, hI1⟩
          refine r_iret (pc := 106) dX6_see_106 ?_
          exact ⟨s1, rfl, rfl, hI1⟩
      · skip
        refine r_ild2 (pc := 41) dX6_see_41 ?_
        first | refine r_if_eqZ (pc := 42) (tgt := 97) dX6_see_42 (by decide) (fun h42 => ?_) (fun h42 => ?_) | refine r_if_eqN (pc := 42) (tgt := 97) dX6_see_42 (by decide) (by omega) (fun h42 => ?_) (fun h42 => ?_) | refine r_if_eq (pc := 42) (tgt := 97) dX6_see_42 (by decide) (fun h42 => ?_) (fun h42 => ?_)
        · skip
          refine r_ild2 (pc := 97) dX6_see_97 ?_
          first | refine r_if_neZ (pc := 98) (tgt := 107) dX6_see_98 (by decide) (fun h98 => ?_) (fun h98 => ?_) | refine r_if_neN (pc := 98) (tgt := 107) dX6_see_98 (by decide) (by omega) (fun h98 => ?_) (fun h98 => ?_) | refine r_if_ne (pc := 98) (tgt := 107) dX6_see_98 (by decide) (fun h98 => ?_) (fun h98 => ?_)
          · skip
            exact absurd h98 (by decide)
          · skip
            refine r_ald0 (pc := 101) dX6_see_101 ?_
            refine r_iconst (v := nI 1) (pc := 102) dX6_see_102 (by decide) ?_
            refine r_cV (pc := 103) dX6_see_103 cv_X6_558 hS.k (ct_X6_refuses hS hI0 (by decide)) rfl rfl (Nat.le_of_ble_eq_true rfl) (by decide) ?_
            rintro _ _ ⟨s1, rfl, rfl, hI1⟩
            refine r_iret (pc := 106) dX6_see_106 ?_
            exact ⟨s1, rfl, rfl, hI1⟩
        · skip
          exact absurd h42 (by decide)
    · skip
      refine r_ild1 (pc := 14) dX6_see_14 ?_
      refine r_iconst (v := nI 3) (pc := 15) dX6_see_15 (by decide) ?_
      first | refine r_iremN (pc := 16) dX6_see_16 (by omega) (by omega) (by omega) ?_ | refine r_irem (pc := 16) dX6_see_16 (by decide) ?_
      first | refine r_if_neZ (pc := 17) (tgt := 32) dX6_see_17 (by decide) (fun h17 => ?_) (fun h17 => ?_) | refine r_if_neN (pc := 17) (tgt := 32) dX6_see_17 (by decide) (by omega) (fun h17 => ?_) (fun h17 => ?_) | refine r_if_ne (pc := 17) (tgt := 32) dX6_see_17 (by decide) (fun h17 => ?_) (fun h17 => ?_)
      · skip
        refine r_iconst (v := nI 0) (pc := 32) dX6_see_32 (by decide) ?_
        refine r_ist2 (pc := 33) dX6_see_33 ?_
        refine r_iconst (v := nI 0) (pc := 34) dX6_see_34 (by decide) ?_
        refine r_ist3 (pc := 35) dX6_see_35 ?_
        refine r_ild3 (pc := 36) dX6_see_36 ?_
        refine r_ild1 (pc := 37) dX6_see_37 ?_
        first | refine r_icmp_geN (pc := 38) (tgt := 97) dX6_see_38 (by decide) (by omega) (by omega) (fun h38 => ?_) (fun h38 => ?_) | refine r_icmp_ge (pc := 38) (tgt := 97) dX6_see_38 (by decide) (fun h38 => ?_) (fun h38 => ?_)
        · skip
          refine r_ild2 (pc := 97) dX6_see_97 ?_
          first | refine r_if_neZ (pc := 98) (tgt := 107) dX6_see_98 (by decide) (fun h98 => ?_) (fun h98 => ?_) | refine r_if_neN (pc := 98) (tgt := 107) dX6_see_98 (by decide) (by omega) (fun h98 => ?_) (fun h98 => ?_) | refine r_if_ne (pc := 98) (tgt := 107) dX6_see_98 (by decide) (fun h98 => ?_) (fun h98 => ?_)
          · skip
            exact absurd h98 (by decide)
          · skip
            refine r_ald0 (pc := 101) dX6_see_101 ?_
            refine r_iconst (v := nI 1) (pc := 102) dX6_see_102 (by decide) ?_
            refine r_cV (pc := 103) dX6_see_103 cv_X6_558 hS.k (ct_X6_refuses hS hI0 (by decide)) rfl rfl (Nat.le_of_ble_eq_true rfl) (by decide) ?_
            rintro _ _ ⟨s1, rfl, rfl, hI1⟩
            refine r_iret (pc := 106) dX6_see_106 ?_
            exact ⟨s1, rfl, rfl, hI1⟩
        · skip
          refine r_ild2 (pc := 41) dX6_see_41 ?_
          first | refine r_if_eqZ (pc := 42) (tgt := 97) dX6_see_42 (by decide) (fun h42 => ?_) (fun h42 => ?_) | refine r_if_eqN (pc := 42) (tgt := 97) dX6_see_42 (by decide) (by omega) (fun h42 => ?_) (fun h42 => ?_) | refine r_if_eq (pc := 42) (tgt := 97) dX6_see_42 (by decide) (fun h42 => ?_) (fun h42 => ?_)
          · skip
            refine r_ild2 (pc := 97) dX6_see_97 ?_
            first | refine r_if_neZ (pc := 98) (tgt := 107) dX6_see_98 (by decide) (fun h98 => ?_) (fun h98 => ?_) | refine r_if_neN (pc := 98) (tgt := 107) dX6_see_98 (by decide) (by omega) (fun h98 => ?_) (fun h98 => ?_) | refine r_if_ne (pc := 98) (tgt := 107) dX6_see_98 (by decide) (fun h98 => ?_) (fun h98 => ?_)
            · skip
              exact absurd h98 (by decide)
            · skip
              refine r_ald0 (pc := 101) dX6_see_101 ?_
              refine r_iconst (v := nI 1) (pc := 102) dX6_see_102 (by decide) ?_
              refine r_cV (pc := 103) dX6_see_103 cv_X6_558 hS.k (ct_X6_refuses hS hI0 (by decide)) rfl rfl (Nat.le_of_ble_eq_true rfl) (by decide) ?_
              rintro _ _ ⟨s1, rfl, rfl, hI1⟩
              refine r_iret (pc := 106) dX6_see_106 ?_
              exact ⟨s1, rfl, rfl, hI1⟩
          · skip
            exact absurd h42 (by decide)
      · skip
        refine r_ild1 (pc := 20) dX6_see_20 ?_
        refine r_iconst (v := nI 3) (pc := 21) dX6_see_21 (by decide) ?_
        first | refine r_idivN (pc := 22) dX6_see_22 (by omega) (by omega) (by omega) ?_ | refine r_idiv (pc := 22) dX6_see_22 (by decide) ?_
        refine r_bipush (v := nI 16) (pc := 23) dX6_see_23 (by decide) ?_
        first | refine r_icmp_gtN (pc := 25) (tgt := 32) dX6_see_25 (by decide) (by omega) (by omega) (fun h25 => ?_) (fun h25 => ?_) | refine r_icmp_gt (pc := 25) (tgt := 32) dX6_see_25 (by decide) (fun h25 => ?_) (fun h25 => ?_)
        · skip
          refine r_iconst (v := nI 0) (pc := 32) dX6_see_32 (by decide) ?_
          refine r_ist2 (pc := 33) dX6_see_33 ?_
          refine r_iconst (v := nI 0) (pc := 34) dX6_see_34 (by decide) ?_
          refine r_ist3 (pc := 35) dX6_see_35 ?_
          refine r_ild3 (pc := 36) dX6_see_36 ?_
          refine r_ild1 (pc := 37) dX6_see_37 ?_
          first | refine r_icmp_geN (pc := 38) (tgt := 97) dX6_see_38 (by decide) (by omega) (by omega) (fun h38 => ?_) (fun h38 => ?_) | refine r_icmp_ge (pc := 38) (tgt := 97) dX6_see_38 (by decide) (fun h38 => ?_) (fun h38 => ?_)
          · skip
            refine r_ild2 (pc := 97) dX6_see_97 ?_
            first | refine r_if_neZ (pc := 98) (tgt := 107) dX6_see_98 (by decide) (fun h98 => ?_) (fun h98 => ?_) | refine r_if_neN (pc := 98) (tgt := 107) dX6_see_98 (by decide) (by omega) (fun h98 => ?_) (fun h98 => ?_) | refine r_if_ne (pc := 98) (tgt := 107) dX6_see_98 (by decide) (fun h98 => ?_) (fun h98 => ?_)
            · skip
              exact absurd h98 (by decide)
            · skip
              refine r_ald0 (pc := 101) dX6_see_101 ?_
              refine r_iconst (v := nI 1) (pc := 102) dX6_see_102 (by decide) ?_
              refine r_cV (pc := 103) dX6_see_103 cv_X6_558 hS.k (ct_X6_refuses hS hI0 (by decide)) rfl rfl (Nat.le_of_ble_eq_true rfl) (by decide) ?_
              rintro _ _ ⟨s1, rfl, rfl, hI1⟩
              refine r_iret (pc := 106) dX6_see_106 ?_
              exact ⟨s1, rfl, rfl, hI1⟩
          · skip
            refine r_ild2 (pc := 41) dX6_see_41 ?_
            first | refine r_if_eqZ (pc := 42) (tgt := 97) dX6_see_42 (by decide) (fun h42 => ?_) (fun h42 => ?_) | refine r_if_eqN (pc := 42) (tgt := 97) dX6_see_42 (by decide) (by omega) (fun h42 => ?_) (fun h42 => ?_) | refine r_if_eq (pc := 42) (tgt := 97) dX6_see_42 (by decide) (fun h42 => ?_) (fun h42 => ?_)
            · skip
              refine r_ild2 (pc := 97) dX6_see_97 ?_
              first | refine r_if_neZ (pc := 98) (tgt := 107) dX6_see_98 (by decide) (fun h98 => ?_) (fun h98 => ?_) | refine r_if_neN (pc := 98) (tgt := 107) dX6_see_98 (by decide) (by omega) (fun h98 => ?_) (fun h98 => ?_) | refine r_if_ne (pc := 98) (tgt := 107) dX6_see_98 (by decide) (fun h98 => ?_) (fun h98 => ?_)
              · skip
                exact absurd h98 (by decide)
              · skip
                refine r_ald0 (pc := 101) dX6_see_101 ?_
                refine r_iconst (v := nI 1) (pc := 102) dX6_see_102 (by decide) ?_
                refine r_cV (pc := 103) dX6_see_103 cv_X6_558 hS.k (ct_X6_refuses hS hI0 (by decide)) rfl rfl (Nat.le_of_ble_eq_true rfl) (by decide) ?_
                rintro _ _ ⟨s1, rfl, rfl, hI1⟩
                refine r_iret (pc := 106) dX6_see_106 ?_
                exact ⟨s1, rfl, rfl, hI1⟩
            · skip
              exact absurd h42 (by decide)
        · skip
          exact absurd ⟨by omega, by omega, by omega⟩ hc
end M23
