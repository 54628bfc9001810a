set_option maxRecDepth 100000
/-! THE MODEL: reading bytes -/
section M28
variable {g : GC} {M : MM} {o : Nat} {s sB : MS} {M1 : MM} {q : Sg} {f : Nat → Nat} {n : Nat}
/-- what is read: tape f of n bytes, at a -/
def RD (s : MS) (f : Nat → Nat) (n a : Nat) : Prop := mF s 3 = nI n ∧ mF s 2 = nI a ∧ a ≤ n ∧ n ≤ 1600 ∧ (∀ j, j < 1600 → mA s 0 j = nI (f j)) ∧ ∀ j, f j < 256
theorem lookLoopM (hS : ShM g M o) : ∀ (k a : Nat) (s1 : MS), a + k = n → RD s1 f n a → Fr [2] [] [] [] s s1 →
    Bd g yX6_look cX6_look 1 (some Jvm.ClassFile.FieldType.int) [] 0 0 0 (putM M o s1) 0 [some (.ref o)] [] (QM M o (fun r s' => r = some (.int (oI (if skp f k a < n then some (f (skp f k a)) else none))) ∧ RD s' f n (skp f k a) ∧ Fr [2] [] [] [] s s')) noX := by
  intro k
  induction k with
  | zero =>
    intro a s1 ha hR hf
    have ha : a = n := ha
    subst ha
    have e : skp f 0 a = a := rfl
    have hn := hR.2.2.2.1
    rw [e, if_neg (by omega)]
    refine r_ald0 (pc := 0) dX6_look_0 ?_
    refine m_getI hS (pc := 1) dX6_look_1 fl_X6_243 ?_
    refine Bd.eqI hR.2.1 ?_
    refine r_ald0 (pc := 4) dX6_look_4 ?_
    refine m_getI hS (pc := 5) dX6_look_5 fl_X6_246 ?_
    refine Bd.eqI hR.1 ?_
    first | refine r_icmp_geN (pc := 8) (tgt := 52) dX6_look_8 (by decide) (by omega) (by omega) (fun h8 => ?_) (fun h8 => ?_) | refine r_icmp_ge (pc := 8) (tgt := 52) dX6_look_8 (by decide) (fun h8 => ?_) (fun h8 => ?_)
    · skip
      refine r_ald0 (pc := 52) dX6_look_52 ?_
      refine m_getI hS (pc := 53) dX6_look_53 fl_X6_243 ?_
      refine Bd.eqI hR.2.1 ?_
      refine r_ald0 (pc := 56) dX6_look_56 ?_
      refine m_getI hS (pc := 57) dX6_look_57 fl_X6_246 ?_
      refine Bd.eqI hR.1 ?_
      first | refine r_icmp_geN (pc := 60) (tgt := 75) dX6_look_60 (by decide) (by omega) (by omega) (fun h60 => ?_) (fun h60 => ?_) | refine r_icmp_ge (pc := 60) (tgt := 75) dX6_look_60 (by decide) (fun h60 => ?_) (fun h60 => ?_)
      · skip
        refine r_iconst (v := -1) (pc := 75) dX6_look_75 (by decide) ?_
        refine r_iret (pc := 76) dX6_look_76 ?_
        exact ⟨s1, rfl, rfl, hR, hf⟩
      · skip
        exact absurd h60 (by omega)
    · skip
      exact absurd h8 (by omega)
  | succ k ih =>
    intro a s1 ha hR hf
    have hfa := hR.2.2.2.2.2 a
    have hta := hR.2.2.2.2.1 a (by have := hR.2.2.2.1; omega)
    have hn := hR.2.2.2.1
    have e : skp f (k + 1) a = if blk (f a) then skp f k (a + 1) else a := rfl
    by_cases hb : blk (f a) = true
    · rw [e, if_pos hb]
      have hb2 : f a = 10 ∨ f a = 32 := by unfold blk at hb; simpa using hb
      have hR2 : RD (tF s1 2 (nI (a + 1))) f n (a + 1) := ⟨hR.1, rfl, by omega, hn, hR.2.2.2.2⟩
      refine r_ald0 (pc := 0) dX6_look_0 ?_
      refine m_getI hS (pc := 1) dX6_look_1 fl_X6_243 ?_
      refine Bd.eqI hR.2.1 ?_
      refine r_ald0 (pc := 4) dX6_look_4 ?_
      refine m_getI hS (pc := 5) dX6_look_5 fl_X6_246 ?_
      refine Bd.eqI hR.1 ?_
      first | refine r_icmp_geN (pc := 8) (tgt := 52) dX6_look_8 (by decide) (by omega) (by omega) (fun h8 => ?_) (fun h8 => ?_) | refine r_icmp_ge (pc := 8) (tgt := 52) dX6_look_8 (by decide) (fun h8 => ?_) (fun h8 => ?_)
      · skip
        exact absurd h8 (by omega)
      · skip
        refine r_ald0 (pc := 11) dX6_look_11 ?_
        refine m_getR hS (pc := 12) dX6_look_12 fl_X6_7 ar0 ?_
        refine r_ald0 (pc := 15) dX6_look_15 ?_
        refine m_getI hS (pc := 16) dX6_look_16 fl_X6_243 ?_
        refine Bd.eqI hR.2.1 ?_
        refine m_iald hS (pc := 19) dX6_look_19 ar0 (by omega) (by omega) ?_
        refine Bd.eqI hta ?_
        refine r_bipush (v := nI 10) (pc := 20) dX6_look_20 (by decide) ?_
        first | refine r_icmp_eqN (pc := 22) (tgt := 39) dX6_look_22 (by decide) (by omega) (by omega) (fun h22 => ?_) (fun h22 => ?_) | refine r_icmp_eq (pc := 22) (tgt := 39) dX6_look_22 (by decide) (fun h22 => ?_) (fun h22 => ?_)
        · skip
          refine r_ald0 (pc := 39) dX6_look_39 ?_
          refine r_dup (pc := 40) dX6_look_40 rfl ?_
          refine m_getI hS (pc := 41) dX6_look_41 fl_X6_243 ?_
          refine Bd.eqI hR.2.1 ?_
          refine r_iconst (v := nI 1) (pc := 44) dX6_look_44 (by decide) ?_
          first | refine r_iaddN (pc := 45) dX6_look_45 ?_ | refine r_iaddJ (pc := 45) dX6_look_45 ?_ | refine r_iadd (pc := 45) dX6_look_45 ?_
          refine m_putI hS (pc := 46) dX6_look_46 fl_X6_243 fw_X6_2 rfl rfl ?_
          refine r_goto (pc := 49) (tgt := 0) dX6_look_49 (by decide) ?_
          exact ih (a + 1) _ (by omega) hR2 (Fr.tF hf (by decide))
        · skip
          refine r_ald0 (pc := 25) dX6_look_25 ?_
          refine m_getR hS (pc := 26) dX6_look_26 fl_X6_7 ar0 ?_
          refine r_ald0 (pc := 29) dX6_look_29 ?_
          refine m_getI hS (pc := 30) dX6_look_30 fl_X6_243 ?_
          refine Bd.eqI hR.2.1 ?_
          refine m_iald hS (pc := 33) dX6_look_33 ar0 (by omega) (by omega) ?_
          refine Bd.eqI hta ?_
          refine r_bipush (v := nI 32) (pc := 34) dX6_look_34 (by decide) ?_
          first | refine r_icmp_neN (pc := 36) (tgt := 52) dX6_look_36 (by decide) (by omega) (by omega) (fun h36 => ?_) (fun h36 => ?_) | refine r_icmp_ne (pc := 36) (tgt := 52) dX6_look_36 (by decide) (fun h36 => ?_) (fun h36 => ?_)
          · skip
            exact absurd h36 (by omega)
          · skip
            refine r_ald0 (pc := 39) dX6_look_39 ?_
            refine r_dup (pc := 40) dX6_look_40 rfl ?_
            refine m_getI hS (pc := 41) dX6_look_41 fl_X6_243 ?_
            refine Bd.eqI hR.2.1 ?_
            refine r_iconst (v := nI 1) (pc := 44) dX6_look_44 (by decide) ?_
            first | refine r_iaddN (pc := 45) dX6_look_45 ?_ | refine r_iaddJ (pc := 45) dX6_look_45 ?_ | refine r_iadd (pc := 45) dX6_look_45 ?_
            refine m_putI hS (pc := 46) dX6_look_46 fl_X6_243 fw_X6_2 rfl rfl ?_
            refine r_goto (pc := 49) (tgt := 0) dX6_look_49 (by decide) ?_
            exact ih (a + 1) _ (by omega) hR2 (Fr.tF hf (by decide))
    · rw [e, if_neg hb, if_pos (by omega)]
      have hb2 : ¬ (f a = 10 ∨ f a = 32) := by unfold blk at hb; simpa using hb
      refine r_ald0 (pc := 0) dX6_look_0 ?_
      refine m_getI hS (pc := 1) dX6_look_1 fl_X6_243 ?_
      refine Bd.eqI hR.2.1 ?_
      refine r_ald0 (pc := 4) dX6_look_4 ?_
      refine m_getI hS (pc := 5) dX6_look_5 fl_X6_246 ?_
      refine Bd.eqI hR.1 ?_
      first | refine r_icmp_geN (pc := 8) (tgt := 52) dX6_look_8 (by decide) (by omega) (by omega) (fun h8 => ?_) (fun h8 => ?_) | refine r_icmp_ge (pc := 8) (tgt := 52) dX6_look_8 (by decide) (fun h8 => ?_) (fun h8 => ?_)
      · skip
        exact absurd h8 (by omega)
      · skip
        refine r_ald0 (pc := 11) dX6_look_11 ?_
        refine m_getR hS (pc := 12) dX6_look_12 fl_X6_7 ar0 ?_
        refine r_ald0 (pc := 15) dX6_look_15 ?_
        refine m_getI hS (pc := 16) dX6_look_16 fl_X6_243 ?_
        refine Bd.eqI hR.2.1 ?_
        refine m_iald hS (pc := 19) dX6_look_19 ar0 (by omega) (by omega) ?_
        refine Bd.eqI hta ?_
        refine r_bipush (v := nI 10) (pc := 20) dX6_look_20 (by decide) ?_
        first | refine r_icmp_eqN (pc := 22) (tgt := 39) dX6_look_22 (by decide) (by omega) (by omega) (fun h22 => ?_) (fun h22 => ?_) | refine r_icmp_eq (pc := 22) (tgt := 39) dX6_look_22 (by decide) (fun h22 => ?_) (fun h22 => ?_)
        · skip
          exact absurd h22 (by omega)
        · skip
          refine r_ald0 (pc := 25) dX6_look_25 ?_
          refine m_getR hS (pc := 26) dX6_look_26 fl_X6_7 ar0 ?_
          refine r_ald0 (pc := 29) dX6_look_29 ?_
          refine m_getI hS (pc := 30) dX6_look_30 fl_X6_243 ?_
          refine Bd.eqI hR.2.1 ?_
          refine m_iald hS (pc := 33) dX6_look_33 ar0 (by omega) (by omega) ?_
          refine Bd.eqI hta ?_
          refine r_bipush (v := nI 32) (pc := 34) dX6_look_34 (by decide) ?_
          first | refine r_icmp_neN (pc := 36) (tgt := 52) dX6_look_36 (by decide) (by omega) (by omega) (fun h36 => ?_) (fun h36 => ?_) | refine r_icmp_ne (pc := 36) (tgt := 52) dX6_look_36 (by decide) (fun h36 => ?_) (fun h36 => ?_)
          · skip
            refine r_ald0 (pc := 52) dX6_look_52 ?_
            refine m_getI hS (pc := 53) dX6_look_53 fl_X6_243 ?_
            refine Bd.eqI hR.2.1 ?_
            refine r_ald0 (pc := 56) dX6_look_56 ?_
            refine m_getI hS (pc := 57) dX6_look_57 fl_X6_246 ?_
            refine Bd.eqI hR.1 ?_
            first | refine r_icmp_geN (pc := 60) (tgt := 75) dX6_look_60 (by decide) (by omega) (by omega) (fun h60 => ?_) (fun h60 => ?_) | refine r_icmp_ge (pc := 60) (tgt := 75) dX6_look_60 (by decide) (fun h60 => ?_) (fun h60 => ?_)
            · skip
              exact absurd h60 (by omega)
            · skip
              refine r_ald0 (pc := 63) dX6_look_63 ?_
              refine m_getR hS (pc := 64) dX6_look_64 fl_X6_7 ar0 ?_
              refine r_ald0 (pc := 67) dX6_look_67 ?_
              refine m_getI hS (pc := 68) dX6_look_68 fl_X6_243 ?_
              refine Bd.eqI hR.2.1 ?_
              refine m_iald hS (pc := 71) dX6_look_71 ar0 (by omega) (by omega) ?_
              refine Bd.eqI hta ?_
              refine r_goto (pc := 72) (tgt := 76) dX6_look_72 (by decide) ?_
              refine r_iret (pc := 76) dX6_look_76 ?_
              exact ⟨s1, rfl, rfl, hR, hf⟩
          · skip
            exact absurd h36 (by omega)
theorem ct_X6_look {a : Nat} (hS : ShM g M o) (hR : RD s f n a) : Ct g yX6_look cX6_look 1 (some Jvm.ClassFile.FieldType.int) 0 0 0 [.ref o] (putM M o s) (QM M o (fun r s' => r = some (.int (oI (lookO f n a))) ∧ RD s' f n (skip f n a) ∧ Fr [2] [] [] [] s s')) noX := by
  refine Ct.of (by decide) (Nat.le_of_ble_eq_true rfl) rfl ?_
  exact lookLoopM hS (n - a) a s (by have := hR.2.2.1; omega) hR Fr.rf
theorem ct_X6_fail {k p : Int32} (hS : ShM g M o) (hb : mF s 5 = nI 0) : Ct g yX6_fail cX6_fail 3 none 0 0 0 [.ref o, .int k, .int p] (putM M o s) (QM M o (fun r s' => r = none ∧ s' = tF (tF s 5 k) 6 p)) noX := by
  refine Ct.of (by decide) (Nat.le_of_ble_eq_true rfl) rfl ?_
  refine r_ald0 (pc := 0) dX6_fail_0 ?_
  refine m_getI hS (pc := 1) dX6_fail_1 fl_X6_237 ?_
  refine Bd.eqI hb ?_
  first | refine r_if_eqZ (pc := 4) (tgt := 8) dX6_fail_4 (by decide) (fun h4 => ?_) (fun h4 => ?_) | refine r_if_eqN (pc := 4) (tgt := 8) dX6_fail_4 (by decide) (by omega) (fun h4 => ?_) (fun h4 => ?_) | refine r_if_eq (pc := 4) (tgt := 8) dX6_fail_4 (by decide) (fun h4 => ?_) (fun h4 => ?_)
  · skip
    refine r_ald0 (pc := 8) dX6_fail_8 ?_
    refine r_ild1 (pc := 9) dX6_fail_9 ?_
    refine m_putI hS (pc := 10) dX6_fail_10 fl_X6_237 fw_X6_5 rfl rfl ?_
    refine r_ald0 (pc := 13) dX6_fail_13 ?_
    refine r_ild2 (pc := 14) dX6_fail_14 ?_
    refine m_putI hS (pc := 15) dX6_fail_15 fl_X6_240 fw_X6_6 rfl rfl ?_
    refine r_vret (pc := 18) dX6_fail_18 ?_
    exact ⟨_, rfl, rfl, rfl⟩
  · skip
    exact absurd rfl h4
theorem ct_X6_isLetter {c : Nat} (hc : c < 256) : Ct g yX6_isLetter cX6_isLetter 1 (some Jvm.ClassFile.FieldType.boolean) 0 0 0 [.int (nI c)] M1 (PQ M1 (.int (zI (ltr c = true)))) noX := by
  refine Ct.of (by decide) (Nat.le_of_ble_eq_true rfl) rfl ?_
  unfold ltr
  refine r_ild0 (pc := 0) dX6_isLetter_0 ?_
  refine r_bipush (v := nI 97) (pc := 1) dX6_isLetter_1 (by decide) ?_
  first | refine r_icmp_ltN (pc := 3) (tgt := 16) dX6_isLetter_3 (by decide) (by omega) (by omega) (fun h3 => ?_) (fun h3 => ?_) | refine r_icmp_lt (pc := 3) (tgt := 16) dX6_isLetter_3 (by decide) (fun h3 => ?_) (fun h3 => ?_)
  · skip
    rw [decide_eq_false (by omega : ¬ 97 ≤ c), Bool.false_and]
    refine r_iconst (v := nI 0) (pc := 16) dX6_isLetter_16 (by decide) ?_
    refine r_zret (pc := 17) dX6_isLetter_17 (by first | rfl | exact zI_nar | assumption) ?_
    exact ⟨rfl, rfl⟩
  · skip
    rw [decide_eq_true (by omega : 97 ≤ c), Bool.true_and]
    refine r_ild0 (pc := 6) dX6_isLetter_6 ?_
    refine r_bipush (v := nI 122) (pc := 7) dX6_isLetter_7 (by decide) ?_
    first | refine r_icmp_gtN (pc := 9) (tgt := 16) dX6_isLetter_9 (by decide) (by omega) (by omega) (fun h9 => ?_) (fun h9 => ?_) | refine r_icmp_gt (pc := 9) (tgt := 16) dX6_isLetter_9 (by decide) (fun h9 => ?_) (fun h9 => ?_)
    · skip
      rw [decide_eq_false (by omega : ¬ c ≤ 122)]
      refine r_iconst (v := nI 0) (pc := 16) dX6_isLetter_16 (by decide) ?_
      refine r_zret (pc := 17) dX6_isLetter_17 (by first | rfl | exact zI_nar | assumption) ?_
      exact ⟨rfl, rfl⟩
    · skip
      rw [decide_eq_true (by omega : c ≤ 122)]
      refine r_iconst (v := nI 1) (pc := 12) dX6_isLetter_12 (by decide) ?_
      refine r_goto (pc := 13) (tgt := 17) dX6_isLetter_13 (by decide) ?_
      refine r_zret (pc := 17) dX6_isLetter_17 (by first | rfl | exact zI_nar | assumption) ?_
      exact ⟨rfl, rfl⟩
theorem ct_X6_isDigit {c : Nat} (hc : c < 256) : Ct g yX6_isDigit cX6_isDigit 1 (some Jvm.ClassFile.FieldType.boolean) 0 0 0 [.int (nI c)] M1 (PQ M1 (.int (zI (dgt c = true)))) noX := by
  refine Ct.of (by decide) (Nat.le_of_ble_eq_true rfl) rfl ?_
  unfold dgt
  refine r_ild0 (pc := 0) dX6_isDigit_0 ?_
  refine r_bipush (v := nI 48) (pc := 1) dX6_isDigit_1 (by decide) ?_
  first | refine r_icmp_ltN (pc := 3) (tgt := 16) dX6_isDigit_3 (by decide) (by omega) (by omega) (fun h3 => ?_) (fun h3 => ?_) | refine r_icmp_lt (pc := 3) (tgt := 16) dX6_isDigit_3 (by decide) (fun h3 => ?_) (fun h3 => ?_)
  · skip
    rw [decide_eq_false (by omega : ¬ 48 ≤ c), Bool.false_and]
    refine r_iconst (v := nI 0) (pc := 16) dX6_isDigit_16 (by decide) ?_
    refine r_zret (pc := 17) dX6_isDigit_17 (by first | rfl | exact zI_nar | assumption) ?_
    exact ⟨rfl, rfl⟩
  · skip
    rw [decide_eq_true (by omega : 48 ≤ c), Bool.true_and]
    refine r_ild0 (pc := 6) dX6_isDigit_6 ?_
    refine r_bipush (v := nI 57) (pc := 7) dX6_isDigit_7 (by decide) ?_
    first | refine r_icmp_gtN (pc := 9) (tgt := 16) dX6_isDigit_9 (by decide) (by omega) (by omega) (fun h9 => ?_) (fun h9 => ?_) | refine r_icmp_gt (pc := 9) (tgt := 16) dX6_isDigit_9 (by decide) (fun h9 => ?_) (fun h9 => ?_)
    · skip
      rw [decide_eq_false (by omega : ¬ c ≤ 57)]
      refine r_iconst (v := nI 0) (pc := 16) dX6_isDigit_16 (by decide) ?_
      refine r_zret (pc := 17) dX6_isDigit_17 (by first | rfl | exact zI_nar | assumption) ?_
      exact ⟨rfl, rfl⟩
    · skip
      rw [decide_eq_true (by omega : c ≤ 57)]
      refine r_iconst (v := nI 1) (pc := 12) dX6_isDigit_12 (by decide) ?_
      refine r_goto (pc := 13) (tgt := 17) dX6_isDigit_13 (by decide) ?_
      refine r_zret (pc := 17) dX6_isDigit_17 (by first | rfl | exact zI_nar | assumption) ?_
      exact ⟨rfl, rfl⟩
end M28
