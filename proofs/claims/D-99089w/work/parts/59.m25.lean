set_option maxRecDepth 100000
/-! THE MODEL: images -/
section M25
variable {g : GC} {M : MM} {o : Nat} {s sB : MS} {M1 : MM} {q : Sg} {T : Te} {t : St} {K : List Ev}
theorem checkedLoop {i c N n : Nat} {f : Nat → Nat} (hS : ShM g M o) (ha : AR i c 1 N) (hN : n ≤ N) (hN2 : N ≤ 2000) (hf : ∀ j, j < n → mA s i j = nI (f j) ∧ f j < 1000) :
    ∀ (k j : Nat), j + k = n → Bd g yX6_checked cX6_checked 4 (some Jvm.ClassFile.FieldType.int) [] 0 0 0 (putM M o s) 6 [some (.ref (o + c)), some (.int (nI n)), some (.int (nI (chkF f j))), some (.int (nI j))] [] (PQ (putM M o s) (.int (nI (chkF f n)))) noX := by
  intro k
  induction k with
  | zero =>
    intro j hj
    have hj : j = n := hj
    subst hj
    refine r_ild3 (pc := 6) dX6_checked_6 ?_
    refine r_ild1 (pc := 7) dX6_checked_7 ?_
    first | refine r_icmp_geN (pc := 8) (tgt := 29) dX6_checked_8 (by decide) (by omega) (by omega) (fun h8 => ?_) (fun h8 => ?_) | refine r_icmp_ge (pc := 8) (tgt := 29) dX6_checked_8 (by decide) (fun h8 => ?_) (fun h8 => ?_)
    · skip
      refine r_ild2 (pc := 29) dX6_checked_29 ?_
      refine r_iret (pc := 30) dX6_checked_30 ?_
      exact ⟨rfl, rfl⟩
    · skip
      exact absurd h8 (by omega)
  | succ k ih =>
    intro j hj
    have hlt := chkF_lt f j
    obtain ⟨e1, e2⟩ := hf j (by omega)
    refine r_ild3 (pc := 6) dX6_checked_6 ?_
    refine r_ild1 (pc := 7) dX6_checked_7 ?_
    first | refine r_icmp_geN (pc := 8) (tgt := 29) dX6_checked_8 (by decide) (by omega) (by omega) (fun h8 => ?_) (fun h8 => ?_) | refine r_icmp_ge (pc := 8) (tgt := 29) dX6_checked_8 (by decide) (fun h8 => ?_) (fun h8 => ?_)
    · skip
      exact absurd h8 (by omega)
    · skip
      refine r_iconst (v := nI 3) (pc := 11) dX6_checked_11 (by decide) ?_
      refine r_ild2 (pc := 12) dX6_checked_12 ?_
      first | refine r_imulN (pc := 13) dX6_checked_13 ?_ | refine r_imulJ (pc := 13) dX6_checked_13 ?_ | refine r_imul (pc := 13) dX6_checked_13 ?_
      refine r_ald0 (pc := 14) dX6_checked_14 ?_
      refine r_ild3 (pc := 15) dX6_checked_15 ?_
      refine m_iald (pc := 16) hS dX6_checked_16 ha (by omega) (by omega) ?_
      refine Bd.eqI e1 ?_
      first | refine r_iaddN (pc := 17) dX6_checked_17 ?_ | refine r_iaddJ (pc := 17) dX6_checked_17 ?_ | refine r_iadd (pc := 17) dX6_checked_17 ?_
      refine r_sipush (v := nI 251) (pc := 18) dX6_checked_18 (by decide) ?_
      first | refine r_iremN (pc := 21) dX6_checked_21 (by omega) (by omega) (by omega) ?_ | refine r_irem (pc := 21) dX6_checked_21 (by decide) ?_
      refine r_ist2 (pc := 22) dX6_checked_22 ?_
      first | refine r_iinc3N (j := 1) (pc := 23) dX6_checked_23 rfl ?_ | refine r_iinc3 (pc := 23) dX6_checked_23 ?_
      refine r_goto (pc := 26) (tgt := 6) dX6_checked_26 (by decide) ?_
      exact ih (j + 1) (by omega)
theorem ct_X6_checked {i c N n : Nat} {f : Nat → Nat} (hS : ShM g M o) (ha : AR i c 1 N) (hN : n ≤ N) (hN2 : N ≤ 2000) (hf : ∀ j, j < n → mA s i j = nI (f j) ∧ f j < 1000) :
    Ct g yX6_checked cX6_checked 4 (some Jvm.ClassFile.FieldType.int) 0 0 0 [.ref (o + c), .int (nI n)] (putM M o s) (PQ (putM M o s) (.int (nI (chkF f n)))) noX := by
  refine Ct.of (by decide) (Nat.le_of_ble_eq_true rfl) rfl ?_
  refine r_sipush (v := nI 149) (pc := 0) dX6_checked_0 (by decide) ?_
  refine r_ist2 (pc := 3) dX6_checked_3 ?_
  refine r_iconst (v := nI 0) (pc := 4) dX6_checked_4 (by decide) ?_
  refine r_ist3 (pc := 5) dX6_checked_5 ?_
  exact checkedLoop hS ha hN hN2 hf n 0 (by omega)
def OU (s : MS) (l : List Nat) : Prop := mF s 112 = nI l.length ∧ ∀ i, i < l.length → mA s 111 i = nI (l.getD i 0)
theorem getD_snoc {l : List Nat} {v i : Nat} (h : i < l.length) : (l ++ [v]).getD i 0 = l.getD i 0 := by
  rw [List.getD_eq_getElem?_getD, List.getD_eq_getElem?_getD, List.getElem?_append_left h]
theorem getD_last {l : List Nat} {v : Nat} : (l ++ [v]).getD l.length 0 = v := by
  rw [List.getD_eq_getElem?_getD, List.getElem?_append_right (Nat.le_refl _), Nat.sub_self]; rfl
theorem ct_X6_writes {v : Nat} {l : List Nat} (hS : ShM g M o) (hO : OU s l) (hl : l.length < 83) :
    Ct g yX6_writes cX6_writes 2 none 0 0 0 [.ref o, .int (nI v)] (putM M o s) (QM M o (fun r s' => r = none ∧ OU s' (l ++ [v]) ∧ Fr [112] [] [111] [] s s')) noX := by
  refine Ct.of (by decide) (Nat.le_of_ble_eq_true rfl) rfl ?_
  refine r_ald0 (pc := 0) dX6_writes_0 ?_
  refine m_getR hS (pc := 1) dX6_writes_1 fl_X6_231 ar111 ?_
  refine r_ald0 (pc := 4) dX6_writes_4 ?_
  refine m_getI hS (pc := 5) dX6_writes_5 fl_X6_689 ?_
  refine Bd.eqI hO.1 ?_
  refine r_ild1 (pc := 8) dX6_writes_8 ?_
  refine m_iast hS (pc := 9) dX6_writes_9 ar111 (by omega) (by omega) ?_
  refine r_ald0 (pc := 10) dX6_writes_10 ?_
  refine r_dup (pc := 11) dX6_writes_11 rfl ?_
  refine m_getI hS (pc := 12) dX6_writes_12 fl_X6_689 ?_
  refine Bd.eqI (x' := nI l.length) hO.1 ?_
  refine r_iconst (v := nI 1) (pc := 15) dX6_writes_15 (by decide) ?_
  first | refine r_iaddN (pc := 16) dX6_writes_16 ?_ | refine r_iaddJ (pc := 16) dX6_writes_16 ?_ | refine r_iadd (pc := 16) dX6_writes_16 ?_
  refine m_putI hS (pc := 17) dX6_writes_17 fl_X6_689 fw_X6_112 rfl rfl ?_
  refine r_vret (pc := 20) dX6_writes_20 ?_
  refine ⟨_, rfl, rfl, ⟨?_, fun i hi => ?_⟩, Fr.tF (Fr.tA Fr.rf (by decide)) (by decide)⟩
  · show nI (l.length + 1) = nI (l ++ [v]).length; rw [List.length_append]; rfl
  · rw [List.length_append] at hi
    have hi : i < l.length + 1 := hi
    show mA (tA s 111 l.length (nI v)) 111 i = _
    by_cases e : i = l.length
    · subst e; rw [tA_eq, getD_last]
    · rw [tA_ne e, getD_snoc (by omega)]; exact hO.2 i (by omega)
theorem img1 {p k v : Nat} {l : List Nat} {Q : Option Value → MM → Prop} (hS : ShM g M o) (hp : p < 8) (hk3 : k < 3) (hv : mA s 55 (1 + 3 * p + k) = nI v) (hl : l.length < 83) (hO : OU s l)
    (hk : ∀ s1, OU s1 (l ++ [v]) → Fr [112] [] [111] [] s s1 → Bd g yX6_image cX6_image 3 (some Jvm.ClassFile.FieldType.int) [] 1 0 0 (putM M o s1) 45 [some (.ref o), some (.int (nI p)), some (.int (nI (k + 1)))] [] Q noX) :
    Bd g yX6_image cX6_image 3 (some Jvm.ClassFile.FieldType.int) [] 1 0 0 (putM M o s) 45 [some (.ref o), some (.int (nI p)), some (.int (nI k))] [] Q noX := by
  refine r_ild2 (pc := 45) dX6_image_45 ?_
  refine r_iconst (v := nI 3) (pc := 46) dX6_image_46 (by decide) ?_
  first | refine r_icmp_geN (pc := 47) (tgt := 72) dX6_image_47 (by decide) (by omega) (by omega) (fun h47 => ?_) (fun h47 => ?_) | refine r_icmp_ge (pc := 47) (tgt := 72) dX6_image_47 (by decide) (fun h47 => ?_) (fun h47 => ?_)
  · skip
    exact absurd h47 (by omega)
  · skip
    refine r_ald0 (pc := 50) dX6_image_50 ?_
    refine r_ald0 (pc := 51) dX6_image_51 ?_
    refine m_getR hS (pc := 52) dX6_image_52 fl_X6_121 ar55 ?_
    refine r_iconst (v := nI 1) (pc := 55) dX6_image_55 (by decide) ?_
    refine r_iconst (v := nI 3) (pc := 56) dX6_image_56 (by decide) ?_
    refine r_ild1 (pc := 57) dX6_image_57 ?_
    first | refine r_imulN (pc := 58) dX6_image_58 ?_ | refine r_imulJ (pc := 58) dX6_image_58 ?_ | refine r_imul (pc := 58) dX6_image_58 ?_
    first | refine r_iaddN (pc := 59) dX6_image_59 ?_ | refine r_iaddJ (pc := 59) dX6_image_59 ?_ | refine r_iadd (pc := 59) dX6_image_59 ?_
    refine r_ild2 (pc := 60) dX6_image_60 ?_
    first | refine r_iaddN (pc := 61) dX6_image_61 ?_ | refine r_iaddJ (pc := 61) dX6_image_61 ?_ | refine r_iadd (pc := 61) dX6_image_61 ?_
    refine m_iald hS (pc := 62) dX6_image_62 ar55 (by omega) (by omega) ?_
    refine Bd.eqI (x' := nI v) hv ?_
    refine r_cV (pc := 63) dX6_image_63 cv_X6_692 hS.k (ct_X6_writes hS hO hl) rfl rfl (Nat.le_of_ble_eq_true rfl) (by decide) ?_
    rintro _ _ ⟨s1, rfl, rfl, hO1, hf1⟩
    first | refine r_iinc2N (j := 1) (pc := 66) dX6_image_66 rfl ?_ | refine r_iinc2 (pc := 66) dX6_image_66 ?_
    refine r_goto (pc := 69) (tgt := 45) dX6_image_69 (by decide) ?_
    exact hk s1 hO1 hf1
theorem img0 {p : Nat} {Q : Option Value → MM → Prop} (hk : ∀ w2, Bd g yX6_image cX6_image 3 (some Jvm.ClassFile.FieldType.int) [] 1 0 0 (putM M o s) 72 [some (.ref o), some (.int (nI p)), w2] [] Q noX) :
    Bd g yX6_image cX6_image 3 (some Jvm.ClassFile.FieldType.int) [] 1 0 0 (putM M o s) 45 [some (.ref o), some (.int (nI p)), some (.int (nI 3))] [] Q noX := by
  refine r_ild2 (pc := 45) dX6_image_45 ?_
  refine r_iconst (v := nI 3) (pc := 46) dX6_image_46 (by decide) ?_
  first | refine r_icmp_geN (pc := 47) (tgt := 72) dX6_image_47 (by decide) (by omega) (by omega) (fun h47 => ?_) (fun h47 => ?_) | refine r_icmp_ge (pc := 47) (tgt := 72) dX6_image_47 (by decide) (fun h47 => ?_) (fun h47 => ?_)
  · skip
    exact hk _
  · skip
    exact absurd h47 (by omega)
theorem img3 {n p : Nat} {l : List Nat} {Q : Option Value → MM → Prop} (hS : ShM g M o) (hn8 : n ≤ 8) (hN : RN s n t) (hp : p < n)
    (hl : l.length ≤ 80) (hO : OU s l)
    (hk : ∀ s1 w2, OU s1 (l ++ [hs t p, lk t p, sp t p]) → Fr [112] [] [111] [] s s1 → Bd g yX6_image cX6_image 3 (some Jvm.ClassFile.FieldType.int) [] 1 0 0 (putM M o s1) 72 [some (.ref o), some (.int (nI p)), w2] [] Q noX) :
    Bd g yX6_image cX6_image 3 (some Jvm.ClassFile.FieldType.int) [] 1 0 0 (putM M o s) 45 [some (.ref o), some (.int (nI p)), some (.int (nI 0))] [] Q noX := by
  refine img1 (v := hs t p) hS (by omega) (by decide) (hN.2.1 p hp) (by omega) hO (fun s1 hO1 hf1 => ?_)
  refine img1 (v := lk t p) hS (by omega) (by decide) ((congrArg (mA s1 55) (by omega : 1 + 3 * p + 1 = 2 + 3 * p)).trans ((hN.fr hf1 (by decide)).2.2.1 p hp)) (by rw [List.length_append]; show l.length + 1 < 83; omega) hO1 (fun s2 hO2 hf2 => ?_)
  refine img1 (v := sp t p) hS (by omega) (by decide) ((congrArg (mA s2 55) (by omega : 1 + 3 * p + 2 = 3 + 3 * p)).trans (((hN.fr hf1 (by decide)).fr hf2 (by decide)).2.2.2.1 p hp)) (by rw [List.length_append, List.length_append]; show l.length + 1 + 1 < 83; omega) hO2 (fun s3 hO3 hf3 => ?_)
  exact img0 (fun w2 => hk s3 w2 (by rw [List.append_assoc, List.append_assoc] at hO3; exact hO3) (hf1.trans (hf2.trans hf3)))
theorem imgT {n p : Nat} {l : List Nat} {Q : Option Value → MM → Prop} (hS : ShM g M o) (hn8 : n ≤ 8) (hn : mF s 40 = nI n) (hN : RN s n t) (hp : p < n)
    (hl : l.length ≤ 75)
    (hk : ∀ s1 w2, OU s1 (l ++ thL t p n) → Fr [112] [] [111] [] s s1 → Bd g yX6_image cX6_image 3 (some Jvm.ClassFile.FieldType.int) [] 1 0 0 (putM M o s1) 103 [some (.ref o), some (.int (nI p)), w2] [] Q noX) :
    ∀ (m k : Nat) (s1 : MS), k + m = n → OU s1 (l ++ thL t p k) → Fr [112] [] [111] [] s s1 → Bd g yX6_image cX6_image 3 (some Jvm.ClassFile.FieldType.int) [] 1 0 0 (putM M o s1) 74 [some (.ref o), some (.int (nI p)), some (.int (nI k))] [] Q noX := by
  intro m
  induction m with
  | zero =>
    intro k s1 hkm hO hf
    have hkm : k = n := hkm
    subst hkm
    refine r_ild2 (pc := 74) dX6_image_74 ?_
    refine r_ald0 (pc := 75) dX6_image_75 ?_
    refine m_getI hS (pc := 76) dX6_image_76 fl_X6_382 ?_
    refine Bd.eqI ((hf.1 40 (by decide)).trans hn) ?_
    first | refine r_icmp_geN (pc := 79) (tgt := 103) dX6_image_79 (by decide) (by omega) (by omega) (fun h79 => ?_) (fun h79 => ?_) | refine r_icmp_ge (pc := 79) (tgt := 103) dX6_image_79 (by decide) (fun h79 => ?_) (fun h79 => ?_)
    · skip
      exact hk s1 _ hO hf
    · skip
      exact absurd h79 (by omega)
  | succ m ih =>
    intro k s1 hkm hO hf
    have hN1 := hN.fr hf (by decide)
    have hlen := thL_len t p k
    have hlen2 : (l ++ thL t p k).length ≤ 82 := by rw [List.length_append, hlen]; split <;> omega
    have e : thL t p (k + 1) = thL t p k ++ (if k = p then [] else [th t p k]) := rfl
    have hih := fun s2 => ih (k + 1) s2 (by omega)
    refine r_ild2 (pc := 74) dX6_image_74 ?_
    refine r_ald0 (pc := 75) dX6_image_75 ?_
    refine m_getI hS (pc := 76) dX6_image_76 fl_X6_382 ?_
    refine Bd.eqI ((hf.1 40 (by decide)).trans hn) ?_
    first | refine r_icmp_geN (pc := 79) (tgt := 103) dX6_image_79 (by decide) (by omega) (by omega) (fun h79 => ?_) (fun h79 => ?_) | refine r_icmp_ge (pc := 79) (tgt := 103) dX6_image_79 (by decide) (fun h79 => ?_) (fun h79 => ?_)
    · skip
      exact absurd h79 (by omega)
    · skip
      refine r_ild2 (pc := 82) dX6_image_82 ?_
      refine r_ild1 (pc := 83) dX6_image_83 ?_
      first | refine r_icmp_eqN (pc := 84) (tgt := 97) dX6_image_84 (by decide) (by omega) (by omega) (fun h84 => ?_) (fun h84 => ?_) | refine r_icmp_eq (pc := 84) (tgt := 97) dX6_image_84 (by decide) (fun h84 => ?_) (fun h84 => ?_)
      · skip
        rw [if_pos h84, List.append_nil] at e
        first | refine r_iinc2N (j := 1) (pc := 97) dX6_image_97 rfl ?_ | refine r_iinc2 (pc := 97) dX6_image_97 ?_
        refine r_goto (pc := 100) (tgt := 74) dX6_image_100 (by decide) ?_
        first | exact hih s1 (by rw [e]; exact hO) hf | exact hih s2 (by rw [e, ← List.append_assoc]; exact hO2) (hf.trans hf2)
      · skip
        rw [if_neg h84] at e
        refine r_ald0 (pc := 87) dX6_image_87 ?_
        refine r_ald0 (pc := 88) dX6_image_88 ?_
        refine r_ild1 (pc := 89) dX6_image_89 ?_
        refine r_ild2 (pc := 90) dX6_image_90 ?_
        refine r_cV (pc := 91) dX6_image_91 cv_X6_438 hS.k (ct_X6_thoughtOf hS (by omega) (by omega)) rfl rfl (Nat.le_of_ble_eq_true rfl) (by decide) ?_
        rintro _ _ ⟨rfl, rfl⟩
        refine Bd.eqI (x' := nI (th t p k)) (hN1.2.2.2.2 p hp k (by omega)) ?_
        refine r_cV (pc := 94) dX6_image_94 cv_X6_692 hS.k (ct_X6_writes hS hO (by omega)) rfl rfl (Nat.le_of_ble_eq_true rfl) (by decide) ?_
        rintro _ _ ⟨s2, rfl, rfl, hO2, hf2⟩
        first | refine r_iinc2N (j := 1) (pc := 97) dX6_image_97 rfl ?_ | refine r_iinc2 (pc := 97) dX6_image_97 ?_
        refine r_goto (pc := 100) (tgt := 74) dX6_image_100 (by decide) ?_
        first | exact hih s1 (by rw [e]; exact hO) hf | exact hih s2 (by rw [e, ← List.append_assoc]; exact hO2) (hf.trans hf2)
theorem imgLoop {n : Nat} {Q : Option Value → MM → Prop} (hS : ShM g M o) (hn8 : n ≤ 8) (hn : mF s 40 = nI n) (hN : RN s n t)
    (hk : ∀ s1 w1 w2, OU s1 (imgL t n n) → Fr [112] [] [111] [] s s1 → Bd g yX6_image cX6_image 3 (some Jvm.ClassFile.FieldType.int) [] 1 0 0 (putM M o s1) 109 [some (.ref o), w1, w2] [] Q noX) :
    ∀ (m p : Nat) (s1 : MS) (w2 : Option Value), p + m = n → OU s1 (imgL t n p) → Fr [112] [] [111] [] s s1 → Bd g yX6_image cX6_image 3 (some Jvm.ClassFile.FieldType.int) [] 1 0 0 (putM M o s1) 35 [some (.ref o), some (.int (nI p)), w2] [] Q noX := by
  intro m
  induction m with
  | zero =>
    intro p s1 w2 hpm hO hf
    have hpm : p = n := hpm
    subst hpm
    refine r_ild1 (pc := 35) dX6_image_35 ?_
    refine r_ald0 (pc := 36) dX6_image_36 ?_
    refine m_getI hS (pc := 37) dX6_image_37 fl_X6_382 ?_
    refine Bd.eqI ((hf.1 40 (by decide)).trans hn) ?_
    first | refine r_icmp_geN (pc := 40) (tgt := 109) dX6_image_40 (by decide) (by omega) (by omega) (fun h40 => ?_) (fun h40 => ?_) | refine r_icmp_ge (pc := 40) (tgt := 109) dX6_image_40 (by decide) (fun h40 => ?_) (fun h40 => ?_)
    · skip
      exact hk s1 _ w2 hO hf
    · skip
      exact absurd h40 (by omega)
  | succ m ih =>
    intro p s1 w2 hpm hO hf
    have hlen := imgL_len t n p (by omega)
    have hmul : p * (2 + n) ≤ 7 * 10 := Nat.mul_le_mul (by omega) (by omega)
    have hC : ∀ s4 w2, OU s4 (imgL t n p ++ [hs t p, lk t p, sp t p] ++ thL t p n) → Fr [112] [] [111] [] s s4 → Bd g yX6_image cX6_image 3 (some Jvm.ClassFile.FieldType.int) [] 1 0 0 (putM M o s4) 103 [some (.ref o), some (.int (nI p)), w2] [] Q noX := by
      intro s4 w2 hO4 hf4
      first | refine r_iinc1N (j := 1) (pc := 103) dX6_image_103 rfl ?_ | refine r_iinc1 (pc := 103) dX6_image_103 ?_
      refine r_goto (pc := 106) (tgt := 35) dX6_image_106 (by decide) ?_
      exact ih (p + 1) s4 w2 (by omega) (by rw [List.append_assoc] at hO4; exact hO4) hf4
    have hA : ∀ s2 w2, OU s2 (imgL t n p ++ [hs t p, lk t p, sp t p]) → Fr [112] [] [111] [] s1 s2 → Bd g yX6_image cX6_image 3 (some Jvm.ClassFile.FieldType.int) [] 1 0 0 (putM M o s2) 72 [some (.ref o), some (.int (nI p)), w2] [] Q noX := by
      intro s2 w2 hO2 hf2
      refine r_iconst (v := nI 0) (pc := 72) dX6_image_72 (by decide) ?_
      refine r_ist2 (pc := 73) dX6_image_73 ?_
      exact imgT (t := t) hS hn8 (((hf.trans hf2).1 40 (by decide)).trans hn) (hN.fr (hf.trans hf2) (by decide)) (by omega) (by rw [List.length_append, hlen]; have h3 : [hs t p, lk t p, sp t p].length = 3 := rfl; omega) (fun s4 w4 hO4 hf4 => hC s4 w4 hO4 ((hf.trans hf2).trans hf4)) n 0 s2 (by omega) (by rw [show thL t p 0 = [] from rfl, List.append_nil]; exact hO2) Fr.rf
    refine r_ild1 (pc := 35) dX6_image_35 ?_
    refine r_ald0 (pc := 36) dX6_image_36 ?_
    refine m_getI hS (pc := 37) dX6_image_37 fl_X6_382 ?_
    refine Bd.eqI ((hf.1 40 (by decide)).trans hn) ?_
    first | refine r_icmp_geN (pc := 40) (tgt := 109) dX6_image_40 (by decide) (by omega) (by omega) (fun h40 => ?_) (fun h40 => ?_) | refine r_icmp_ge (pc := 40) (tgt := 109) dX6_image_40 (by decide) (fun h40 => ?_) (fun h40 => ?_)
    · skip
      exact absurd h40 (by omega)
    · skip
      refine r_iconst (v := nI 0) (pc := 43) dX6_image_43 (by decide) ?_
      refine r_ist2 (pc := 44) dX6_image_44 ?_
      exact img3 (t := t) hS hn8 (hN.fr hf (by decide)) (by omega) (by omega) hO hA
theorem imgL_lt {n : Nat} (hB : SB n t) (hy : yr t ≤ 999) : ∀ p, p ≤ n → ∀ v ∈ imgL t n p, v < 256 := by
  have hth : ∀ p, p < n → ∀ k, k ≤ n → ∀ v ∈ thL t p k, v < 256 := by
    intro p hp k
    induction k with
    | zero => intro _ v hv; cases hv
    | succ k ih =>
      intro hk v hv
      have hv : v ∈ thL t p k ++ (if k = p then [] else [th t p k]) := hv
      rcases List.mem_append.mp hv with h | h
      · exact ih (by omega) v h
      · split at h
        · cases h
        · rw [List.mem_singleton.mp h]; have := (hB.2 p hp).2.2.2 k (by omega); omega
  intro p
  induction p with
  | zero =>
    intro _ v hv
    have hv : v ∈ [yr t / 256, yr t % 256] := hv
    simp at hv; omega
  | succ p ih =>
    intro hp v hv
    have hv : v ∈ imgL t n p ++ ([hs t p, lk t p, sp t p] ++ thL t p n) := hv
    have hb := hB.2 p (by omega)
    rcases List.mem_append.mp hv with h | h
    · exact ih (by omega) v h
    · rcases List.mem_append.mp h with h | h
      · simp at h; omega
      · exact hth p (by omega) n (Nat.le_refl _) v h
theorem getD_lt {l : List Nat} {b i : Nat} (h : ∀ v ∈ l, v < b) (hi : i < l.length) : l.getD i 0 < b := by
  rw [List.getD_eq_getElem?_getD, List.getElem?_eq_getElem hi]; exact h _ (List.getElem_mem hi)
theorem pm_image (hS : ShM g M o) (hI : IM s q) (hG : GI q) : Ct g yX6_image cX6_image 3 (some Jvm.ClassFile.FieldType.int) 1 0 0 [.ref o] (putM M o s) (PM M o (imageQ q).2 (.int (imageQ q).1)) noX := by
  have hT := hI.2.2.2.1.1
  have hN := hI.2.2.2.2.1.1
  have hn8 := hG.2.2.1.1
  have hB : SB (tn (gT q)) (gS q) := hG.2.2.2.2.2.1.1
  have hy : yr (gS q) ≤ 999 := hG.2.2.2.2.2.1.2.1
  have hlen := imgL_len (gS q) (tn (gT q)) (tn (gT q)) (Nat.le_refl _)
  have hmul : tn (gT q) * (2 + tn (gT q)) ≤ 8 * 10 := Nat.mul_le_mul (by omega) (by omega)
  have hlt := imgL_lt hB hy (tn (gT q)) (Nat.le_refl _)
  have hE : ∀ s1 w1 w2, OU s1 (imgL (gS q) (tn (gT q)) (tn (gT q))) → Fr [112] [] [111] [] s s1 → Bd g yX6_image cX6_image 3 (some Jvm.ClassFile.FieldType.int) [] 1 0 0 (putM M o s1) 109 [some (.ref o), w1, w2] [] (PM M o (imageQ q).2 (.int (imageQ q).1)) noX := by
    intro s1 w1 w2 hO1 hf1
    refine r_ald0 (pc := 109) dX6_image_109 ?_
    refine r_ald0 (pc := 110) dX6_image_110 ?_
    refine m_getR hS (pc := 111) dX6_image_111 fl_X6_231 ar111 ?_
    refine r_ald0 (pc := 114) dX6_image_114 ?_
    refine m_getI hS (pc := 115) dX6_image_115 fl_X6_689 ?_
    refine Bd.eqI hO1.1 ?_
    refine r_cS (pc := 118) dX6_image_118 cs_X6_695 (ct_X6_checked (f := fun i => (imgL (gS q) (tn (gT q)) (tn (gT q))).getD i 0) hS ar111 (by omega) (by omega) (fun j hj => ⟨hO1.2 j hj, by have := getD_lt hlt hj; show List.getD _ j 0 < 1000; omega⟩)) rfl rfl (Nat.le_of_ble_eq_true rfl) (by decide) ?_
    rintro _ _ ⟨rfl, rfl⟩
    refine r_cV (pc := 121) dX6_image_121 cv_X6_692 hS.k (ct_X6_writes hS hO1 (by omega)) rfl rfl (Nat.le_of_ble_eq_true rfl) (by decide) ?_
    rintro _ _ ⟨s2, rfl, rfl, hO2, hf2⟩
    refine r_ald0 (pc := 124) dX6_image_124 ?_
    refine m_getI hS (pc := 125) dX6_image_125 fl_X6_689 ?_
    refine Bd.eqI hO2.1 ?_
    refine r_iret (pc := 128) dX6_image_128 ?_
    have hf3 := hf1.trans hf2
    obtain ⟨a1, a2, a3, a4, a5, a6, a7, a8, a9, a10⟩ := hI
    exact ⟨s2, rfl, rfl, a1.fr hf3 (by decide), a2.fr hf3 (by decide), a3.fr hf3 (by decide), a4.fr hf3 (by decide) (by decide) (by decide), a5.fr hf3 (by decide), a6.fr hf3 (by decide), a7.fr hf3 (by decide), a8.fr hf3 (by decide), hO2, a10.fr hf3 (by decide)⟩
  have hO0 : OU (tF s 112 (nI 0)) [] := ⟨rfl, fun i hi => absurd hi (by simp)⟩
  have hf0 : Fr [112] [] [111] [] s (tF s 112 (nI 0)) := Fr.tF Fr.rf (by decide)
  refine Ct.of (by decide) (Nat.le_of_ble_eq_true rfl) rfl ?_
  refine r_ald0 (pc := 0) dX6_image_0 ?_
  refine r_iconst (v := nI 0) (pc := 1) dX6_image_1 (by decide) ?_
  refine m_putI hS (pc := 2) dX6_image_2 fl_X6_689 fw_X6_112 rfl rfl ?_
  refine r_ald0 (pc := 5) dX6_image_5 ?_
  refine r_ald0 (pc := 6) dX6_image_6 ?_
  refine m_getR hS (pc := 7) dX6_image_7 fl_X6_121 ar55 ?_
  refine r_iconst (v := nI 0) (pc := 10) dX6_image_10 (by decide) ?_
  refine m_iald hS (pc := 11) dX6_image_11 ar55 (by omega) (by omega) ?_
  refine Bd.eqI hN.1 ?_
  refine r_sipush (v := nI 256) (pc := 12) dX6_image_12 (by decide) ?_
  first | refine r_idivN (pc := 15) dX6_image_15 (by omega) (by omega) (by omega) ?_ | refine r_idiv (pc := 15) dX6_image_15 (by decide) ?_
  refine r_cV (pc := 16) dX6_image_16 cv_X6_692 hS.k (ct_X6_writes hS hO0 (by decide)) rfl rfl (Nat.le_of_ble_eq_true rfl) (by decide) ?_
  rintro _ _ ⟨s1, rfl, rfl, hO1, hf1⟩
  refine r_ald0 (pc := 19) dX6_image_19 ?_
  refine r_ald0 (pc := 20) dX6_image_20 ?_
  refine m_getR hS (pc := 21) dX6_image_21 fl_X6_121 ar55 ?_
  refine r_iconst (v := nI 0) (pc := 24) dX6_image_24 (by decide) ?_
  refine m_iald hS (pc := 25) dX6_image_25 ar55 (by omega) (by omega) ?_
  refine Bd.eqI (hN.fr (hf0.trans hf1) (by decide)).1 ?_
  refine r_sipush (v := nI 256) (pc := 26) dX6_image_26 (by decide) ?_
  first | refine r_iremN (pc := 29) dX6_image_29 (by omega) (by omega) (by omega) ?_ | refine r_irem (pc := 29) dX6_image_29 (by decide) ?_
  refine r_cV (pc := 30) dX6_image_30 cv_X6_692 hS.k (ct_X6_writes hS hO1 (show 1 < 83 by omega)) rfl rfl (Nat.le_of_ble_eq_true rfl) (by decide) ?_
  rintro _ _ ⟨s2, rfl, rfl, hO2, hf2⟩
  refine r_iconst (v := nI 0) (pc := 33) dX6_image_33 (by decide) ?_
  refine r_ist1 (pc := 34) dX6_image_34 ?_
  exact imgLoop (t := gS q) hS hn8 hT.2.1 hN hE (tn (gT q)) 0 s2 _ (by omega) hO2 (hf0.trans (hf1.trans hf2))
end M25
