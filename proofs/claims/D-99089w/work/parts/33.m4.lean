set_option maxRecDepth 100000
/-! THE MODEL: the picture of a terrace and its state; painted, minded, isFeud -/
/-- the codes of kind w, as the model keeps them -/
def RC (s : MS) (T : Te) (w : Nat) : Prop := match cd T w with
  | none => mA s 48 (3 + w) = -1
  | some cs => ∃ f e : Nat, mA s 48 (3 + w) = nI f ∧ mA s 49 (3 + w) = nI e ∧ f + cs.length = e ∧ e ≤ 1600 ∧ hol (mA s 50) (1600 + f) cs
def RT (s : MS) (T : Te) : Prop := mF s 38 = nI (tH T) ∧ mF s 40 = nI (tn T) ∧ (∀ p, p < tn T → mA s 43 (8 + p) = nI (fa T p)) ∧ (∀ p, p < tn T → mA s 44 (8 + p) = nI (ki T p)) ∧ RC s T 0 ∧ RC s T 1 ∧ RC s T 2 ∧ mF s 47 = nI (sl T)
def RN (s : MS) (n : Nat) (t : St) : Prop := mA s 55 0 = nI (yr t) ∧ (∀ p, p < n → mA s 55 (1 + 3 * p) = nI (hs t p)) ∧ (∀ p, p < n → mA s 55 (2 + 3 * p) = nI (lk t p)) ∧ (∀ p, p < n → mA s 55 (3 + 3 * p) = nI (sp t p)) ∧ ∀ p, p < n → ∀ q, q < n → mA s 55 (25 + 8 * p + q) = nI (th t p q)
theorem RT.fr {fs gs as bs : List Nat} {s s' : MS} {T : Te} (h : RT s T) (hf : Fr fs gs as bs s s') (h1 : 38 ∉ fs ∧ 40 ∉ fs ∧ 47 ∉ fs) (h2 : 43 ∉ as ∧ 44 ∉ as ∧ 48 ∉ as ∧ 49 ∉ as ∧ 50 ∉ as) : RT s' T := by
  unfold RT RC at *
  rw [hf.1 38 h1.1, hf.1 40 h1.2.1, hf.1 47 h1.2.2, hf.2.2.1 43 h2.1, hf.2.2.1 44 h2.2.1, hf.2.2.1 48 h2.2.2.1, hf.2.2.1 49 h2.2.2.2.1, hf.2.2.1 50 h2.2.2.2.2]
  exact h
theorem RN.fr {fs gs as bs : List Nat} {s s' : MS} {n : Nat} {t : St} (h : RN s n t) (hf : Fr fs gs as bs s s') (h2 : 55 ∉ as) : RN s' n t := by
  unfold RN at *
  rw [hf.2.2.1 55 h2]
  exact h
section M4
variable {g : GC} {M : MM} {o : Nat} {s : MS} {M1 : MM} {T : Te} {t : St}
theorem ct_X6_faceOf {p : Nat} (hS : ShM g M o) (hp : p < 8) : Ct g yX6_faceOf cX6_faceOf 2 (some Jvm.ClassFile.FieldType.int) 0 0 0 [.ref o, .int (nI p)] (putM M o s) (PQ (putM M o s) (.int (mA s 43 (8 + p)))) noX := by
  refine Ct.of (by decide) (Nat.le_of_ble_eq_true rfl) rfl ?_
  refine r_ald0 (pc := 0) dX6_faceOf_0 ?_
  refine m_getR hS (pc := 1) dX6_faceOf_1 fl_X6_103 ar43 ?_
  refine r_bipush (v := nI 8) (pc := 4) dX6_faceOf_4 (by decide) ?_
  refine r_ild1 (pc := 6) dX6_faceOf_6 ?_
  first | refine r_iaddN (pc := 7) dX6_faceOf_7 ?_ | refine r_iaddJ (pc := 7) dX6_faceOf_7 ?_ | refine r_iadd (pc := 7) dX6_faceOf_7 ?_
  refine m_iald hS (pc := 8) dX6_faceOf_8 ar43 (by omega) (by omega) ?_
  refine r_iret (pc := 9) dX6_faceOf_9 ?_
  exact ⟨rfl, rfl⟩
theorem ct_X6_kindOf {p : Nat} (hS : ShM g M o) (hp : p < 8) : Ct g yX6_kindOf cX6_kindOf 2 (some Jvm.ClassFile.FieldType.int) 0 0 0 [.ref o, .int (nI p)] (putM M o s) (PQ (putM M o s) (.int (mA s 44 (8 + p)))) noX := by
  refine Ct.of (by decide) (Nat.le_of_ble_eq_true rfl) rfl ?_
  refine r_ald0 (pc := 0) dX6_kindOf_0 ?_
  refine m_getR hS (pc := 1) dX6_kindOf_1 fl_X6_106 ar44 ?_
  refine r_bipush (v := nI 8) (pc := 4) dX6_kindOf_4 (by decide) ?_
  refine r_ild1 (pc := 6) dX6_kindOf_6 ?_
  first | refine r_iaddN (pc := 7) dX6_kindOf_7 ?_ | refine r_iaddJ (pc := 7) dX6_kindOf_7 ?_ | refine r_iadd (pc := 7) dX6_kindOf_7 ?_
  refine m_iald hS (pc := 8) dX6_kindOf_8 ar44 (by omega) (by omega) ?_
  refine r_iret (pc := 9) dX6_kindOf_9 ?_
  exact ⟨rfl, rfl⟩
theorem ct_X6_thoughtOf {p q : Nat} (hS : ShM g M o) (hp : p < 8) (hq : q < 8) : Ct g yX6_thoughtOf cX6_thoughtOf 3 (some Jvm.ClassFile.FieldType.int) 0 0 0 [.ref o, .int (nI p), .int (nI q)] (putM M o s) (PQ (putM M o s) (.int (mA s 55 (25 + 8 * p + q)))) noX := by
  refine Ct.of (by decide) (Nat.le_of_ble_eq_true rfl) rfl ?_
  refine r_ald0 (pc := 0) dX6_thoughtOf_0 ?_
  refine m_getR hS (pc := 1) dX6_thoughtOf_1 fl_X6_121 ar55 ?_
  refine r_bipush (v := nI 25) (pc := 4) dX6_thoughtOf_4 (by decide) ?_
  refine r_bipush (v := nI 8) (pc := 6) dX6_thoughtOf_6 (by decide) ?_
  refine r_ild1 (pc := 8) dX6_thoughtOf_8 ?_
  first | refine r_imulN (pc := 9) dX6_thoughtOf_9 ?_ | refine r_imulJ (pc := 9) dX6_thoughtOf_9 ?_ | refine r_imul (pc := 9) dX6_thoughtOf_9 ?_
  first | refine r_iaddN (pc := 10) dX6_thoughtOf_10 ?_ | refine r_iaddJ (pc := 10) dX6_thoughtOf_10 ?_ | refine r_iadd (pc := 10) dX6_thoughtOf_10 ?_
  refine r_ild2 (pc := 11) dX6_thoughtOf_11 ?_
  first | refine r_iaddN (pc := 12) dX6_thoughtOf_12 ?_ | refine r_iaddJ (pc := 12) dX6_thoughtOf_12 ?_ | refine r_iadd (pc := 12) dX6_thoughtOf_12 ?_
  refine m_iald hS (pc := 13) dX6_thoughtOf_13 ar55 (by omega) (by omega) ?_
  refine r_iret (pc := 14) dX6_thoughtOf_14 ?_
  exact ⟨rfl, rfl⟩
/-- the parts as they stand -/
def pv (s : MS) : Nat → Int
  | 0 => (mF s 57).toInt
  | 1 => (mF s 58).toInt
  | 2 => (mF s 59).toInt
  | 3 => (mA s 55 0).toInt
  | 4 => (mF s 60).toInt
  | 5 => (mF s 61).toInt
  | 6 => (mF s 62).toInt
  | _ => (mF s 63).toInt
theorem pv_b31 (s : MS) (k : Nat) : b31 (pv s k) := by
  unfold pv; split <;> exact b31_of _
theorem okE {a : Nat} (h : a ≤ 2000) : b6 (a : Int) ∧ (nI a).toInt = (a : Int) := ⟨by constructor <;> omega, nI_toInt (by omega)⟩
theorem alw0 {k : Nat} (h : alw 0 k = true) : k = 0 ∨ k = 1 ∨ k = 2 ∨ k = 3 ∨ k = 4 ∨ k = 5 := by
  have : k < 6 := by simpa [alw] using h
  omega
theorem alw1 {k : Nat} (h : alw 1 k = true) : k = 0 ∨ k = 1 ∨ k = 2 ∨ k = 3 ∨ k = 6 := by
  have : k < 4 ∨ k = 6 := by simpa [alw] using h
  omega
theorem alw2 {k : Nat} (h : alw 2 k = true) : k = 0 ∨ k = 1 ∨ k = 2 ∨ k = 3 ∨ k = 7 := by
  have : k < 4 ∨ k = 7 := by simpa [alw] using h
  omega
/-- what codes tell, by the parts that stand ready -/
theorem ct_X6_codesTell {w : Nat} {cs : List Nat} {env : Nat → Int} (hS : ShM g M o) (hw : w < 3) (hTB : TB T) (hc : cd T w = some cs) (hR : RC s T w) (hal : ∀ k, alw w k = true → b6 (env k) ∧ pv s k = env k) : Ct g yX6_codesTell cX6_codesTell 4 (some Jvm.ClassFile.FieldType.long) 2 0 0 [.ref o, .int (nI w)] (putM M o s) (QM M o (fun r s' => r = some (.long (lI (evS cs env))) ∧ Fr [54, 108] [] [] [107] s s')) noX := by
  unfold RC at hR
  rw [hc] at hR
  obtain ⟨f, e, hf, he, hfe, he2, hh⟩ := hR
  obtain ⟨hok, hty, hlen⟩ := hTB.2.2.2.1 w cs hw hc
  obtain ⟨v, hv, hv6⟩ := rpn_one (env := pv s) (ofn := ofn0) hty
  have hev : evS cs env = v := by
    unfold evS
    rw [rpn_congr (ofn' := ofn0) (fun k hk => (hal k hk).2.symm) cs [] hok, hv]; rfl
  rw [hev]
  have h54 : ¬ nI w = nI 3 := fun q => absurd ((nI_eq (by omega) (by omega)).mp q) (by omega)
  have hfr : Fr [54, 108] [] [] [107] s (tF (tF s 54 (nI w)) 108 (nI 0)) := Fr.tF (Fr.tF Fr.rf (by decide)) (by decide)
  have hN := tellLoop (al := alw w) (ofn := ofn0) (env := pv s) (e := e) (w := w) (v := v) hS hw (fun k hk => by rw [(hal k hk).2]; exact (hal k hk).1) (pv_b31 s) he2 cs [] [] (tF (tF s 54 (nI w)) 108 (nI 0)) f none rfl hfe hh hok ⟨_, hty⟩ trivial trivial rfl (by simp; omega) ⟨iI_of _, iI_of _, iI_of _, iI_of _, iI_of _, iI_of _, iI_of _, iI_of _⟩ h54 he hv
  refine Ct.of (by decide) (Nat.le_of_ble_eq_true rfl) rfl ?_
  refine r_ald0 (pc := 0) dX6_codesTell_0 ?_
  refine r_ild1 (pc := 1) dX6_codesTell_1 ?_
  refine m_putI hS (pc := 2) dX6_codesTell_2 fl_X6_295 fw_X6_54 rfl rfl ?_
  refine r_ald0 (pc := 5) dX6_codesTell_5 ?_
  refine r_iconst (v := nI 0) (pc := 6) dX6_codesTell_6 (by decide) ?_
  refine m_putI hS (pc := 7) dX6_codesTell_7 fl_X6_409 fw_X6_108 rfl rfl ?_
  refine r_ald0 (pc := 10) dX6_codesTell_10 ?_
  refine m_getR hS (pc := 11) dX6_codesTell_11 fl_X6_112 ar48 ?_
  refine r_iconst (v := nI 3) (pc := 14) dX6_codesTell_14 (by decide) ?_
  refine r_ild1 (pc := 15) dX6_codesTell_15 ?_
  first | refine r_iaddN (pc := 16) dX6_codesTell_16 ?_ | refine r_iaddJ (pc := 16) dX6_codesTell_16 ?_ | refine r_iadd (pc := 16) dX6_codesTell_16 ?_
  refine m_iald hS (pc := 17) dX6_codesTell_17 ar48 (by omega) (by omega) ?_
  refine Bd.eqI hf ?_
  refine r_ist2 (pc := 18) dX6_codesTell_18 ?_
  exact Bd.post (fun r M' ⟨s', e1, e2, e3⟩ => ⟨s', e1, e2, Fr.trans hfr (e3.mono (by decide) (by decide) (by decide) (by decide))⟩) (fun _ _ h => h) hN
/-- the fields that codes use up -/
abbrev cdF : List Nat := [54, 57, 58, 59, 60, 61, 62, 63, 108]
theorem ct_X6_painted {sit pai side : Nat} (hS : ShM g M o) (hT : RT s T) (hTB : TB T) (hN : RN s (tn T) t) (hB : SB (tn T) t) (h1 : sit < tn T) (h2 : pai < tn T) (hs2 : side < 2) : Ct g yX6_painted cX6_painted 4 (some Jvm.ClassFile.FieldType.int) 3 0 0 [.ref o, .int (nI sit), .int (nI pai), .int (nI side)] (putM M o s) (QM M o (fun r s' => r = some (.int (nI (paintS T t sit pai side))) ∧ Fr cdF [] [] [107] s s')) noX := by
  have hn8 := hTB.1
  refine Ct.of (by decide) (Nat.le_of_ble_eq_true rfl) rfl ?_
  cases hc : cd T 0 with
  | none =>
    have hR : mA s 48 3 = -1 := by have := hT.2.2.2.2.1; unfold RC at this; rw [hc] at this; exact this
    have hp : paintS T t sit pai side = lk t sit := by unfold paintS; rw [hc]
    rw [hp]
    refine r_ald0 (pc := 0) dX6_painted_0 ?_
    refine m_getR hS (pc := 1) dX6_painted_1 fl_X6_112 ar48 ?_
    refine r_iconst (v := nI 3) (pc := 4) dX6_painted_4 (by decide) ?_
    refine m_iald hS (pc := 5) dX6_painted_5 ar48 (by omega) (by omega) ?_
    refine Bd.eqI hR ?_
    refine r_iconst (v := -1) (pc := 6) dX6_painted_6 (by decide) ?_
    first | refine r_icmp_neN (pc := 7) (tgt := 16) dX6_painted_7 (by decide) (by omega) (by omega) (fun h7 => ?_) (fun h7 => ?_) | refine r_icmp_ne (pc := 7) (tgt := 16) dX6_painted_7 (by decide) (fun h7 => ?_) (fun h7 => ?_)
    · skip
      exact absurd rfl h7
    · skip
      refine r_ald0 (pc := 10) dX6_painted_10 ?_
      refine r_ild1 (pc := 11) dX6_painted_11 ?_
      refine r_cV (pc := 12) dX6_painted_12 cv_X6_423 hS.k (ct_X6_lookOf hS (by omega)) rfl rfl (Nat.le_of_ble_eq_true rfl) (by decide) ?_
      rintro _ _ ⟨rfl, rfl⟩
      refine Bd.eqI (hN.2.2.1 sit h1) ?_
      refine r_iret (pc := 15) dX6_painted_15 ?_
      exact ⟨s, rfl, rfl, Fr.rf⟩
  | some cs =>
    have hR0 := hT.2.2.2.2.1
    have hR : ∃ f : Nat, mA s 48 3 = nI f ∧ f < 2147483648 := by unfold RC at hR0; rw [hc] at hR0; obtain ⟨f, e, a1, a2, a3, a4, a5⟩ := hR0; exact ⟨f, a1, by omega⟩
    obtain ⟨f, hR, hf2⟩ := hR
    have hp : paintS T t sit pai side = cutN 99 (evS cs (envP T t sit pai side)) := by unfold paintS; rw [hc]
    rw [hp]
    have hok := (hTB.2.2.2.1 0 cs (by omega) hc)
    have hb6 : b6 (evS cs (envP T t sit pai side)) := by
      obtain ⟨v, hv, hv6⟩ := rpn_one (env := envP T t sit pai side) (ofn := ofn0) hok.2.1
      unfold evS; rw [hv]; exact hv6
    have hfa := hTB.2.2.1 sit h1
    have hki := hTB.2.2.1 pai h2
    have hyr := hB.1
    have hlk := (hB.2 sit h1).2.1
    have hth := (hB.2 pai h2).2.2.2 sit h1
    have hfr : ∀ s' : MS, Fr cdF [] [] [107] (tF (tF (tF (tF (tF s 57 (nI (fa T sit))) 58 (nI (ki T pai))) 59 (nI (th t pai sit))) 60 (nI (lk t sit))) 61 (nI side)) s' → Fr cdF [] [] [107] s s' := fun s' h => Fr.trans (Fr.tF (Fr.tF (Fr.tF (Fr.tF (Fr.tF Fr.rf (by decide)) (by decide)) (by decide)) (by decide)) (by decide)) h
    have hal : ∀ k, alw 0 k = true → b6 (envP T t sit pai side k) ∧ pv (tF (tF (tF (tF (tF s 57 (nI (fa T sit))) 58 (nI (ki T pai))) 59 (nI (th t pai sit))) 60 (nI (lk t sit))) 61 (nI side)) k = envP T t sit pai side k := by
      intro k hk
      rcases alw0 hk with e | e | e | e | e | e <;> subst e
      · exact okE (a := fa T sit) (by omega)
      · exact okE (a := ki T pai) (by omega)
      · exact okE (a := th t pai sit) (by omega)
      · exact ⟨(okE (a := yr t) (by omega)).1, by show (mA s 55 0).toInt = _; rw [hN.1]; exact (okE (a := yr t) (by omega)).2⟩
      · exact okE (a := lk t sit) (by omega)
      · exact okE (a := side) (by omega)
    refine r_ald0 (pc := 0) dX6_painted_0 ?_
    refine m_getR hS (pc := 1) dX6_painted_1 fl_X6_112 ar48 ?_
    refine r_iconst (v := nI 3) (pc := 4) dX6_painted_4 (by decide) ?_
    refine m_iald hS (pc := 5) dX6_painted_5 ar48 (by omega) (by omega) ?_
    refine Bd.eqI hR ?_
    refine r_iconst (v := -1) (pc := 6) dX6_painted_6 (by decide) ?_
    first | refine r_icmp_neN (pc := 7) (tgt := 16) dX6_painted_7 (by decide) (by omega) (by omega) (fun h7 => ?_) (fun h7 => ?_) | refine r_icmp_ne (pc := 7) (tgt := 16) dX6_painted_7 (by decide) (fun h7 => ?_) (fun h7 => ?_)
    · skip
      refine r_ald0 (pc := 16) dX6_painted_16 ?_
      refine r_ald0 (pc := 17) dX6_painted_17 ?_
      refine r_ild1 (pc := 18) dX6_painted_18 ?_
      refine r_cV (pc := 19) dX6_painted_19 cv_X6_426 hS.k (ct_X6_faceOf hS (by omega)) rfl rfl (Nat.le_of_ble_eq_true rfl) (by decide) ?_
      rintro _ _ ⟨rfl, rfl⟩
      refine Bd.eqI (hT.2.2.1 sit h1) ?_
      refine m_putI hS (pc := 22) dX6_painted_22 fl_X6_429 fw_X6_57 rfl rfl ?_
      refine r_ald0 (pc := 25) dX6_painted_25 ?_
      refine r_ald0 (pc := 26) dX6_painted_26 ?_
      refine r_ild2 (pc := 27) dX6_painted_27 ?_
      refine r_cV (pc := 28) dX6_painted_28 cv_X6_432 hS.k (ct_X6_kindOf hS (by omega)) rfl rfl (Nat.le_of_ble_eq_true rfl) (by decide) ?_
      rintro _ _ ⟨rfl, rfl⟩
      refine Bd.eqI (hT.2.2.2.1 pai h2) ?_
      refine m_putI hS (pc := 31) dX6_painted_31 fl_X6_435 fw_X6_58 rfl rfl ?_
      refine r_ald0 (pc := 34) dX6_painted_34 ?_
      refine r_ald0 (pc := 35) dX6_painted_35 ?_
      refine r_ild2 (pc := 36) dX6_painted_36 ?_
      refine r_ild1 (pc := 37) dX6_painted_37 ?_
      refine r_cV (pc := 38) dX6_painted_38 cv_X6_438 hS.k (ct_X6_thoughtOf hS (by omega) (by omega)) rfl rfl (Nat.le_of_ble_eq_true rfl) (by decide) ?_
      rintro _ _ ⟨rfl, rfl⟩
      refine Bd.eqI (hN.2.2.2.2 pai h2 sit h1) ?_
      refine m_putI hS (pc := 41) dX6_painted_41 fl_X6_441 fw_X6_59 rfl rfl ?_
      refine r_ald0 (pc := 44) dX6_painted_44 ?_
      refine r_ald0 (pc := 45) dX6_painted_45 ?_
      refine r_ild1 (pc := 46) dX6_painted_46 ?_
      refine r_cV (pc := 47) dX6_painted_47 cv_X6_423 hS.k (ct_X6_lookOf hS (by omega)) rfl rfl (Nat.le_of_ble_eq_true rfl) (by decide) ?_
      rintro _ _ ⟨rfl, rfl⟩
      refine Bd.eqI (hN.2.2.1 sit h1) ?_
      refine m_putI hS (pc := 50) dX6_painted_50 fl_X6_444 fw_X6_60 rfl rfl ?_
      refine r_ald0 (pc := 53) dX6_painted_53 ?_
      refine r_ild3 (pc := 54) dX6_painted_54 ?_
      refine m_putI hS (pc := 55) dX6_painted_55 fl_X6_447 fw_X6_61 rfl rfl ?_
      refine r_ald0 (pc := 58) dX6_painted_58 ?_
      refine r_iconst (v := nI 0) (pc := 59) dX6_painted_59 (by decide) ?_
      refine r_cV (pc := 60) dX6_painted_60 cv_X6_450 hS.k (ct_X6_codesTell (T := T) (cs := cs) (env := envP T t sit pai side) hS (by decide) hTB hc hR0 hal) rfl rfl (Nat.le_of_ble_eq_true rfl) (by decide) ?_
      rintro _ _ ⟨s1, rfl, rfl, hf1⟩
      refine r_bipush (v := nI 99) (pc := 63) dX6_painted_63 (by decide) ?_
      refine r_cS (pc := 65) dX6_painted_65 cs_X6_454 (ct_X6_cut ⟨by have := hb6.1; omega, by have := hb6.2; omega⟩ (by decide)) rfl rfl (Nat.le_of_ble_eq_true rfl) (by decide) ?_
      rintro _ _ ⟨rfl, rfl⟩
      refine r_iret (pc := 68) dX6_painted_68 ?_
      exact ⟨s1, rfl, rfl, hfr s1 (hf1.mono (by decide) (by decide) (by decide) (by decide))⟩
    · skip
      exact absurd h7 (nI_m1 hf2)
theorem ct_X6_minded {sit pai : Nat} {gain : Int} (hS : ShM g M o) (hT : RT s T) (hTB : TB T) (hN : RN s (tn T) t) (hB : SB (tn T) t) (h1 : sit < tn T) (h2 : pai < tn T) (hg1 : -99 ≤ gain) (hg2 : gain ≤ 99) : Ct g yX6_minded cX6_minded 4 (some Jvm.ClassFile.FieldType.int) 3 0 0 [.ref o, .int (nI sit), .int (nI pai), .int (iI gain)] (putM M o s) (QM M o (fun r s' => r = some (.int (nI (mindS T t sit pai gain))) ∧ Fr cdF [] [] [107] s s')) noX := by
  have hn8 := hTB.1
  refine Ct.of (by decide) (Nat.le_of_ble_eq_true rfl) rfl ?_
  cases hc : cd T 1 with
  | none =>
    have hR : mA s 48 4 = -1 := by have := hT.2.2.2.2.2.1; unfold RC at this; rw [hc] at this; exact this
    have hp : mindS T t sit pai gain = th t sit pai := by unfold mindS; rw [hc]
    rw [hp]
    refine r_ald0 (pc := 0) dX6_minded_0 ?_
    refine m_getR hS (pc := 1) dX6_minded_1 fl_X6_112 ar48 ?_
    refine r_iconst (v := nI 4) (pc := 4) dX6_minded_4 (by decide) ?_
    refine m_iald hS (pc := 5) dX6_minded_5 ar48 (by omega) (by omega) ?_
    refine Bd.eqI hR ?_
    refine r_iconst (v := -1) (pc := 6) dX6_minded_6 (by decide) ?_
    first | refine r_icmp_neN (pc := 7) (tgt := 17) dX6_minded_7 (by decide) (by omega) (by omega) (fun h7 => ?_) (fun h7 => ?_) | refine r_icmp_ne (pc := 7) (tgt := 17) dX6_minded_7 (by decide) (fun h7 => ?_) (fun h7 => ?_)
    · skip
      exact absurd rfl h7
    · skip
      refine r_ald0 (pc := 10) dX6_minded_10 ?_
      refine r_ild1 (pc := 11) dX6_minded_11 ?_
      refine r_ild2 (pc := 12) dX6_minded_12 ?_
      refine r_cV (pc := 13) dX6_minded_13 cv_X6_438 hS.k (ct_X6_thoughtOf hS (by omega) (by omega)) rfl rfl (Nat.le_of_ble_eq_true rfl) (by decide) ?_
      rintro _ _ ⟨rfl, rfl⟩
      refine Bd.eqI (hN.2.2.2.2 sit h1 pai h2) ?_
      refine r_iret (pc := 16) dX6_minded_16 ?_
      exact ⟨s, rfl, rfl, Fr.rf⟩
  | some cs =>
    have hR0 := hT.2.2.2.2.2.1
    have hR : ∃ f : Nat, mA s 48 4 = nI f ∧ f < 2147483648 := by unfold RC at hR0; rw [hc] at hR0; obtain ⟨f, e, a1, a2, a3, a4, a5⟩ := hR0; exact ⟨f, a1, by omega⟩
    obtain ⟨f, hR, hf2⟩ := hR
    have hp : mindS T t sit pai gain = cutN 9 (evS cs (envM T t sit pai gain)) := by unfold mindS; rw [hc]
    rw [hp]
    have hok := (hTB.2.2.2.1 1 cs (by omega) hc)
    have hb6 : b6 (evS cs (envM T t sit pai gain)) := by
      obtain ⟨v, hv, hv6⟩ := rpn_one (env := envM T t sit pai gain) (ofn := ofn0) hok.2.1
      unfold evS; rw [hv]; exact hv6
    have hfa := hTB.2.2.1 pai h2
    have hki := hTB.2.2.1 sit h1
    have hyr := hB.1
    have hth := (hB.2 sit h1).2.2.2 pai h2
    have hfr : ∀ s' : MS, Fr cdF [] [] [107] (tF (tF (tF (tF s 57 (nI (fa T pai))) 58 (nI (ki T sit))) 59 (nI (th t sit pai))) 62 (iI gain)) s' → Fr cdF [] [] [107] s s' := fun s' h => Fr.trans (Fr.tF (Fr.tF (Fr.tF (Fr.tF Fr.rf (by decide)) (by decide)) (by decide)) (by decide)) h
    have hal : ∀ k, alw 1 k = true → b6 (envM T t sit pai gain k) ∧ pv (tF (tF (tF (tF s 57 (nI (fa T pai))) 58 (nI (ki T sit))) 59 (nI (th t sit pai))) 62 (iI gain)) k = envM T t sit pai gain k := by
      intro k hk
      rcases alw1 hk with e | e | e | e | e <;> subst e
      · exact okE (a := fa T pai) (by omega)
      · exact okE (a := ki T sit) (by omega)
      · exact okE (a := th t sit pai) (by omega)
      · exact ⟨(okE (a := yr t) (by omega)).1, by show (mA s 55 0).toInt = _; rw [hN.1]; exact (okE (a := yr t) (by omega)).2⟩
      · exact ⟨by show b6 gain; constructor <;> omega, iI_T (by constructor <;> omega)⟩
    refine r_ald0 (pc := 0) dX6_minded_0 ?_
    refine m_getR hS (pc := 1) dX6_minded_1 fl_X6_112 ar48 ?_
    refine r_iconst (v := nI 4) (pc := 4) dX6_minded_4 (by decide) ?_
    refine m_iald hS (pc := 5) dX6_minded_5 ar48 (by omega) (by omega) ?_
    refine Bd.eqI hR ?_
    refine r_iconst (v := -1) (pc := 6) dX6_minded_6 (by decide) ?_
    first | refine r_icmp_neN (pc := 7) (tgt := 17) dX6_minded_7 (by decide) (by omega) (by omega) (fun h7 => ?_) (fun h7 => ?_) | refine r_icmp_ne (pc := 7) (tgt := 17) dX6_minded_7 (by decide) (fun h7 => ?_) (fun h7 => ?_)
    · skip
      refine r_ald0 (pc := 17) dX6_minded_17 ?_
      refine r_ald0 (pc := 18) dX6_minded_18 ?_
      refine r_ild2 (pc := 19) dX6_minded_19 ?_
      refine r_cV (pc := 20) dX6_minded_20 cv_X6_426 hS.k (ct_X6_faceOf hS (by omega)) rfl rfl (Nat.le_of_ble_eq_true rfl) (by decide) ?_
      rintro _ _ ⟨rfl, rfl⟩
      refine Bd.eqI (hT.2.2.1 pai h2) ?_
      refine m_putI hS (pc := 23) dX6_minded_23 fl_X6_429 fw_X6_57 rfl rfl ?_
      refine r_ald0 (pc := 26) dX6_minded_26 ?_
      refine r_ald0 (pc := 27) dX6_minded_27 ?_
      refine r_ild1 (pc := 28) dX6_minded_28 ?_
      refine r_cV (pc := 29) dX6_minded_29 cv_X6_432 hS.k (ct_X6_kindOf hS (by omega)) rfl rfl (Nat.le_of_ble_eq_true rfl) (by decide) ?_
      rintro _ _ ⟨rfl, rfl⟩
      refine Bd.eqI (hT.2.2.2.1 sit h1) ?_
      refine m_putI hS (pc := 32) dX6_minded_32 fl_X6_435 fw_X6_58 rfl rfl ?_
      refine r_ald0 (pc := 35) dX6_minded_35 ?_
      refine r_ald0 (pc := 36) dX6_minded_36 ?_
      refine r_ild1 (pc := 37) dX6_minded_37 ?_
      refine r_ild2 (pc := 38) dX6_minded_38 ?_
      refine r_cV (pc := 39) dX6_minded_39 cv_X6_438 hS.k (ct_X6_thoughtOf hS (by omega) (by omega)) rfl rfl (Nat.le_of_ble_eq_true rfl) (by decide) ?_
      rintro _ _ ⟨rfl, rfl⟩
      refine Bd.eqI (hN.2.2.2.2 sit h1 pai h2) ?_
      refine m_putI hS (pc := 42) dX6_minded_42 fl_X6_441 fw_X6_59 rfl rfl ?_
      refine r_ald0 (pc := 45) dX6_minded_45 ?_
      refine r_ild3 (pc := 46) dX6_minded_46 ?_
      refine m_putI hS (pc := 47) dX6_minded_47 fl_X6_458 fw_X6_62 rfl rfl ?_
      refine r_ald0 (pc := 50) dX6_minded_50 ?_
      refine r_iconst (v := nI 1) (pc := 51) dX6_minded_51 (by decide) ?_
      refine r_cV (pc := 52) dX6_minded_52 cv_X6_450 hS.k (ct_X6_codesTell (T := T) (cs := cs) (env := envM T t sit pai gain) hS (by decide) hTB hc hR0 hal) rfl rfl (Nat.le_of_ble_eq_true rfl) (by decide) ?_
      rintro _ _ ⟨s1, rfl, rfl, hf1⟩
      refine r_bipush (v := nI 9) (pc := 55) dX6_minded_55 (by decide) ?_
      refine r_cS (pc := 57) dX6_minded_57 cs_X6_454 (ct_X6_cut ⟨by have := hb6.1; omega, by have := hb6.2; omega⟩ (by decide)) rfl rfl (Nat.le_of_ble_eq_true rfl) (by decide) ?_
      rintro _ _ ⟨rfl, rfl⟩
      refine r_iret (pc := 60) dX6_minded_60 ?_
      exact ⟨s1, rfl, rfl, hfr s1 (hf1.mono (by decide) (by decide) (by decide) (by decide))⟩
    · skip
      exact absurd h7 (nI_m1 hf2)
theorem ct_X6_isFeud {a b : Nat} (hS : ShM g M o) (hT : RT s T) (hTB : TB T) (hN : RN s (tn T) t) (hB : SB (tn T) t) (h1 : a < tn T) (h2 : b < tn T) : Ct g yX6_isFeud cX6_isFeud 3 (some Jvm.ClassFile.FieldType.boolean) 3 0 0 [.ref o, .int (nI a), .int (nI b)] (putM M o s) (QM M o (fun r s' => r = some (.int (zI (feudS T t a b = true))) ∧ Fr cdF [] [] [107] s s')) noX := by
  have hn8 := hTB.1
  have hab := (hB.2 a h1).2.2.2 b h2
  have hba := (hB.2 b h2).2.2.2 a h1
  refine Ct.of (by decide) (Nat.le_of_ble_eq_true rfl) rfl ?_
  cases hc : cd T 2 with
  | none =>
    have hR : mA s 48 5 = -1 := by have := hT.2.2.2.2.2.2.1; unfold RC at this; rw [hc] at this; exact this
    have hp : feudS T t a b = decide (th t a b + th t b a < 6) := by unfold feudS; rw [hc]
    rw [hp]
    refine r_ald0 (pc := 0) dX6_isFeud_0 ?_
    refine m_getR hS (pc := 1) dX6_isFeud_1 fl_X6_112 ar48 ?_
    refine r_iconst (v := nI 5) (pc := 4) dX6_isFeud_4 (by decide) ?_
    refine m_iald hS (pc := 5) dX6_isFeud_5 ar48 (by omega) (by omega) ?_
    refine Bd.eqI hR ?_
    refine r_iconst (v := -1) (pc := 6) dX6_isFeud_6 (by decide) ?_
    first | refine r_icmp_neN (pc := 7) (tgt := 34) dX6_isFeud_7 (by decide) (by omega) (by omega) (fun h7 => ?_) (fun h7 => ?_) | refine r_icmp_ne (pc := 7) (tgt := 34) dX6_isFeud_7 (by decide) (fun h7 => ?_) (fun h7 => ?_)
    · skip
      exact absurd rfl h7
    · skip
      refine r_ald0 (pc := 10) dX6_isFeud_10 ?_
      refine r_ild1 (pc := 11) dX6_isFeud_11 ?_
      refine r_ild2 (pc := 12) dX6_isFeud_12 ?_
      refine r_cV (pc := 13) dX6_isFeud_13 cv_X6_438 hS.k (ct_X6_thoughtOf hS (by omega) (by omega)) rfl rfl (Nat.le_of_ble_eq_true rfl) (by decide) ?_
      rintro _ _ ⟨rfl, rfl⟩
      refine Bd.eqI (hN.2.2.2.2 a h1 b h2) ?_
      refine r_ald0 (pc := 16) dX6_isFeud_16 ?_
      refine r_ild2 (pc := 17) dX6_isFeud_17 ?_
      refine r_ild1 (pc := 18) dX6_isFeud_18 ?_
      refine r_cV (pc := 19) dX6_isFeud_19 cv_X6_438 hS.k (ct_X6_thoughtOf hS (by omega) (by omega)) rfl rfl (Nat.le_of_ble_eq_true rfl) (by decide) ?_
      rintro _ _ ⟨rfl, rfl⟩
      refine Bd.eqI (hN.2.2.2.2 b h2 a h1) ?_
      first | refine r_iaddN (pc := 22) dX6_isFeud_22 ?_ | refine r_iaddJ (pc := 22) dX6_isFeud_22 ?_ | refine r_iadd (pc := 22) dX6_isFeud_22 ?_
      refine r_bipush (v := nI 6) (pc := 23) dX6_isFeud_23 (by decide) ?_
      first | refine r_icmp_geN (pc := 25) (tgt := 32) dX6_isFeud_25 (by decide) (by omega) (by omega) (fun h25 => ?_) (fun h25 => ?_) | refine r_icmp_ge (pc := 25) (tgt := 32) dX6_isFeud_25 (by decide) (fun h25 => ?_) (fun h25 => ?_)
      · skip
        refine r_iconst (v := nI 0) (pc := 32) dX6_isFeud_32 (by decide) ?_
        refine r_zret (pc := 33) dX6_isFeud_33 (by first | rfl | exact zI_nar | assumption) ?_
        exact ⟨s, rfl, by first | rw [zI_t (by simp; omega)]; rfl | rw [zI_f (by simp; omega)]; rfl, Fr.rf⟩
      · skip
        refine r_iconst (v := nI 1) (pc := 28) dX6_isFeud_28 (by decide) ?_
        refine r_goto (pc := 29) (tgt := 33) dX6_isFeud_29 (by decide) ?_
        refine r_zret (pc := 33) dX6_isFeud_33 (by first | rfl | exact zI_nar | assumption) ?_
        exact ⟨s, rfl, by first | rw [zI_t (by simp; omega)]; rfl | rw [zI_f (by simp; omega)]; rfl, Fr.rf⟩
  | some cs =>
    have hR0 := hT.2.2.2.2.2.2.1
    have hR : ∃ f : Nat, mA s 48 5 = nI f ∧ f < 2147483648 := by unfold RC at hR0; rw [hc] at hR0; obtain ⟨f, e, a1, a2, a3, a4, a5⟩ := hR0; exact ⟨f, a1, by omega⟩
    obtain ⟨f, hR, hf2⟩ := hR
    have hp : feudS T t a b = decide (evS cs (envF T t a b) = 1) := by unfold feudS; rw [hc]
    rw [hp]
    have hok := (hTB.2.2.2.1 2 cs (by omega) hc)
    have hb6 : evS cs (envF T t a b) = 0 ∨ evS cs (envF T t a b) = 1 := by
      obtain ⟨v, hv, hv6⟩ := rpn_one (env := envF T t a b) (ofn := ofn0) hok.2.1
      unfold evS; rw [hv]; exact hv6
    have hfa := hTB.2.2.1 b h2
    have hki := hTB.2.2.1 a h1
    have hyr := hB.1
    have hfr : ∀ s' : MS, Fr cdF [] [] [107] (tF (tF (tF (tF s 57 (nI (fa T b))) 58 (nI (ki T a))) 59 (nI (th t a b))) 63 (nI (th t b a))) s' → Fr cdF [] [] [107] s s' := fun s' h => Fr.trans (Fr.tF (Fr.tF (Fr.tF (Fr.tF Fr.rf (by decide)) (by decide)) (by decide)) (by decide)) h
    have hal : ∀ k, alw 2 k = true → b6 (envF T t a b k) ∧ pv (tF (tF (tF (tF s 57 (nI (fa T b))) 58 (nI (ki T a))) 59 (nI (th t a b))) 63 (nI (th t b a))) k = envF T t a b k := by
      intro k hk
      rcases alw2 hk with e | e | e | e | e <;> subst e
      · exact okE (a := fa T b) (by omega)
      · exact okE (a := ki T a) (by omega)
      · exact okE (a := th t a b) (by omega)
      · exact ⟨(okE (a := yr t) (by omega)).1, by show (mA s 55 0).toInt = _; rw [hN.1]; exact (okE (a := yr t) (by omega)).2⟩
      · exact okE (a := th t b a) (by omega)
    refine r_ald0 (pc := 0) dX6_isFeud_0 ?_
    refine m_getR hS (pc := 1) dX6_isFeud_1 fl_X6_112 ar48 ?_
    refine r_iconst (v := nI 5) (pc := 4) dX6_isFeud_4 (by decide) ?_
    refine m_iald hS (pc := 5) dX6_isFeud_5 ar48 (by omega) (by omega) ?_
    refine Bd.eqI hR ?_
    refine r_iconst (v := -1) (pc := 6) dX6_isFeud_6 (by decide) ?_
    first | refine r_icmp_neN (pc := 7) (tgt := 34) dX6_isFeud_7 (by decide) (by omega) (by omega) (fun h7 => ?_) (fun h7 => ?_) | refine r_icmp_ne (pc := 7) (tgt := 34) dX6_isFeud_7 (by decide) (fun h7 => ?_) (fun h7 => ?_)
    · skip
      refine r_ald0 (pc := 34) dX6_isFeud_34 ?_
      refine r_ald0 (pc := 35) dX6_isFeud_35 ?_
      refine r_ild2 (pc := 36) dX6_isFeud_36 ?_
      refine r_cV (pc := 37) dX6_isFeud_37 cv_X6_426 hS.k (ct_X6_faceOf hS (by omega)) rfl rfl (Nat.le_of_ble_eq_true rfl) (by decide) ?_
      rintro _ _ ⟨rfl, rfl⟩
      refine Bd.eqI (hT.2.2.1 b h2) ?_
      refine m_putI hS (pc := 40) dX6_isFeud_40 fl_X6_429 fw_X6_57 rfl rfl ?_
      refine r_ald0 (pc := 43) dX6_isFeud_43 ?_
      refine r_ald0 (pc := 44) dX6_isFeud_44 ?_
      refine r_ild1 (pc := 45) dX6_isFeud_45 ?_
      refine r_cV (pc := 46) dX6_isFeud_46 cv_X6_432 hS.k (ct_X6_kindOf hS (by omega)) rfl rfl (Nat.le_of_ble_eq_true rfl) (by decide) ?_
      rintro _ _ ⟨rfl, rfl⟩
      refine Bd.eqI (hT.2.2.2.1 a h1) ?_
      refine m_putI hS (pc := 49) dX6_isFeud_49 fl_X6_435 fw_X6_58 rfl rfl ?_
      refine r_ald0 (pc := 52) dX6_isFeud_52 ?_
      refine r_ald0 (pc := 53) dX6_isFeud_53 ?_
      refine r_ild1 (pc := 54) dX6_isFeud_54 ?_
      refine r_ild2 (pc := 55) dX6_isFeud_55 ?_
      refine r_cV (pc := 56) dX6_isFeud_56 cv_X6_438 hS.k (ct_X6_thoughtOf hS (by omega) (by omega)) rfl rfl (Nat.le_of_ble_eq_true rfl) (by decide) ?_
      rintro _ _ ⟨rfl, rfl⟩
      refine Bd.eqI (hN.2.2.2.2 a h1 b h2) ?_
      refine m_putI hS (pc := 59) dX6_isFeud_59 fl_X6_441 fw_X6_59 rfl rfl ?_
      refine r_ald0 (pc := 62) dX6_isFeud_62 ?_
      refine r_ald0 (pc := 63) dX6_isFeud_63 ?_
      refine r_ild2 (pc := 64) dX6_isFeud_64 ?_
      refine r_ild1 (pc := 65) dX6_isFeud_65 ?_
      refine r_cV (pc := 66) dX6_isFeud_66 cv_X6_438 hS.k (ct_X6_thoughtOf hS (by omega) (by omega)) rfl rfl (Nat.le_of_ble_eq_true rfl) (by decide) ?_
      rintro _ _ ⟨rfl, rfl⟩
      refine Bd.eqI (hN.2.2.2.2 b h2 a h1) ?_
      refine m_putI hS (pc := 69) dX6_isFeud_69 fl_X6_461 fw_X6_63 rfl rfl ?_
      refine r_ald0 (pc := 72) dX6_isFeud_72 ?_
      refine r_iconst (v := nI 2) (pc := 73) dX6_isFeud_73 (by decide) ?_
      refine r_cV (pc := 74) dX6_isFeud_74 cv_X6_450 hS.k (ct_X6_codesTell (T := T) (cs := cs) (env := envF T t a b) hS (by decide) hTB hc hR0 hal) rfl rfl (Nat.le_of_ble_eq_true rfl) (by decide) ?_
      rintro _ _ ⟨s1, rfl, rfl, hf1⟩
      refine r_lconst (v := lI 1) (pc := 77) dX6_isFeud_77 rfl ?_
      refine r_lcmp (pc := 78) dX6_isFeud_78 ?_
      first | refine r_if_neCI (pc := 79) (tgt := 86) dX6_isFeud_79 (by decide) (by constructor <;> omega) (by constructor <;> omega) (fun h79 => ?_) (fun h79 => ?_) | refine r_if_neC (pc := 79) (tgt := 86) dX6_isFeud_79 (by decide) (fun h79 => ?_) (fun h79 => ?_)
      · skip
        refine r_iconst (v := nI 0) (pc := 86) dX6_isFeud_86 (by decide) ?_
        refine r_zret (pc := 87) dX6_isFeud_87 (by first | rfl | exact zI_nar | assumption) ?_
        exact ⟨s1, rfl, by first | rw [zI_t (by simp; omega)]; rfl | rw [zI_f (by simp; omega)]; rfl, hfr s1 (hf1.mono (by decide) (by decide) (by decide) (by decide))⟩
      · skip
        refine r_iconst (v := nI 1) (pc := 82) dX6_isFeud_82 (by decide) ?_
        refine r_goto (pc := 83) (tgt := 87) dX6_isFeud_83 (by decide) ?_
        refine r_zret (pc := 87) dX6_isFeud_87 (by first | rfl | exact zI_nar | assumption) ?_
        exact ⟨s1, rfl, by first | rw [zI_t (by simp; omega)]; rfl | rw [zI_f (by simp; omega)]; rfl, hfr s1 (hf1.mono (by decide) (by decide) (by decide) (by decide))⟩
    · skip
      exact absurd h7 (nI_m1 hf2)
end M4
