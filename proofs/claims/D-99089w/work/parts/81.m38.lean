set_option maxRecDepth 100000
/-! THE MODEL: what is told of a terrace -/
section M38
variable {g : GC} {M : MM} {o : Nat} {s s' s2 sB : MS} {M1 : MM} {q : Sg} {f : Nat → Nat} {n a x c : Nat} {T : To}
def TC (s : MS) (T : To) (c w : Nat) : Prop := match oC T w with
  | none => mA s 48 w = -1
  | some cs => ∃ b, mA s 48 w = nI b ∧ mA s 49 w = nI (b + cs.length) ∧ b + cs.length ≤ c ∧ hol (mA s 50) b cs
/-- the terrace told so far, c codes -/
def TM (s : MS) (T : To) (c : Nat) : Prop := mF s 37 = nI (oH T) ∧ mF s 39 = nI (oS T).length ∧ (∀ k, k < (oS T).length → mB s 41 k = lI (nmV (sAt T k).1 0) ∧ mA s 42 k = nI (sAt T k).2.1 ∧ mA s 43 k = nI (sAt T k).2.2.1 ∧ mA s 44 k = nI (sAt T k).2.2.2) ∧ (∀ p, p < 8 → ∀ r, r < 8 → mA s 45 (8 * p + r) = nI (oT T p r)) ∧ mF s 46 = nI (oL T) ∧ mF s 51 = nI c ∧ ∀ w, w < 3 → TC s T c w
theorem TM.fr {fs gs as bs : List Nat} (h : TM s T c) (hf : Fr fs gs as bs s s') (h1 : 37 ∉ fs ∧ 39 ∉ fs ∧ 46 ∉ fs ∧ 51 ∉ fs) (h2 : 42 ∉ as ∧ 43 ∉ as ∧ 44 ∉ as ∧ 45 ∉ as ∧ 48 ∉ as ∧ 49 ∉ as ∧ 50 ∉ as) (h3 : 41 ∉ bs) : TM s' T c := by
  unfold TM TC at *
  rw [hf.1 37 h1.1, hf.1 39 h1.2.1, hf.1 46 h1.2.2.1, hf.1 51 h1.2.2.2, hf.2.2.1 42 h2.1, hf.2.2.1 43 h2.2.1, hf.2.2.1 44 h2.2.2.1, hf.2.2.1 45 h2.2.2.2.1, hf.2.2.1 48 h2.2.2.2.2.1, hf.2.2.1 49 h2.2.2.2.2.2.1, hf.2.2.1 50 h2.2.2.2.2.2.2, hf.2.2.2 41 h3]
  exact h
/-- what telling changes; what stands behind stays -/
def FT (s s' : MS) : Prop := Fr [2, 4, 5, 6, 10, 36, 37, 39, 46, 51, 54, 102, 104, 105, 106] [] [42, 43, 44, 45, 48, 49, 50, 101, 103] [41] s s' ∧ (∀ j, 8 ≤ j → mA s' 43 j = mA s 43 j ∧ mA s' 44 j = mA s 44 j ∧ mB s' 41 j = mB s 41 j) ∧ (∀ j, 3 ≤ j → mA s' 48 j = mA s 48 j ∧ mA s' 49 j = mA s 49 j) ∧ ∀ j, 1600 ≤ j → mA s' 50 j = mA s 50 j
theorem FT.rf : FT s s := ⟨Fr.rf, fun _ _ => ⟨rfl, rfl, rfl⟩, fun _ _ => ⟨rfl, rfl⟩, fun _ _ => rfl⟩
theorem FT.trans (h : FT s s') (h' : FT s' s2) : FT s s2 := ⟨h.1.trans h'.1, fun j hj => ⟨((h'.2.1 j hj).1).trans (h.2.1 j hj).1, ((h'.2.1 j hj).2.1).trans (h.2.1 j hj).2.1, ((h'.2.1 j hj).2.2).trans (h.2.1 j hj).2.2⟩, fun j hj => ⟨((h'.2.2.1 j hj).1).trans (h.2.2.1 j hj).1, ((h'.2.2.1 j hj).2).trans (h.2.2.1 j hj).2⟩, fun j hj => (h'.2.2.2 j hj).trans (h.2.2.2 j hj)⟩
theorem FT.of {fs gs as bs : List Nat} (hf : Fr fs gs as bs s s') (h1 : ∀ i ∈ fs, i ∈ ([2, 4, 5, 6, 10, 36, 37, 39, 46, 51, 54, 102, 104, 105, 106] : List Nat)) (h2 : ∀ i ∈ gs, i ∈ ([] : List Nat)) (h3 : ∀ i ∈ as, i ∈ ([42, 45, 101, 103] : List Nat)) (h4 : ∀ i ∈ bs, i ∈ ([] : List Nat)) : FT s s' := by
  have A : ∀ i, i ∉ ([42, 45, 101, 103] : List Nat) → mA s' i = mA s i := fun i hi => hf.2.2.1 i (fun q => hi (h3 i q))
  have B : mB s' 41 = mB s 41 := hf.2.2.2 41 (fun q => nomatch (h4 41 q))
  refine ⟨hf.mono h1 h2 (fun i hi => ?_) (fun i hi => nomatch (h4 i hi)), fun j _ => ⟨congrFun (A 43 (by decide)) j, congrFun (A 44 (by decide)) j, congrFun B j⟩, fun j _ => ⟨congrFun (A 48 (by decide)) j, congrFun (A 49 (by decide)) j⟩, fun j _ => congrFun (A 50 (by decide)) j⟩
  have := h3 i hi
  simp only [List.mem_cons, List.not_mem_nil, or_false] at this ⊢
  omega
def StZ (f : Nat → Nat) (n c : Nat) (s' : MS) : Pz (To × Nat) → Prop
  | .error e => BD s' e
  | .ok y => RP s' f n y.2 ∧ TM s' y.1 c
theorem nmV_inj : ∀ (k : Nat) (a b : List Nat), a.length = k → (∀ c ∈ a, 1 ≤ c ∧ c ≤ 26) → (∀ c ∈ b, 1 ≤ c ∧ c ≤ 26) → nmV a 0 = nmV b 0 → a = b := by
  intro k
  induction k with
  | zero =>
    intro a b ha h1 h2 h
    have ha : a = [] := List.eq_nil_of_length_eq_zero ha
    subst ha
    rcases snoc_cases b with e | ⟨Q, v, e⟩
    · exact e.symm
    · subst e
      rw [nmV_snoc] at h
      have := h2 v (by simp)
      have h : 0 = 27 * nmV Q 0 + v := h
      omega
  | succ k ih =>
    intro a b ha h1 h2 h
    rcases snoc_cases a with e | ⟨P, u, e⟩
    · subst e; cases ha
    · subst e
      rw [nmV_snoc] at h
      have hu := h1 u (by simp)
      rcases snoc_cases b with e | ⟨Q, v, e⟩
      · subst e
        have h : 27 * nmV P 0 + u = 0 := h
        omega
      · subst e
        rw [nmV_snoc] at h
        have hv := h2 v (by simp)
        have e1 : u = v := by omega
        have e2 : nmV P 0 = nmV Q 0 := by omega
        rw [List.length_append] at ha
        have ha : P.length + 1 = k + 1 := ha
        rw [e1, ih P Q (by omega) (fun c hc => h1 c (by simp [hc])) (fun c hc => h2 c (by simp [hc])) e2]
theorem sAt_ok {k : Nat} (hV : VT T) (hk : k < (oS T).length) : okSo (oH T) (sAt T k) := by
  unfold sAt
  rw [List.getD_eq_getElem?_getD, List.getElem?_eq_getElem hk]
  exact hV.2.2.2.1 _ (List.getElem_mem hk)
theorem sAt_lt {k : Nat} (hV : VT T) (hk : k < (oS T).length) : nmV (sAt T k).1 0 < 387420489 := by
  have h := sAt_ok hV hk
  have h2 := nmV_lt h.2.2.1
  have h3 := pow27 (sAt T k).1.length (by have := h.2.1; omega)
  omega
theorem nmV_lt6 {nm : List Nat} (h1 : nm.length ≤ 6) (h2 : ∀ c ∈ nm, 1 ≤ c ∧ c ≤ 26) : nmV nm 0 < 387420489 := by
  have h3 := nmV_lt h2
  have h4 := pow27 nm.length (by omega)
  omega
theorem nameOfLoop {v : Int} (hS : ShM g M o) (hT : TM s T c) (hV : VT T) (hv : 0 ≤ v ∧ v ≤ 387420489) :
    ∀ (m k : Nat), k + m = (oS T).length → Bd g yX6_nameOf cX6_nameOf 4 (some Jvm.ClassFile.FieldType.int) [] 0 0 0 (putM M o s) 2 [some (.ref o), some (.long (lI v)), none, some (.int (nI k))] [] (PQ (putM M o s) (.int (oI (ff (fun k => decide (((nmV (sAt T k).1 0 : Nat) : Int) = v)) m k)))) noX := by
  have h8 := hV.2.2.1
  intro m
  induction m with
  | zero =>
    intro k hk
    have hk : k = (oS T).length := hk
    refine r_ild3 (pc := 2) dX6_nameOf_2 ?_
    refine r_ald0 (pc := 3) dX6_nameOf_3 ?_
    refine m_getI hS (pc := 4) dX6_nameOf_4 fl_X6_298 ?_
    refine Bd.eqI hT.2.1 ?_
    first | refine r_icmp_geN (pc := 7) (tgt := 29) dX6_nameOf_7 (by decide) (by omega) (by omega) (fun h7 => ?_) (fun h7 => ?_) | refine r_icmp_ge (pc := 7) (tgt := 29) dX6_nameOf_7 (by decide) (fun h7 => ?_) (fun h7 => ?_)
    · skip
      refine r_iconst (v := -1) (pc := 29) dX6_nameOf_29 (by decide) ?_
      refine r_iret (pc := 30) dX6_nameOf_30 ?_
      exact ⟨rfl, rfl⟩
    · skip
      exact absurd h7 (by omega)
  | succ m ih =>
    intro k hk
    have hlt := sAt_lt hV (show k < (oS T).length by omega)
    have hn := (hT.2.2.1 k (by omega)).1
    unfold ff
    by_cases e : ((nmV (sAt T k).1 0 : Nat) : Int) = v
    · rw [decide_eq_true e]
      refine r_ild3 (pc := 2) dX6_nameOf_2 ?_
      refine r_ald0 (pc := 3) dX6_nameOf_3 ?_
      refine m_getI hS (pc := 4) dX6_nameOf_4 fl_X6_298 ?_
      refine Bd.eqI hT.2.1 ?_
      first | refine r_icmp_geN (pc := 7) (tgt := 29) dX6_nameOf_7 (by decide) (by omega) (by omega) (fun h7 => ?_) (fun h7 => ?_) | refine r_icmp_ge (pc := 7) (tgt := 29) dX6_nameOf_7 (by decide) (fun h7 => ?_) (fun h7 => ?_)
      · skip
        exact absurd h7 (by omega)
      · skip
        refine r_ald0 (pc := 10) dX6_nameOf_10 ?_
        refine m_getR hS (pc := 11) dX6_nameOf_11 fl_X6_96 ar41 ?_
        refine r_ild3 (pc := 14) dX6_nameOf_14 ?_
        refine m_lald hS (pc := 15) dX6_nameOf_15 ar41 (by omega) (by omega) ?_
        refine Bd.eqL hn ?_
        refine r_lld1 (pc := 16) dX6_nameOf_16 ?_
        refine r_lcmp (pc := 17) dX6_nameOf_17 ?_
        first | refine r_if_neCI (pc := 18) (tgt := 23) dX6_nameOf_18 (by decide) (by constructor <;> omega) (by constructor <;> omega) (fun h18 => ?_) (fun h18 => ?_) | refine r_if_neC (pc := 18) (tgt := 23) dX6_nameOf_18 (by decide) (fun h18 => ?_) (fun h18 => ?_)
        · skip
          exact absurd e h18
        · skip
          refine r_ild3 (pc := 21) dX6_nameOf_21 ?_
          refine r_iret (pc := 22) dX6_nameOf_22 ?_
          exact ⟨rfl, rfl⟩
    · rw [decide_eq_false e]
      refine r_ild3 (pc := 2) dX6_nameOf_2 ?_
      refine r_ald0 (pc := 3) dX6_nameOf_3 ?_
      refine m_getI hS (pc := 4) dX6_nameOf_4 fl_X6_298 ?_
      refine Bd.eqI hT.2.1 ?_
      first | refine r_icmp_geN (pc := 7) (tgt := 29) dX6_nameOf_7 (by decide) (by omega) (by omega) (fun h7 => ?_) (fun h7 => ?_) | refine r_icmp_ge (pc := 7) (tgt := 29) dX6_nameOf_7 (by decide) (fun h7 => ?_) (fun h7 => ?_)
      · skip
        exact absurd h7 (by omega)
      · skip
        refine r_ald0 (pc := 10) dX6_nameOf_10 ?_
        refine m_getR hS (pc := 11) dX6_nameOf_11 fl_X6_96 ar41 ?_
        refine r_ild3 (pc := 14) dX6_nameOf_14 ?_
        refine m_lald hS (pc := 15) dX6_nameOf_15 ar41 (by omega) (by omega) ?_
        refine Bd.eqL hn ?_
        refine r_lld1 (pc := 16) dX6_nameOf_16 ?_
        refine r_lcmp (pc := 17) dX6_nameOf_17 ?_
        first | refine r_if_neCI (pc := 18) (tgt := 23) dX6_nameOf_18 (by decide) (by constructor <;> omega) (by constructor <;> omega) (fun h18 => ?_) (fun h18 => ?_) | refine r_if_neC (pc := 18) (tgt := 23) dX6_nameOf_18 (by decide) (fun h18 => ?_) (fun h18 => ?_)
        · skip
          first | refine r_iinc3N (j := 1) (pc := 23) dX6_nameOf_23 rfl ?_ | refine r_iinc3 (pc := 23) dX6_nameOf_23 ?_
          refine r_goto (pc := 26) (tgt := 2) dX6_nameOf_26 (by decide) ?_
          exact ih (k + 1) (by omega)
        · skip
          exact absurd h18 e
theorem ct_X6_nameOfR {v : Int} (hS : ShM g M o) (hT : TM s T c) (hV : VT T) (hv : 0 ≤ v ∧ v ≤ 387420489) : Ct g yX6_nameOf cX6_nameOf 4 (some Jvm.ClassFile.FieldType.int) 0 0 0 [.ref o, .long (lI v)] (putM M o s) (PQ (putM M o s) (.int (oI (ff (fun k => decide (((nmV (sAt T k).1 0 : Nat) : Int) = v)) (oS T).length 0)))) noX := by
  refine Ct.of (by decide) (Nat.le_of_ble_eq_true rfl) rfl ?_
  refine r_iconst (v := nI 0) (pc := 0) dX6_nameOf_0 (by decide) ?_
  refine r_ist3 (pc := 1) dX6_nameOf_1 ?_
  exact nameOfLoop hS hT hV hv (oS T).length 0 (by omega)
theorem ct_X6_nameOf {nm : List Nat} (hS : ShM g M o) (hT : TM s T c) (hV : VT T) (h1 : nm.length ≤ 6) (h2 : ∀ c ∈ nm, 1 ≤ c ∧ c ≤ 26) : Ct g yX6_nameOf cX6_nameOf 4 (some Jvm.ClassFile.FieldType.int) 0 0 0 [.ref o, .long (lI (nmV nm 0 : Nat))] (putM M o s) (PQ (putM M o s) (.int (oI (fndS T nm)))) noX := by
  have h := ct_X6_nameOfR (v := ((nmV nm 0 : Nat) : Int)) hS hT hV (by have := nmV_lt6 h1 h2; omega)
  have e : ff (fun k => decide (((nmV (sAt T k).1 0 : Nat) : Int) = ((nmV nm 0 : Nat) : Int))) (oS T).length 0 = fndS T nm := by
    unfold fndS
    refine ff_congr _ _ (fun j hj1 hj2 => ?_)
    have hok := sAt_ok hV (show j < (oS T).length by omega)
    by_cases e : (sAt T j).1 = nm
    · rw [decide_eq_true e, e]; simp
    · rw [decide_eq_false e, decide_eq_false (fun q => e (nmV_inj _ _ _ rfl hok.2.2.1 h2 (by omega)))]
  rw [e] at h
  exact h
def OnZ (f : Nat → Nat) (n : Nat) (p : Nat) (r : Option Value) (s' : MS) : Pz (Nat × Nat) → Prop
  | .error e => r = some (.int (nI 0)) ∧ BD s' e
  | .ok y => r = some (.int (nI y.1)) ∧ RP s' f n y.2 ∧ mF s' 36 = nI p
theorem fndS_lt {nm : List Nat} {k : Nat} (h : fndS T nm = some k) : k < (oS T).length := by have := ff_lt h; omega
theorem ct_X6_oneOf (hS : ShM g M o) (hR : RP s f n a) (hT : TM s T c) (hV : VT T) :
    Ct g yX6_oneOf cX6_oneOf 4 (some Jvm.ClassFile.FieldType.int) 4 0 0 [.ref o] (putM M o s) (QM M o (fun r s' => OnZ f n (skip f n a) r s' (oneP f n T a) ∧ Fr [2, 4, 5, 6, 36] [] [] [] s s')) noX := by
  have hn := hR.1.2.2.2.1
  have hsl := skip_le (f := f) hR.1.2.2.1
  have hnm := ct_X6_name hS hR
  have h8 := hV.2.2.1
  refine Ct.of (by decide) (Nat.le_of_ble_eq_true rfl) rfl ?_
  unfold oneP
  cases hy : nmP f n (skip f n a) with
  | error e =>
    rw [hy] at hnm
    rw [bnd_er]
    refine r_ald0 (pc := 0) dX6_oneOf_0 ?_
    refine r_cV (pc := 1) dX6_oneOf_1 cv_X6_301 hS.k hnm rfl rfl (Nat.le_of_ble_eq_true rfl) (by decide) ?_
    rintro _ _ ⟨s1, rfl, ⟨rfl, hB⟩, hf1⟩
    refine r_lst1 (pc := 4) dX6_oneOf_4 ?_
    refine r_ald0 (pc := 5) dX6_oneOf_5 ?_
    refine r_lld1 (pc := 6) dX6_oneOf_6 ?_
    refine r_cV (pc := 7) dX6_oneOf_7 cv_X6_305 hS.k (ct_X6_nameOfR (v := 0) hS (hT.fr hf1 (by decide) (by decide) (by decide)) hV (by decide)) rfl rfl (Nat.le_of_ble_eq_true rfl) (by decide) ?_
    rintro _ _ ⟨rfl, rfl⟩
    refine r_ist3 (pc := 10) dX6_oneOf_10 ?_
    refine r_ald0 (pc := 11) dX6_oneOf_11 ?_
    refine m_getI hS (pc := 12) dX6_oneOf_12 fl_X6_237 ?_
    refine r_if_ne (pc := 15) (tgt := 32) dX6_oneOf_15 (by decide) (fun h15 => ?_) (fun h15 => ?_)
    · skip
      refine r_ald0 (pc := 32) dX6_oneOf_32 ?_
      refine m_getI hS (pc := 33) dX6_oneOf_33 fl_X6_237 ?_
      refine r_if_ne (pc := 36) (tgt := 43) dX6_oneOf_36 (by decide) (fun h36 => ?_) (fun h36 => ?_)
      · skip
        refine r_iconst (v := nI 0) (pc := 43) dX6_oneOf_43 (by decide) ?_
        refine r_iret (pc := 44) dX6_oneOf_44 ?_
        exact ⟨_, rfl, ⟨rfl, hB⟩, hf1⟩
      · skip
        exact absurd h36 hB.ne
    · skip
      exact absurd h15 hB.ne
  | ok y =>
    rw [hy] at hnm
    rw [bnd_ok]
    obtain ⟨y1, y2, y3, y4, y5, y6⟩ := nmP_ok hy
    cases hk : fndS T y.1 with
    | none =>
      have hno : ∀ {s1 : MS}, TM s1 T c → _ := fun {s1} hT1 => ct_X6_nameOf (s := s1) hS hT1 hV y3 y4
      rw [hk] at hno
      refine r_ald0 (pc := 0) dX6_oneOf_0 ?_
      refine r_cV (pc := 1) dX6_oneOf_1 cv_X6_301 hS.k hnm rfl rfl (Nat.le_of_ble_eq_true rfl) (by decide) ?_
      rintro _ _ ⟨s1, rfl, ⟨rfl, hR1, h36⟩, hf1⟩
      refine r_lst1 (pc := 4) dX6_oneOf_4 ?_
      refine r_ald0 (pc := 5) dX6_oneOf_5 ?_
      refine r_lld1 (pc := 6) dX6_oneOf_6 ?_
      refine r_cV (pc := 7) dX6_oneOf_7 cv_X6_305 hS.k (hno (hT.fr hf1 (by decide) (by decide) (by decide))) rfl rfl (Nat.le_of_ble_eq_true rfl) (by decide) ?_
      rintro _ _ ⟨rfl, rfl⟩
      refine r_ist3 (pc := 10) dX6_oneOf_10 ?_
      refine r_ald0 (pc := 11) dX6_oneOf_11 ?_
      refine m_getI hS (pc := 12) dX6_oneOf_12 fl_X6_237 ?_
      refine Bd.eqI hR1.2.1 ?_
      first | refine r_if_neZ (pc := 15) (tgt := 32) dX6_oneOf_15 (by decide) (fun h15 => ?_) (fun h15 => ?_) | refine r_if_neN (pc := 15) (tgt := 32) dX6_oneOf_15 (by decide) (by omega) (fun h15 => ?_) (fun h15 => ?_) | refine r_if_ne (pc := 15) (tgt := 32) dX6_oneOf_15 (by decide) (fun h15 => ?_) (fun h15 => ?_)
      · skip
        exact absurd rfl h15
      · skip
        refine r_ild3 (pc := 18) dX6_oneOf_18 ?_
        refine r_iconst (v := -1) (pc := 19) dX6_oneOf_19 (by decide) ?_
        refine r_icmp_ne (pc := 20) (tgt := 32) dX6_oneOf_20 (by decide) (fun h20 => ?_) (fun h20 => ?_)
        · skip
          exact absurd rfl h20
        · skip
          refine r_ald0 (pc := 23) dX6_oneOf_23 ?_
          refine r_iconst (v := nI 3) (pc := 24) dX6_oneOf_24 (by decide) ?_
          refine r_ald0 (pc := 25) dX6_oneOf_25 ?_
          refine m_getI hS (pc := 26) dX6_oneOf_26 fl_X6_288 ?_
          refine Bd.eqI h36 ?_
          refine r_cV (pc := 29) dX6_oneOf_29 cv_X6_267 hS.k (ct_X6_failP hS hR1.2.1 (by decide) (by omega)) rfl rfl (Nat.le_of_ble_eq_true rfl) (by decide) ?_
          rintro _ _ ⟨s2, rfl, rfl, hB, hf2⟩
          refine r_ald0 (pc := 32) dX6_oneOf_32 ?_
          refine m_getI hS (pc := 33) dX6_oneOf_33 fl_X6_237 ?_
          refine r_if_ne (pc := 36) (tgt := 43) dX6_oneOf_36 (by decide) (fun h36 => ?_) (fun h36 => ?_)
          · skip
            refine r_iconst (v := nI 0) (pc := 43) dX6_oneOf_43 (by decide) ?_
            refine r_iret (pc := 44) dX6_oneOf_44 ?_
            exact ⟨_, rfl, ⟨rfl, hB⟩, hf1.trans (hf2.mono (by decide) (by decide) (by decide) (by decide))⟩
          · skip
            exact absurd h36 hB.ne
    | some k =>
      have hkl := fndS_lt hk
      have hno : ∀ {s1 : MS}, TM s1 T c → _ := fun {s1} hT1 => ct_X6_nameOf (s := s1) hS hT1 hV y3 y4
      rw [hk] at hno
      rw [show oI (some k) = nI k from rfl] at hno
      refine r_ald0 (pc := 0) dX6_oneOf_0 ?_
      refine r_cV (pc := 1) dX6_oneOf_1 cv_X6_301 hS.k hnm rfl rfl (Nat.le_of_ble_eq_true rfl) (by decide) ?_
      rintro _ _ ⟨s1, rfl, ⟨rfl, hR1, h36'⟩, hf1⟩
      refine r_lst1 (pc := 4) dX6_oneOf_4 ?_
      refine r_ald0 (pc := 5) dX6_oneOf_5 ?_
      refine r_lld1 (pc := 6) dX6_oneOf_6 ?_
      refine r_cV (pc := 7) dX6_oneOf_7 cv_X6_305 hS.k (hno (hT.fr hf1 (by decide) (by decide) (by decide))) rfl rfl (Nat.le_of_ble_eq_true rfl) (by decide) ?_
      rintro _ _ ⟨rfl, rfl⟩
      refine r_ist3 (pc := 10) dX6_oneOf_10 ?_
      refine r_ald0 (pc := 11) dX6_oneOf_11 ?_
      refine m_getI hS (pc := 12) dX6_oneOf_12 fl_X6_237 ?_
      refine Bd.eqI hR1.2.1 ?_
      first | refine r_if_neZ (pc := 15) (tgt := 32) dX6_oneOf_15 (by decide) (fun h15 => ?_) (fun h15 => ?_) | refine r_if_neN (pc := 15) (tgt := 32) dX6_oneOf_15 (by decide) (by omega) (fun h15 => ?_) (fun h15 => ?_) | refine r_if_ne (pc := 15) (tgt := 32) dX6_oneOf_15 (by decide) (fun h15 => ?_) (fun h15 => ?_)
      · skip
        exact absurd rfl h15
      · skip
        refine r_ild3 (pc := 18) dX6_oneOf_18 ?_
        refine r_iconst (v := -1) (pc := 19) dX6_oneOf_19 (by decide) ?_
        refine r_icmp_ne (pc := 20) (tgt := 32) dX6_oneOf_20 (by decide) (fun h20 => ?_) (fun h20 => ?_)
        · skip
          refine r_ald0 (pc := 32) dX6_oneOf_32 ?_
          refine m_getI hS (pc := 33) dX6_oneOf_33 fl_X6_237 ?_
          refine Bd.eqI hR1.2.1 ?_
          first | refine r_if_neZ (pc := 36) (tgt := 43) dX6_oneOf_36 (by decide) (fun h36 => ?_) (fun h36 => ?_) | refine r_if_neN (pc := 36) (tgt := 43) dX6_oneOf_36 (by decide) (by omega) (fun h36 => ?_) (fun h36 => ?_) | refine r_if_ne (pc := 36) (tgt := 43) dX6_oneOf_36 (by decide) (fun h36 => ?_) (fun h36 => ?_)
          · skip
            exact absurd rfl h36
          · skip
            refine r_ild3 (pc := 39) dX6_oneOf_39 ?_
            refine r_goto (pc := 40) (tgt := 44) dX6_oneOf_40 (by decide) ?_
            refine r_iret (pc := 44) dX6_oneOf_44 ?_
            exact ⟨_, rfl, ⟨rfl, hR1, h36'⟩, hf1⟩
        · skip
          exact absurd h20 (nI_m1 (by omega))
theorem ct_X6_oneOfB {e : Nat × Nat} (hS : ShM g M o) (hB : BD s e) (hT : TM s T c) (hV : VT T) : Ct g yX6_oneOf cX6_oneOf 4 (some Jvm.ClassFile.FieldType.int) 4 0 0 [.ref o] (putM M o s) (PQ (putM M o s) (.int (nI 0))) noX := by
  refine Ct.of (by decide) (Nat.le_of_ble_eq_true rfl) rfl ?_
  refine r_ald0 (pc := 0) dX6_oneOf_0 ?_
  refine r_cV (pc := 1) dX6_oneOf_1 cv_X6_301 hS.k (ct_X6_nameB hS hB.ne) rfl rfl (Nat.le_of_ble_eq_true rfl) (by decide) ?_
  rintro _ _ ⟨rfl, rfl⟩
  refine r_lst1 (pc := 4) dX6_oneOf_4 ?_
  refine r_ald0 (pc := 5) dX6_oneOf_5 ?_
  refine r_lld1 (pc := 6) dX6_oneOf_6 ?_
  refine r_cV (pc := 7) dX6_oneOf_7 cv_X6_305 hS.k (ct_X6_nameOfR (v := 0) hS hT hV (by decide)) rfl rfl (Nat.le_of_ble_eq_true rfl) (by decide) ?_
  rintro _ _ ⟨rfl, rfl⟩
  refine r_ist3 (pc := 10) dX6_oneOf_10 ?_
  refine r_ald0 (pc := 11) dX6_oneOf_11 ?_
  refine m_getI hS (pc := 12) dX6_oneOf_12 fl_X6_237 ?_
  refine r_if_ne (pc := 15) (tgt := 32) dX6_oneOf_15 (by decide) (fun h15 => ?_) (fun h15 => ?_)
  · skip
    refine r_ald0 (pc := 32) dX6_oneOf_32 ?_
    refine m_getI hS (pc := 33) dX6_oneOf_33 fl_X6_237 ?_
    refine r_if_ne (pc := 36) (tgt := 43) dX6_oneOf_36 (by decide) (fun h36 => ?_) (fun h36 => ?_)
    · skip
      refine r_iconst (v := nI 0) (pc := 43) dX6_oneOf_43 (by decide) ?_
      refine r_iret (pc := 44) dX6_oneOf_44 ?_
      exact ⟨rfl, rfl⟩
    · skip
      exact absurd h36 hB.ne
  · skip
    exact absurd h15 hB.ne
def HdZ (f : Nat → Nat) (n : Nat) (s' : MS) : Pz (Nat × Nat) → Prop
  | .error e => BD s' e
  | .ok y => RP s' f n y.2 ∧ mF s' 37 = nI y.1
theorem ct_X6_terraceTold (hS : ShM g M o) (hR : RP s f n 0) :
    Ct g yX6_terraceTold cX6_terraceTold 1 none 4 0 0 [.ref o] (putM M o s) (QM M o (fun r s' => r = none ∧ HdZ f n s' (headP f n) ∧ Fr [2, 4, 5, 6, 10, 37] [] [] [] s s')) noX := by
  have hk := ct_X6_asks hS hR ar11 (w := wTerrace) (by decide)
  refine Ct.of (by decide) (Nat.le_of_ble_eq_true rfl) rfl ?_
  unfold headP
  cases h1 : kwP f n wTerrace 0 with
  | error e =>
    rw [h1] at hk
    rw [bnd_er]
    refine r_ald0 (pc := 0) dX6_terraceTold_0 ?_
    refine r_ald0 (pc := 1) dX6_terraceTold_1 ?_
    refine m_getR hS (pc := 2) dX6_terraceTold_2 fl_X6_20 ar11 ?_
    refine r_cV (pc := 5) dX6_terraceTold_5 cv_X6_309 hS.k hk rfl rfl (Nat.le_of_ble_eq_true rfl) (by decide) ?_
    rintro _ _ ⟨s1, rfl, rfl, hB, hf1⟩
    have hB : BD s1 e := hB
    refine r_ald0 (pc := 8) dX6_terraceTold_8 ?_
    refine r_ald0 (pc := 9) dX6_terraceTold_9 ?_
    refine r_iconst (v := nI 2) (pc := 10) dX6_terraceTold_10 (by decide) ?_
    refine r_bipush (v := nI 9) (pc := 11) dX6_terraceTold_11 (by decide) ?_
    refine r_cV (pc := 13) dX6_terraceTold_13 cv_X6_313 hS.k (ct_X6_numberB hS hB.ne) rfl rfl (Nat.le_of_ble_eq_true rfl) (by decide) ?_
    rintro _ _ ⟨rfl, rfl⟩
    refine m_putI hS (pc := 16) dX6_terraceTold_16 fl_X6_317 fw_X6_37 rfl rfl ?_
    refine r_ald0 (pc := 19) dX6_terraceTold_19 ?_
    refine r_bipush (v := nI 59) (pc := 20) dX6_terraceTold_20 (by decide) ?_
    refine r_cV (pc := 22) dX6_terraceTold_22 cv_X6_320 hS.k (ct_X6_asksSignB hS hB.ne) rfl rfl (Nat.le_of_ble_eq_true rfl) (by decide) ?_
    rintro _ _ ⟨rfl, rfl⟩
    refine r_vret (pc := 25) dX6_terraceTold_25 ?_
    exact ⟨_, rfl, rfl, hB, Fr.tF (hf1.mono (by decide) (by decide) (by decide) (by decide)) (by decide)⟩
  | ok b =>
    rw [h1] at hk
    rw [bnd_ok]
    have hnu : ∀ {s1 : MS}, RP s1 f n b → _ := fun {s1} hR1 => ct_X6_number (s := s1) (a := b) (lo := 2) (hi := 9) hS hR1 (by decide) (by decide)
    cases h2 : numP f n 2 9 (skip f n b) with
    | error e =>
      rw [h2] at hnu
      rw [bnd_er]
      refine r_ald0 (pc := 0) dX6_terraceTold_0 ?_
      refine r_ald0 (pc := 1) dX6_terraceTold_1 ?_
      refine m_getR hS (pc := 2) dX6_terraceTold_2 fl_X6_20 ar11 ?_
      refine r_cV (pc := 5) dX6_terraceTold_5 cv_X6_309 hS.k hk rfl rfl (Nat.le_of_ble_eq_true rfl) (by decide) ?_
      rintro _ _ ⟨s1, rfl, rfl, hR1, hf1⟩
      refine r_ald0 (pc := 8) dX6_terraceTold_8 ?_
      refine r_ald0 (pc := 9) dX6_terraceTold_9 ?_
      refine r_iconst (v := nI 2) (pc := 10) dX6_terraceTold_10 (by decide) ?_
      refine r_bipush (v := nI 9) (pc := 11) dX6_terraceTold_11 (by decide) ?_
      refine r_cV (pc := 13) dX6_terraceTold_13 cv_X6_313 hS.k (hnu hR1) rfl rfl (Nat.le_of_ble_eq_true rfl) (by decide) ?_
      rintro _ _ ⟨s2, rfl, ⟨⟨v, rfl⟩, hB⟩, hf2⟩
      refine m_putI hS (pc := 16) dX6_terraceTold_16 fl_X6_317 fw_X6_37 rfl rfl ?_
      refine r_ald0 (pc := 19) dX6_terraceTold_19 ?_
      refine r_bipush (v := nI 59) (pc := 20) dX6_terraceTold_20 (by decide) ?_
      refine r_cV (pc := 22) dX6_terraceTold_22 cv_X6_320 hS.k (ct_X6_asksSignB hS hB.ne) rfl rfl (Nat.le_of_ble_eq_true rfl) (by decide) ?_
      rintro _ _ ⟨rfl, rfl⟩
      refine r_vret (pc := 25) dX6_terraceTold_25 ?_
      exact ⟨_, rfl, rfl, hB, Fr.tF ((hf1.mono (by decide) (by decide) (by decide) (by decide)).trans (hf2.mono (by decide) (by decide) (by decide) (by decide))) (by decide)⟩
    | ok y =>
      rw [h2] at hnu
      rw [bnd_ok]
      have hsg : ∀ {s1 : MS}, RP s1 f n y.2 → _ := fun {s1} hR1 => ct_X6_asksSign (s := s1) (a := y.2) (c := 59) hS hR1 (sgOk_all 59 (by decide))
      have h37 : ∀ {s1 : MS} {v : Int32}, RP s1 f n y.2 → RP (tF s1 37 v) f n y.2 := fun {s1 v} h => h.fr (fs := [37]) (gs := []) (as := []) (bs := []) (Fr.tF Fr.rf (by decide)) (by decide) (by decide)
      cases h3 : sgP f n 59 y.2 with
      | error e =>
        rw [h3] at hsg
        rw [bnd_er]
        refine r_ald0 (pc := 0) dX6_terraceTold_0 ?_
        refine r_ald0 (pc := 1) dX6_terraceTold_1 ?_
        refine m_getR hS (pc := 2) dX6_terraceTold_2 fl_X6_20 ar11 ?_
        refine r_cV (pc := 5) dX6_terraceTold_5 cv_X6_309 hS.k hk rfl rfl (Nat.le_of_ble_eq_true rfl) (by decide) ?_
        rintro _ _ ⟨s1, rfl, rfl, hR1, hf1⟩
        refine r_ald0 (pc := 8) dX6_terraceTold_8 ?_
        refine r_ald0 (pc := 9) dX6_terraceTold_9 ?_
        refine r_iconst (v := nI 2) (pc := 10) dX6_terraceTold_10 (by decide) ?_
        refine r_bipush (v := nI 9) (pc := 11) dX6_terraceTold_11 (by decide) ?_
        refine r_cV (pc := 13) dX6_terraceTold_13 cv_X6_313 hS.k (hnu hR1) rfl rfl (Nat.le_of_ble_eq_true rfl) (by decide) ?_
        rintro _ _ ⟨s2, rfl, ⟨rfl, hR2, -⟩, hf2⟩
        refine m_putI hS (pc := 16) dX6_terraceTold_16 fl_X6_317 fw_X6_37 rfl rfl ?_
        refine r_ald0 (pc := 19) dX6_terraceTold_19 ?_
        refine r_bipush (v := nI 59) (pc := 20) dX6_terraceTold_20 (by decide) ?_
        refine r_cV (pc := 22) dX6_terraceTold_22 cv_X6_320 hS.k (hsg (h37 hR2)) rfl rfl (Nat.le_of_ble_eq_true rfl) (by decide) ?_
        rintro _ _ ⟨s3, rfl, rfl, hB, hf3⟩
        refine r_vret (pc := 25) dX6_terraceTold_25 ?_
        exact ⟨_, rfl, rfl, hB, (Fr.tF ((hf1.mono (by decide) (by decide) (by decide) (by decide)).trans (hf2.mono (by decide) (by decide) (by decide) (by decide))) (by decide)).trans (hf3.mono (by decide) (by decide) (by decide) (by decide))⟩
      | ok b2 =>
        rw [h3] at hsg
        rw [bnd_ok]
        refine r_ald0 (pc := 0) dX6_terraceTold_0 ?_
        refine r_ald0 (pc := 1) dX6_terraceTold_1 ?_
        refine m_getR hS (pc := 2) dX6_terraceTold_2 fl_X6_20 ar11 ?_
        refine r_cV (pc := 5) dX6_terraceTold_5 cv_X6_309 hS.k hk rfl rfl (Nat.le_of_ble_eq_true rfl) (by decide) ?_
        rintro _ _ ⟨s1, rfl, rfl, hR1, hf1⟩
        refine r_ald0 (pc := 8) dX6_terraceTold_8 ?_
        refine r_ald0 (pc := 9) dX6_terraceTold_9 ?_
        refine r_iconst (v := nI 2) (pc := 10) dX6_terraceTold_10 (by decide) ?_
        refine r_bipush (v := nI 9) (pc := 11) dX6_terraceTold_11 (by decide) ?_
        refine r_cV (pc := 13) dX6_terraceTold_13 cv_X6_313 hS.k (hnu hR1) rfl rfl (Nat.le_of_ble_eq_true rfl) (by decide) ?_
        rintro _ _ ⟨s2, rfl, ⟨rfl, hR2, -⟩, hf2⟩
        refine m_putI hS (pc := 16) dX6_terraceTold_16 fl_X6_317 fw_X6_37 rfl rfl ?_
        refine r_ald0 (pc := 19) dX6_terraceTold_19 ?_
        refine r_bipush (v := nI 59) (pc := 20) dX6_terraceTold_20 (by decide) ?_
        refine r_cV (pc := 22) dX6_terraceTold_22 cv_X6_320 hS.k (hsg (h37 hR2)) rfl rfl (Nat.le_of_ble_eq_true rfl) (by decide) ?_
        rintro _ _ ⟨s3, rfl, rfl, hR3, hf3⟩
        refine r_vret (pc := 25) dX6_terraceTold_25 ?_
        exact ⟨_, rfl, rfl, ⟨hR3, hf3.1 37 (by decide)⟩, (Fr.tF ((hf1.mono (by decide) (by decide) (by decide) (by decide)).trans (hf2.mono (by decide) (by decide) (by decide) (by decide))) (by decide)).trans (hf3.mono (by decide) (by decide) (by decide) (by decide))⟩
end M38
