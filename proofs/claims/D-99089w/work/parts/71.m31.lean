set_option maxRecDepth 100000
/-! THE MODEL: codes, what waits -/
section M31
variable {g : GC} {M : MM} {o : Nat} {s s' sB : MS} {M1 : MM} {q : Sg} {f : Nat → Nat} {n a x : Nat}
theorem hol_app {b : Nat → Int32} : ∀ {xs ys : List Nat} {i : Nat}, hol b i (xs ++ ys) ↔ hol b i xs ∧ hol b (i + xs.length) ys
  | [], ys, i => by simp [hol]
  | c :: xs, ys, i => by
    show (b i = nI c ∧ hol b (i + 1) (xs ++ ys)) ↔ (b i = nI c ∧ hol b (i + 1) xs) ∧ hol b (i + (xs.length + 1)) ys
    rw [hol_app (xs := xs), show i + 1 + xs.length = i + (xs.length + 1) by omega]
    exact ⟨fun h => ⟨⟨h.1, h.2.1⟩, h.2.2⟩, fun h => ⟨h.1.1, h.1.2, h.2⟩⟩
/-- a pile of numbers, the top first -/
def pilN (b : Nat → Int32) : List Nat → Prop
  | [] => True
  | v :: vs => b vs.length = nI v ∧ pilN b vs
theorem pilN_congr {b b' : Nat → Int32} : ∀ {vs : List Nat}, (∀ i, i < vs.length → b' i = b i) → pilN b vs → pilN b' vs
  | [], _, _ => trivial
  | v :: vs, h, hh => ⟨by rw [h vs.length (by simp)]; exact hh.1, pilN_congr (fun i hi => h i (by simp; omega)) hh.2⟩
theorem pilN_at {b : Nat → Int32} : ∀ {P : List Nat} {v : Nat} {T : List Nat}, pilN b (P ++ v :: T) → b T.length = nI v
  | [], v, T, h => h.1
  | _ :: P, v, T, h => pilN_at (P := P) h.2
theorem pilN_tl {b : Nat → Int32} : ∀ {P T : List Nat}, pilN b (P ++ T) → pilN b T
  | [], _, h => h
  | _ :: P, _, h => pilN_tl (P := P) h.2
/-- codes so far, what waits (the top first), how many are open -/
def RQ (s : MS) (cs W : List Nat) (op : Nat) : Prop := mF s 102 = nI cs.length ∧ hol (mA s 101) 0 cs ∧ mF s 104 = nI W.length ∧ pilN (mA s 103) W ∧ mF s 105 = nI op ∧ (∀ v ∈ W, v < 100) ∧ cs.length + W.length ≤ 1601
theorem RQ.fr {fs gs as bs : List Nat} {cs W : List Nat} {op : Nat} (h : RQ s cs W op) (hf : Fr fs gs as bs s s') (h1 : 102 ∉ fs ∧ 104 ∉ fs ∧ 105 ∉ fs) (h2 : 101 ∉ as ∧ 103 ∉ as) : RQ s' cs W op := by
  obtain ⟨r1, r2, r3, r4, r5, r6, r7⟩ := h
  refine ⟨(hf.1 102 h1.1).trans r1, ?_, (hf.1 104 h1.2.1).trans r3, ?_, (hf.1 105 h1.2.2).trans r5, r6, r7⟩
  · rw [hf.2.2.1 101 h2.1]; exact r2
  · rw [hf.2.2.1 103 h2.2]; exact r4
theorem ct_X6_qCodeR {v : Int32} {c : Nat} (hS : ShM g M o) (hc : mF s 102 = nI c) (hc2 : c < 1700) : Ct g yX6_qCode cX6_qCode 2 none 0 0 0 [.ref o, .int v] (putM M o s) (VQ (putM M o (tF (tA s 101 c v) 102 (nI (c + 1))))) noX := by
  refine Ct.of (by decide) (Nat.le_of_ble_eq_true rfl) rfl ?_
  refine r_ald0 (pc := 0) dX6_qCode_0 ?_
  refine m_getR hS (pc := 1) dX6_qCode_1 fl_X6_222 ar101 ?_
  refine r_ald0 (pc := 4) dX6_qCode_4 ?_
  refine m_getI hS (pc := 5) dX6_qCode_5 fl_X6_327 ?_
  refine Bd.eqI hc ?_
  refine r_ild1 (pc := 8) dX6_qCode_8 ?_
  refine m_iast hS (pc := 9) dX6_qCode_9 ar101 (by omega) (by omega) ?_
  refine r_ald0 (pc := 10) dX6_qCode_10 ?_
  refine r_dup (pc := 11) dX6_qCode_11 rfl ?_
  refine m_getI hS (pc := 12) dX6_qCode_12 fl_X6_327 ?_
  refine Bd.eqI (x' := nI c) hc ?_
  refine r_iconst (v := nI 1) (pc := 15) dX6_qCode_15 (by decide) ?_
  first | refine r_iaddN (pc := 16) dX6_qCode_16 ?_ | refine r_iaddJ (pc := 16) dX6_qCode_16 ?_ | refine r_iadd (pc := 16) dX6_qCode_16 ?_
  refine m_putI hS (pc := 17) dX6_qCode_17 fl_X6_327 fw_X6_102 rfl rfl ?_
  refine r_vret (pc := 20) dX6_qCode_20 ?_
  exact ⟨rfl, rfl⟩
theorem tA_ne2 {i j j' : Nat} {v : Int32} (h : j' ≠ j) : mA (tA s i j v) i j' = mA s i j' := by rw [mA_tA, if_neg (fun q => h q.2)]
theorem RQ.code {cs W : List Nat} {op v : Nat} (h : RQ s cs W op) (hl : cs.length + 1 + W.length ≤ 1601) : RQ (tF (tA s 101 cs.length (nI v)) 102 (nI (cs.length + 1))) (cs ++ [v]) W op := by
  obtain ⟨r1, r2, r3, r4, r5, r6, r7⟩ := h
  refine ⟨by rw [List.length_append]; rfl, ?_, r3, r4, r5, r6, by rw [List.length_append]; exact hl⟩
  refine hol_app.mpr ⟨hol_congr (fun i h1 h2 => ?_) r2, ?_, trivial⟩
  · exact tA_ne2 (by omega)
  · show mA (tA s 101 cs.length (nI v)) 101 (0 + cs.length) = nI v
    rw [Nat.zero_add, mA_tA, if_pos ⟨rfl, rfl⟩]
theorem RQ.codeF {c : Nat} {v : Int32} : Fr [102] [] [101] [] s (tF (tA s 101 c v) 102 (nI (c + 1))) := Fr.tF (Fr.tA Fr.rf (by decide)) (by decide)
theorem ct_X6_qCode {cs W : List Nat} {op v : Nat} (hS : ShM g M o) (h : RQ s cs W op) (hl : cs.length + 1 + W.length ≤ 1601) : Ct g yX6_qCode cX6_qCode 2 none 0 0 0 [.ref o, .int (nI v)] (putM M o s) (QM M o (fun r s' => r = none ∧ RQ s' (cs ++ [v]) W op ∧ Fr [102] [] [101] [] s s')) noX := by
  refine Ct.post ?_ (fun _ _ h => h) (ct_X6_qCodeR hS h.1 (by omega))
  rintro _ _ ⟨rfl, rfl⟩
  exact ⟨_, rfl, rfl, h.code hl, RQ.codeF⟩
theorem ct_X6_qIsOn {cs W : List Nat} {op v : Nat} (hS : ShM g M o) (h : RQ s cs W op) (hv : v < 100) : Ct g yX6_qIsOn cX6_qIsOn 2 (some Jvm.ClassFile.FieldType.boolean) 0 0 0 [.ref o, .int (nI v)] (putM M o s) (PQ (putM M o s) (.int (zI (W.head? = some v)))) noX := by
  obtain ⟨r1, r2, r3, r4, r5, r6, r7⟩ := h
  refine Ct.of (by decide) (Nat.le_of_ble_eq_true rfl) rfl ?_
  cases W with
  | nil =>
    have r3 : mF s 104 = nI 0 := r3
    rw [zI_f (by intro q; cases q)]
    refine r_ald0 (pc := 0) dX6_qIsOn_0 ?_
    refine m_getI hS (pc := 1) dX6_qIsOn_1 fl_X6_330 ?_
    refine Bd.eqI r3 ?_
    first | refine r_if_leN (pc := 4) (tgt := 26) dX6_qIsOn_4 (by decide) (by omega) (fun h4 => ?_) (fun h4 => ?_) | refine r_if_le (pc := 4) (tgt := 26) dX6_qIsOn_4 (by decide) (fun h4 => ?_) (fun h4 => ?_)
    · skip
      refine r_iconst (v := nI 0) (pc := 26) dX6_qIsOn_26 (by decide) ?_
      refine r_zret (pc := 27) dX6_qIsOn_27 (by first | rfl | exact zI_nar | assumption) ?_
      exact ⟨rfl, rfl⟩
    · skip
      exact absurd h4 (by omega)
  | cons w W =>
    have hw := r6 w List.mem_cons_self
    have r3 : mF s 104 = nI (W.length + 1) := r3
    have r7 : cs.length + (W.length + 1) ≤ 1601 := r7
    refine r_ald0 (pc := 0) dX6_qIsOn_0 ?_
    refine m_getI hS (pc := 1) dX6_qIsOn_1 fl_X6_330 ?_
    refine Bd.eqI r3 ?_
    first | refine r_if_leN (pc := 4) (tgt := 26) dX6_qIsOn_4 (by decide) (by omega) (fun h4 => ?_) (fun h4 => ?_) | refine r_if_le (pc := 4) (tgt := 26) dX6_qIsOn_4 (by decide) (fun h4 => ?_) (fun h4 => ?_)
    · skip
      exact absurd h4 (by omega)
    · skip
      refine r_ald0 (pc := 7) dX6_qIsOn_7 ?_
      refine m_getR hS (pc := 8) dX6_qIsOn_8 fl_X6_225 ar103 ?_
      refine r_ald0 (pc := 11) dX6_qIsOn_11 ?_
      refine m_getI hS (pc := 12) dX6_qIsOn_12 fl_X6_330 ?_
      refine Bd.eqI r3 ?_
      refine r_iconst (v := nI 1) (pc := 15) dX6_qIsOn_15 (by decide) ?_
      refine r_isubN (pc := 16) dX6_qIsOn_16 (by omega) ?_
      rw [Nat.add_sub_cancel]
      refine m_iald hS (pc := 17) dX6_qIsOn_17 ar103 (by omega) (by omega) ?_
      refine Bd.eqI (r4.1) ?_
      refine r_ild1 (pc := 18) dX6_qIsOn_18 ?_
      first | refine r_icmp_neN (pc := 19) (tgt := 26) dX6_qIsOn_19 (by decide) (by omega) (by omega) (fun h19 => ?_) (fun h19 => ?_) | refine r_icmp_ne (pc := 19) (tgt := 26) dX6_qIsOn_19 (by decide) (fun h19 => ?_) (fun h19 => ?_)
      · skip
        refine r_iconst (v := nI 0) (pc := 26) dX6_qIsOn_26 (by decide) ?_
        refine r_zret (pc := 27) dX6_qIsOn_27 (by first | rfl | exact zI_nar | assumption) ?_
        first | exact ⟨by rw [zI_t (show (w :: W).head? = some v from congrArg some h19)]; rfl, rfl⟩ | exact ⟨by rw [zI_f (show ¬ (w :: W).head? = some v from fun q => h19 (Option.some.inj q))]; rfl, rfl⟩
      · skip
        refine r_iconst (v := nI 1) (pc := 22) dX6_qIsOn_22 (by decide) ?_
        refine r_goto (pc := 23) (tgt := 27) dX6_qIsOn_23 (by decide) ?_
        refine r_zret (pc := 27) dX6_qIsOn_27 (by first | rfl | exact zI_nar | assumption) ?_
        first | exact ⟨by rw [zI_t (show (w :: W).head? = some v from congrArg some h19)]; rfl, rfl⟩ | exact ⟨by rw [zI_f (show ¬ (w :: W).head? = some v from fun q => h19 (Option.some.inj q))]; rfl, rfl⟩
theorem RQ.drop {cs W : List Nat} {op v : Nat} (h : RQ s cs (v :: W) op) : RQ (tF (tA (tF s 104 (nI W.length)) 101 cs.length (nI v)) 102 (nI (cs.length + 1))) (cs ++ [v]) W op := by
  obtain ⟨r1, r2, r3, r4, r5, r6, r7⟩ := h
  have r7 : cs.length + (W.length + 1) ≤ 1601 := r7
  have h' : RQ (tF s 104 (nI W.length)) cs W op := ⟨r1, r2, rfl, r4.2, r5, fun u hu => r6 u (List.mem_cons_of_mem _ hu), by omega⟩
  exact h'.code (by omega)
theorem ct_X6_qDrops {cs W : List Nat} {op v : Nat} (hS : ShM g M o) (h : RQ s cs (v :: W) op) : Ct g yX6_qDrops cX6_qDrops 1 none 1 0 0 [.ref o] (putM M o s) (QM M o (fun r s' => r = none ∧ RQ s' (cs ++ [v]) W op ∧ Fr [102, 104] [] [101] [] s s')) noX := by
  have h0 := h
  obtain ⟨r1, r2, r3, r4, r5, r6, r7⟩ := h
  have r3 : mF s 104 = nI (W.length + 1) := r3
  have r7 : cs.length + (W.length + 1) ≤ 1601 := r7
  refine Ct.of (by decide) (Nat.le_of_ble_eq_true rfl) rfl ?_
  refine r_ald0 (pc := 0) dX6_qDrops_0 ?_
  refine r_dup (pc := 1) dX6_qDrops_1 rfl ?_
  refine m_getI hS (pc := 2) dX6_qDrops_2 fl_X6_330 ?_
  refine Bd.eqI r3 ?_
  refine r_iconst (v := nI 1) (pc := 5) dX6_qDrops_5 (by decide) ?_
  refine r_isubN (pc := 6) dX6_qDrops_6 (by omega) ?_
  rw [Nat.add_sub_cancel]
  refine m_putI hS (pc := 7) dX6_qDrops_7 fl_X6_330 fw_X6_104 rfl rfl ?_
  refine r_ald0 (pc := 10) dX6_qDrops_10 ?_
  refine r_ald0 (pc := 11) dX6_qDrops_11 ?_
  refine m_getR hS (pc := 12) dX6_qDrops_12 fl_X6_225 ar103 ?_
  refine r_ald0 (pc := 15) dX6_qDrops_15 ?_
  refine m_getI hS (pc := 16) dX6_qDrops_16 fl_X6_330 ?_
  refine Bd.eqI (x' := nI W.length) rfl ?_
  refine m_iald hS (pc := 19) dX6_qDrops_19 ar103 (by omega) (by omega) ?_
  refine Bd.eqI (x' := nI v) r4.1 ?_
  refine r_cV (pc := 20) dX6_qDrops_20 cv_X6_599 hS.k (ct_X6_qCodeR (c := cs.length) hS r1 (by omega)) rfl rfl (Nat.le_of_ble_eq_true rfl) (by decide) ?_
  rintro _ _ ⟨rfl, rfl⟩
  refine r_vret (pc := 23) dX6_qDrops_23 ?_
  exact ⟨_, rfl, rfl, h0.drop, Fr.tF (Fr.tA (Fr.tF Fr.rf (by decide)) (by decide)) (by decide)⟩
theorem RQ.push {cs W : List Nat} {op v : Nat} {c : Nat} (h : RQ s cs W op) (hc : c = W.length) (hv : v < 100) (hl : cs.length + (W.length + 1) ≤ 1601) : RQ (tF (tA s 103 c (nI v)) 104 (nI (c + 1))) cs (v :: W) op := by
  obtain ⟨r1, r2, r3, r4, r5, r6, r7⟩ := h
  subst hc
  refine ⟨r1, r2, rfl, ⟨?_, pilN_congr (fun i hi => tA_ne2 (by omega)) r4⟩, r5, fun u hu => ?_, hl⟩
  · show mA (tA s 103 W.length (nI v)) 103 W.length = nI v
    rw [mA_tA, if_pos ⟨rfl, rfl⟩]
  · rcases List.mem_cons.mp hu with e | e
    · rw [e]; exact hv
    · exact r6 u e
theorem ct_X6_qOpens {cs W : List Nat} {op v p : Nat} (hS : ShM g M o) (hb : mF s 5 = nI 0) (h : RQ s cs W op) (hv : v < 100) (hop : op ≤ 6) (hp : p ≤ 1600) (hl : cs.length + (W.length + 1) ≤ 1601) :
    Ct g yX6_qOpens cX6_qOpens 3 none 1 0 0 [.ref o, .int (nI v), .int (nI p)] (putM M o s) (QM M o (fun r s' => r = none ∧ (if op = 6 then BD s' (4, p) ∧ RQ s' cs W op else RQ s' cs (v :: W) (op + 1) ∧ (mF s' 5 = nI 0 ∧ mF s' 6 = mF s 6)) ∧ Fr [5, 6, 104, 105] [] [103] [] s s')) noX := by
  have h0 := h
  obtain ⟨r1, r2, r3, r4, r5, r6, r7⟩ := h
  refine Ct.of (by decide) (Nat.le_of_ble_eq_true rfl) rfl ?_
  by_cases e : op = 6
  · simp only [if_pos e]
    subst e
    refine r_ald0 (pc := 0) dX6_qOpens_0 ?_
    refine m_getI hS (pc := 1) dX6_qOpens_1 fl_X6_237 ?_
    refine Bd.eqI hb ?_
    first | refine r_if_eqZ (pc := 4) (tgt := 8) dX6_qOpens_4 (by decide) (fun h4 => ?_) (fun h4 => ?_) | refine r_if_eqN (pc := 4) (tgt := 8) dX6_qOpens_4 (by decide) (by omega) (fun h4 => ?_) (fun h4 => ?_) | refine r_if_eq (pc := 4) (tgt := 8) dX6_qOpens_4 (by decide) (fun h4 => ?_) (fun h4 => ?_)
    · skip
      refine r_ald0 (pc := 8) dX6_qOpens_8 ?_
      refine m_getI hS (pc := 9) dX6_qOpens_9 fl_X6_333 ?_
      refine Bd.eqI r5 ?_
      refine r_bipush (v := nI 6) (pc := 12) dX6_qOpens_12 (by decide) ?_
      first | refine r_icmp_neN (pc := 14) (tgt := 24) dX6_qOpens_14 (by decide) (by omega) (by omega) (fun h14 => ?_) (fun h14 => ?_) | refine r_icmp_ne (pc := 14) (tgt := 24) dX6_qOpens_14 (by decide) (fun h14 => ?_) (fun h14 => ?_)
      · skip
        exact absurd rfl h14
      · skip
        refine r_ald0 (pc := 17) dX6_qOpens_17 ?_
        refine r_iconst (v := nI 4) (pc := 18) dX6_qOpens_18 (by decide) ?_
        refine r_ild2 (pc := 19) dX6_qOpens_19 ?_
        refine r_cV (pc := 20) dX6_qOpens_20 cv_X6_267 hS.k (ct_X6_failP hS hb (by decide) hp) rfl rfl (Nat.le_of_ble_eq_true rfl) (by decide) ?_
        rintro _ _ ⟨s2, rfl, rfl, hB, hf2⟩
        refine r_vret (pc := 23) dX6_qOpens_23 ?_
        exact ⟨_, rfl, rfl, ⟨hB, h0.fr hf2 (by decide) (by decide)⟩, hf2.mono (by decide) (by decide) (by decide) (by decide)⟩
    · skip
      exact absurd rfl h4
  · simp only [if_neg e]
    have h2 : RQ (tF s 105 (nI (op + 1))) cs W (op + 1) := ⟨r1, r2, r3, r4, rfl, r6, r7⟩
    refine r_ald0 (pc := 0) dX6_qOpens_0 ?_
    refine m_getI hS (pc := 1) dX6_qOpens_1 fl_X6_237 ?_
    refine Bd.eqI hb ?_
    first | refine r_if_eqZ (pc := 4) (tgt := 8) dX6_qOpens_4 (by decide) (fun h4 => ?_) (fun h4 => ?_) | refine r_if_eqN (pc := 4) (tgt := 8) dX6_qOpens_4 (by decide) (by omega) (fun h4 => ?_) (fun h4 => ?_) | refine r_if_eq (pc := 4) (tgt := 8) dX6_qOpens_4 (by decide) (fun h4 => ?_) (fun h4 => ?_)
    · skip
      refine r_ald0 (pc := 8) dX6_qOpens_8 ?_
      refine m_getI hS (pc := 9) dX6_qOpens_9 fl_X6_333 ?_
      refine Bd.eqI r5 ?_
      refine r_bipush (v := nI 6) (pc := 12) dX6_qOpens_12 (by decide) ?_
      first | refine r_icmp_neN (pc := 14) (tgt := 24) dX6_qOpens_14 (by decide) (by omega) (by omega) (fun h14 => ?_) (fun h14 => ?_) | refine r_icmp_ne (pc := 14) (tgt := 24) dX6_qOpens_14 (by decide) (fun h14 => ?_) (fun h14 => ?_)
      · skip
        refine r_ald0 (pc := 24) dX6_qOpens_24 ?_
        refine r_dup (pc := 25) dX6_qOpens_25 rfl ?_
        refine m_getI hS (pc := 26) dX6_qOpens_26 fl_X6_333 ?_
        refine Bd.eqI r5 ?_
        refine r_iconst (v := nI 1) (pc := 29) dX6_qOpens_29 (by decide) ?_
        first | refine r_iaddN (pc := 30) dX6_qOpens_30 ?_ | refine r_iaddJ (pc := 30) dX6_qOpens_30 ?_ | refine r_iadd (pc := 30) dX6_qOpens_30 ?_
        refine m_putI hS (pc := 31) dX6_qOpens_31 fl_X6_333 fw_X6_105 rfl rfl ?_
        refine r_ald0 (pc := 34) dX6_qOpens_34 ?_
        refine m_getR hS (pc := 35) dX6_qOpens_35 fl_X6_225 ar103 ?_
        refine r_ald0 (pc := 38) dX6_qOpens_38 ?_
        refine m_getI hS (pc := 39) dX6_qOpens_39 fl_X6_330 ?_
        refine Bd.eqI (x' := nI W.length) r3 ?_
        refine r_ild1 (pc := 42) dX6_qOpens_42 ?_
        refine m_iast hS (pc := 43) dX6_qOpens_43 ar103 (by omega) (by omega) ?_
        refine r_ald0 (pc := 44) dX6_qOpens_44 ?_
        refine r_dup (pc := 45) dX6_qOpens_45 rfl ?_
        refine m_getI hS (pc := 46) dX6_qOpens_46 fl_X6_330 ?_
        refine Bd.eqI (x' := nI W.length) r3 ?_
        refine r_iconst (v := nI 1) (pc := 49) dX6_qOpens_49 (by decide) ?_
        first | refine r_iaddN (pc := 50) dX6_qOpens_50 ?_ | refine r_iaddJ (pc := 50) dX6_qOpens_50 ?_ | refine r_iadd (pc := 50) dX6_qOpens_50 ?_
        refine m_putI hS (pc := 51) dX6_qOpens_51 fl_X6_330 fw_X6_104 rfl rfl ?_
        refine r_vret (pc := 54) dX6_qOpens_54 ?_
        exact ⟨_, rfl, rfl, ⟨h2.push rfl hv hl, hb, rfl⟩, Fr.tF (Fr.tA (Fr.tF Fr.rf (by decide)) (by decide)) (by decide)⟩
      · skip
        exact absurd h14 e
    · skip
      exact absurd rfl h4
theorem ct_X6_qOpensB {v p : Int32} (hS : ShM g M o) (hb : mF s 5 ≠ nI 0) : Ct g yX6_qOpens cX6_qOpens 3 none 1 0 0 [.ref o, .int v, .int p] (putM M o s) (VQ (putM M o s)) noX := by
  refine Ct.of (by decide) (Nat.le_of_ble_eq_true rfl) rfl ?_
  refine r_ald0 (pc := 0) dX6_qOpens_0 ?_
  refine m_getI hS (pc := 1) dX6_qOpens_1 fl_X6_237 ?_
  refine r_if_eq (pc := 4) (tgt := 8) dX6_qOpens_4 (by decide) (fun h4 => ?_) (fun h4 => ?_)
  · skip
    exact absurd h4 hb
  · skip
    refine r_vret (pc := 7) dX6_qOpens_7 ?_
    exact ⟨rfl, rfl⟩
theorem ct_X6_qIsBracket {v : Nat} (hv : v < 100) : Ct g yX6_qIsBracket cX6_qIsBracket 1 (some Jvm.ClassFile.FieldType.boolean) 0 0 0 [.int (nI v)] M1 (PQ M1 (.int (zI (isBr v = true)))) noX := by
  refine Ct.of (by decide) (Nat.le_of_ble_eq_true rfl) rfl ?_
  unfold isBr
  refine r_ild0 (pc := 0) dX6_qIsBracket_0 ?_
  refine r_bipush (v := nI 20) (pc := 1) dX6_qIsBracket_1 (by decide) ?_
  first | refine r_icmp_ltN (pc := 3) (tgt := 16) dX6_qIsBracket_3 (by decide) (by omega) (by omega) (fun h3 => ?_) (fun h3 => ?_) | refine r_icmp_lt (pc := 3) (tgt := 16) dX6_qIsBracket_3 (by decide) (fun h3 => ?_) (fun h3 => ?_)
  · skip
    rw [decide_eq_false (by omega : ¬ 20 ≤ v), Bool.false_and]
    refine r_iconst (v := nI 0) (pc := 16) dX6_qIsBracket_16 (by decide) ?_
    refine r_zret (pc := 17) dX6_qIsBracket_17 (by first | rfl | exact zI_nar | assumption) ?_
    exact ⟨rfl, rfl⟩
  · skip
    rw [decide_eq_true (by omega : 20 ≤ v), Bool.true_and]
    refine r_ild0 (pc := 6) dX6_qIsBracket_6 ?_
    refine r_bipush (v := nI 24) (pc := 7) dX6_qIsBracket_7 (by decide) ?_
    first | refine r_icmp_gtN (pc := 9) (tgt := 16) dX6_qIsBracket_9 (by decide) (by omega) (by omega) (fun h9 => ?_) (fun h9 => ?_) | refine r_icmp_gt (pc := 9) (tgt := 16) dX6_qIsBracket_9 (by decide) (fun h9 => ?_) (fun h9 => ?_)
    · skip
      rw [decide_eq_false (by omega : ¬ v ≤ 24)]
      refine r_iconst (v := nI 0) (pc := 16) dX6_qIsBracket_16 (by decide) ?_
      refine r_zret (pc := 17) dX6_qIsBracket_17 (by first | rfl | exact zI_nar | assumption) ?_
      exact ⟨rfl, rfl⟩
    · skip
      rw [decide_eq_true (by omega : v ≤ 24)]
      refine r_iconst (v := nI 1) (pc := 12) dX6_qIsBracket_12 (by decide) ?_
      refine r_goto (pc := 13) (tgt := 17) dX6_qIsBracket_13 (by decide) ?_
      refine r_zret (pc := 17) dX6_qIsBracket_17 (by first | rfl | exact zI_nar | assumption) ?_
      exact ⟨rfl, rfl⟩
/-- one less than a number of things, as an int -/
def kI : Nat → Int32
  | 0 => -1
  | m + 1 => nI m
theorem kI_sub (m : Nat) : nI m - nI 1 = kI m := by
  cases m with
  | zero => decide
  | succ m => exact pk_sub (by omega)
theorem kI_dec (m : Nat) : nI m + Int32.ofInt (-1) = kI m := by
  cases m with
  | zero => decide
  | succ m => exact iinc_m1 m
theorem kI_lt {m e : Nat} (hm : m ≤ 5000) (he : e ≤ 5000) : kI m < nI e ↔ m ≤ e := by
  cases m with
  | zero =>
    refine ⟨fun _ => Nat.zero_le _, fun _ => ?_⟩
    show (-1 : Int32) < nI e
    rw [Int32.lt_iff_toInt_lt, nI_toInt (by omega)]
    have : (-1 : Int32).toInt = -1 := by decide
    omega
  | succ m => exact nI_ltI (by omega) (by omega)
theorem brk_none {P : List Nat} (h : ∀ v ∈ P, gB v = true) : brk P = none := by
  have := popW_app (V := []) h
  rw [List.append_nil] at this
  unfold brk; rw [this]; rfl
theorem brk_at {P U : List Nat} {v : Nat} (h : ∀ v ∈ P, gB v = true) (hv : isBr v = true) : brk (P ++ v :: U) = some v := by
  unfold brk; rw [popW_app h]
  show (popW gB (v :: U)).2.head? = some v
  unfold popW; rw [if_neg (by unfold gB; rw [hv]; simp)]; rfl
theorem qBracketLoop {cs V B : List Nat} {op : Nat} (hS : ShM g M o) (h : RQ s cs (V ++ B) op) (hb : mF s 106 = nI B.length) :
    ∀ (U P : List Nat), V = P ++ U → (∀ v ∈ P, gB v = true) → Bd g yX6_qBracket cX6_qBracket 2 (some Jvm.ClassFile.FieldType.int) [] 1 0 0 (putM M o s) 7 [some (.ref o), some (.int (kI (U.length + B.length)))] [] (PQ (putM M o s) (.int (oI (brk V)))) noX := by
  obtain ⟨r1, r2, r3, r4, r5, r6, r7⟩ := h
  rw [List.length_append] at r7
  intro U
  induction U with
  | nil =>
    intro P hV hP
    have hV2 : V = P := by rw [hV, List.append_nil]
    rw [hV2, brk_none hP]
    show Bd g yX6_qBracket cX6_qBracket 2 (some Jvm.ClassFile.FieldType.int) [] 1 0 0 (putM M o s) 7 [some (.ref o), some (.int (kI (0 + B.length)))] [] (PQ (putM M o s) (.int (oI none))) noX
    rw [Nat.zero_add]
    refine r_ild1 (pc := 7) dX6_qBracket_7 ?_
    refine r_ald0 (pc := 8) dX6_qBracket_8 ?_
    refine m_getI hS (pc := 9) dX6_qBracket_9 fl_X6_336 ?_
    refine Bd.eqI hb ?_
    refine r_icmp_lt (pc := 12) (tgt := 33) dX6_qBracket_12 (by decide) (fun h12 => ?_) (fun h12 => ?_)
    · skip
      refine r_ild1 (pc := 33) dX6_qBracket_33 ?_
      refine r_ald0 (pc := 34) dX6_qBracket_34 ?_
      refine m_getI hS (pc := 35) dX6_qBracket_35 fl_X6_336 ?_
      refine Bd.eqI hb ?_
      refine r_icmp_lt (pc := 38) (tgt := 50) dX6_qBracket_38 (by decide) (fun h38 => ?_) (fun h38 => ?_)
      · skip
        refine r_iconst (v := -1) (pc := 50) dX6_qBracket_50 (by decide) ?_
        refine r_iret (pc := 51) dX6_qBracket_51 ?_
        exact ⟨rfl, rfl⟩
      · skip
        exact absurd h12 h38
    · skip
      exact absurd ((kI_lt (by omega) (by omega)).mpr (Nat.le_refl _)) h12
  | cons v U ih =>
    intro P hV hP
    have hv : v < 100 := r6 v (by rw [hV]; simp)
    have hlen : V.length = P.length + (U.length + 1) := by rw [hV, List.length_append]; rfl
    have hat : mA s 103 (U ++ B).length = nI v := by
      refine pilN_at (P := P) ?_
      rw [hV] at r4
      simpa using r4
    rw [List.length_append] at hat
    show Bd g yX6_qBracket cX6_qBracket 2 (some Jvm.ClassFile.FieldType.int) [] 1 0 0 (putM M o s) 7 [some (.ref o), some (.int (kI (U.length + 1 + B.length)))] [] (PQ (putM M o s) (.int (oI (brk V)))) noX
    rw [show U.length + 1 + B.length = (U.length + B.length) + 1 by omega]
    show Bd g yX6_qBracket cX6_qBracket 2 (some Jvm.ClassFile.FieldType.int) [] 1 0 0 (putM M o s) 7 [some (.ref o), some (.int (nI (U.length + B.length)))] [] (PQ (putM M o s) (.int (oI (brk V)))) noX
    by_cases hbr : isBr v = true
    · rw [show brk V = some v by rw [hV]; exact brk_at hP hbr]
      refine r_ild1 (pc := 7) dX6_qBracket_7 ?_
      refine r_ald0 (pc := 8) dX6_qBracket_8 ?_
      refine m_getI hS (pc := 9) dX6_qBracket_9 fl_X6_336 ?_
      refine Bd.eqI hb ?_
      first | refine r_icmp_ltN (pc := 12) (tgt := 33) dX6_qBracket_12 (by decide) (by omega) (by omega) (fun h12 => ?_) (fun h12 => ?_) | refine r_icmp_lt (pc := 12) (tgt := 33) dX6_qBracket_12 (by decide) (fun h12 => ?_) (fun h12 => ?_)
      · skip
        exact absurd h12 (by omega)
      · skip
        refine r_ald0 (pc := 15) dX6_qBracket_15 ?_
        refine m_getR hS (pc := 16) dX6_qBracket_16 fl_X6_225 ar103 ?_
        refine r_ild1 (pc := 19) dX6_qBracket_19 ?_
        refine m_iald hS (pc := 20) dX6_qBracket_20 ar103 (by omega) (by omega) ?_
        refine Bd.eqI hat ?_
        refine r_cS (pc := 21) dX6_qBracket_21 cs_X6_602 (ct_X6_qIsBracket hv) rfl rfl (Nat.le_of_ble_eq_true rfl) (by decide) ?_
        rintro _ _ ⟨rfl, rfl⟩
        first | refine r_if_neZ (pc := 24) (tgt := 33) dX6_qBracket_24 (by decide) (fun h24 => ?_) (fun h24 => ?_) | refine r_if_neN (pc := 24) (tgt := 33) dX6_qBracket_24 (by decide) (by omega) (fun h24 => ?_) (fun h24 => ?_) | refine r_if_ne (pc := 24) (tgt := 33) dX6_qBracket_24 (by decide) (fun h24 => ?_) (fun h24 => ?_)
        · skip
          refine r_ild1 (pc := 33) dX6_qBracket_33 ?_
          refine r_ald0 (pc := 34) dX6_qBracket_34 ?_
          refine m_getI hS (pc := 35) dX6_qBracket_35 fl_X6_336 ?_
          refine Bd.eqI hb ?_
          first | refine r_icmp_ltN (pc := 38) (tgt := 50) dX6_qBracket_38 (by decide) (by omega) (by omega) (fun h38 => ?_) (fun h38 => ?_) | refine r_icmp_lt (pc := 38) (tgt := 50) dX6_qBracket_38 (by decide) (fun h38 => ?_) (fun h38 => ?_)
          · skip
            exact absurd h38 (by omega)
          · skip
            refine r_ald0 (pc := 41) dX6_qBracket_41 ?_
            refine m_getR hS (pc := 42) dX6_qBracket_42 fl_X6_225 ar103 ?_
            refine r_ild1 (pc := 45) dX6_qBracket_45 ?_
            refine m_iald hS (pc := 46) dX6_qBracket_46 ar103 (by omega) (by omega) ?_
            refine Bd.eqI hat ?_
            refine r_goto (pc := 47) (tgt := 51) dX6_qBracket_47 (by decide) ?_
            refine r_iret (pc := 51) dX6_qBracket_51 ?_
            exact ⟨rfl, rfl⟩
        · skip
          exact absurd hbr h24
    · have hP2 : ∀ u ∈ P ++ [v], gB u = true := fun u hu => by
        rcases List.mem_append.mp hu with e | e
        · exact hP u e
        · rw [List.mem_singleton.mp e]; unfold gB; simp [hbr]
      have hih := ih (P ++ [v]) (by rw [hV]; simp) hP2
      refine r_ild1 (pc := 7) dX6_qBracket_7 ?_
      refine r_ald0 (pc := 8) dX6_qBracket_8 ?_
      refine m_getI hS (pc := 9) dX6_qBracket_9 fl_X6_336 ?_
      refine Bd.eqI hb ?_
      first | refine r_icmp_ltN (pc := 12) (tgt := 33) dX6_qBracket_12 (by decide) (by omega) (by omega) (fun h12 => ?_) (fun h12 => ?_) | refine r_icmp_lt (pc := 12) (tgt := 33) dX6_qBracket_12 (by decide) (fun h12 => ?_) (fun h12 => ?_)
      · skip
        exact absurd h12 (by omega)
      · skip
        refine r_ald0 (pc := 15) dX6_qBracket_15 ?_
        refine m_getR hS (pc := 16) dX6_qBracket_16 fl_X6_225 ar103 ?_
        refine r_ild1 (pc := 19) dX6_qBracket_19 ?_
        refine m_iald hS (pc := 20) dX6_qBracket_20 ar103 (by omega) (by omega) ?_
        refine Bd.eqI hat ?_
        refine r_cS (pc := 21) dX6_qBracket_21 cs_X6_602 (ct_X6_qIsBracket hv) rfl rfl (Nat.le_of_ble_eq_true rfl) (by decide) ?_
        rintro _ _ ⟨rfl, rfl⟩
        first | refine r_if_neZ (pc := 24) (tgt := 33) dX6_qBracket_24 (by decide) (fun h24 => ?_) (fun h24 => ?_) | refine r_if_neN (pc := 24) (tgt := 33) dX6_qBracket_24 (by decide) (by omega) (fun h24 => ?_) (fun h24 => ?_) | refine r_if_ne (pc := 24) (tgt := 33) dX6_qBracket_24 (by decide) (fun h24 => ?_) (fun h24 => ?_)
        · skip
          exact absurd h24 hbr
        · skip
          refine r_iinc1 (pc := 27) dX6_qBracket_27 ?_
          rw [kI_dec]
          refine r_goto (pc := 30) (tgt := 7) dX6_qBracket_30 (by decide) ?_
          exact hih
theorem ct_X6_qBracket {cs V B : List Nat} {op : Nat} (hS : ShM g M o) (h : RQ s cs (V ++ B) op) (hb : mF s 106 = nI B.length) :
    Ct g yX6_qBracket cX6_qBracket 2 (some Jvm.ClassFile.FieldType.int) 1 0 0 [.ref o] (putM M o s) (PQ (putM M o s) (.int (oI (brk V)))) noX := by
  have hl := qBracketLoop hS h hb V [] rfl (fun v h => nomatch h)
  have h3 := h.2.2.1
  rw [List.length_append] at h3
  refine Ct.of (by decide) (Nat.le_of_ble_eq_true rfl) rfl ?_
  refine r_ald0 (pc := 0) dX6_qBracket_0 ?_
  refine m_getI hS (pc := 1) dX6_qBracket_1 fl_X6_330 ?_
  refine Bd.eqI h3 ?_
  refine r_iconst (v := nI 1) (pc := 4) dX6_qBracket_4 (by decide) ?_
  refine r_isub (pc := 5) dX6_qBracket_5 ?_
  rw [kI_sub]
  refine r_ist1 (pc := 6) dX6_qBracket_6 ?_
  exact hl
theorem qDTBLoop {B : List Nat} {op : Nat} (hS : ShM g M o) :
    ∀ (V cs : List Nat) (s1 : MS), RQ s1 cs (V ++ B) op → mF s1 106 = nI B.length → Fr [102, 104] [] [101] [] s s1 → Bd g yX6_qDropsToBracket cX6_qDropsToBracket 1 none [] 2 0 0 (putM M o s1) 0 [some (.ref o)] [] (QM M o (fun r s' => r = none ∧ RQ s' (cs ++ (popW gB V).1) ((popW gB V).2 ++ B) op ∧ Fr [102, 104] [] [101] [] s s')) noX := by
  intro V
  induction V with
  | nil =>
    intro cs s1 h hb hf
    rw [show cs ++ (popW gB []).1 = cs from List.append_nil cs]
    have h3 : mF s1 104 = nI B.length := h.2.2.1
    have h7 := h.2.2.2.2.2.2
    have h7 : cs.length + B.length ≤ 1601 := h7
    refine r_ald0 (pc := 0) dX6_qDropsToBracket_0 ?_
    refine m_getI hS (pc := 1) dX6_qDropsToBracket_1 fl_X6_330 ?_
    refine Bd.eqI h3 ?_
    refine r_ald0 (pc := 4) dX6_qDropsToBracket_4 ?_
    refine m_getI hS (pc := 5) dX6_qDropsToBracket_5 fl_X6_336 ?_
    refine Bd.eqI hb ?_
    first | refine r_icmp_leN (pc := 8) (tgt := 35) dX6_qDropsToBracket_8 (by decide) (by omega) (by omega) (fun h8 => ?_) (fun h8 => ?_) | refine r_icmp_le (pc := 8) (tgt := 35) dX6_qDropsToBracket_8 (by decide) (fun h8 => ?_) (fun h8 => ?_)
    · skip
      refine r_vret (pc := 35) dX6_qDropsToBracket_35 ?_
      exact ⟨_, rfl, rfl, h, hf⟩
    · skip
      exact absurd h8 (by omega)
  | cons v V ih =>
    intro cs s1 h hb hf
    have hv : v < 100 := h.2.2.2.2.2.1 v (by simp)
    have h3 : mF s1 104 = nI ((V ++ B).length + 1) := h.2.2.1
    have h4 : mA s1 103 (V ++ B).length = nI v := h.2.2.2.1.1
    have h7 : cs.length + ((V ++ B).length + 1) ≤ 1601 := h.2.2.2.2.2.2
    rw [List.length_append] at h3 h4 h7
    by_cases hbr : isBr v = true
    · rw [show popW gB (v :: V) = ([], v :: V) from if_neg (by unfold gB; rw [hbr]; simp), List.append_nil]
      refine r_ald0 (pc := 0) dX6_qDropsToBracket_0 ?_
      refine m_getI hS (pc := 1) dX6_qDropsToBracket_1 fl_X6_330 ?_
      refine Bd.eqI h3 ?_
      refine r_ald0 (pc := 4) dX6_qDropsToBracket_4 ?_
      refine m_getI hS (pc := 5) dX6_qDropsToBracket_5 fl_X6_336 ?_
      refine Bd.eqI hb ?_
      first | refine r_icmp_leN (pc := 8) (tgt := 35) dX6_qDropsToBracket_8 (by decide) (by omega) (by omega) (fun h8 => ?_) (fun h8 => ?_) | refine r_icmp_le (pc := 8) (tgt := 35) dX6_qDropsToBracket_8 (by decide) (fun h8 => ?_) (fun h8 => ?_)
      · skip
        exact absurd h8 (by omega)
      · skip
        refine r_ald0 (pc := 11) dX6_qDropsToBracket_11 ?_
        refine m_getR hS (pc := 12) dX6_qDropsToBracket_12 fl_X6_225 ar103 ?_
        refine r_ald0 (pc := 15) dX6_qDropsToBracket_15 ?_
        refine m_getI hS (pc := 16) dX6_qDropsToBracket_16 fl_X6_330 ?_
        refine Bd.eqI h3 ?_
        refine r_iconst (v := nI 1) (pc := 19) dX6_qDropsToBracket_19 (by decide) ?_
        refine r_isubN (pc := 20) dX6_qDropsToBracket_20 (by omega) ?_
        rw [Nat.add_sub_cancel]
        refine m_iald hS (pc := 21) dX6_qDropsToBracket_21 ar103 (by omega) (by omega) ?_
        refine Bd.eqI h4 ?_
        refine r_cS (pc := 22) dX6_qDropsToBracket_22 cs_X6_602 (ct_X6_qIsBracket hv) rfl rfl (Nat.le_of_ble_eq_true rfl) (by decide) ?_
        rintro _ _ ⟨rfl, rfl⟩
        first | refine r_if_neZ (pc := 25) (tgt := 35) dX6_qDropsToBracket_25 (by decide) (fun h25 => ?_) (fun h25 => ?_) | refine r_if_neN (pc := 25) (tgt := 35) dX6_qDropsToBracket_25 (by decide) (by omega) (fun h25 => ?_) (fun h25 => ?_) | refine r_if_ne (pc := 25) (tgt := 35) dX6_qDropsToBracket_25 (by decide) (fun h25 => ?_) (fun h25 => ?_)
        · skip
          refine r_vret (pc := 35) dX6_qDropsToBracket_35 ?_
          exact ⟨_, rfl, rfl, h, hf⟩
        · skip
          exact absurd hbr h25
    · rw [show popW gB (v :: V) = (v :: (popW gB V).1, (popW gB V).2) from if_pos (by unfold gB; simp [hbr])]
      refine r_ald0 (pc := 0) dX6_qDropsToBracket_0 ?_
      refine m_getI hS (pc := 1) dX6_qDropsToBracket_1 fl_X6_330 ?_
      refine Bd.eqI h3 ?_
      refine r_ald0 (pc := 4) dX6_qDropsToBracket_4 ?_
      refine m_getI hS (pc := 5) dX6_qDropsToBracket_5 fl_X6_336 ?_
      refine Bd.eqI hb ?_
      first | refine r_icmp_leN (pc := 8) (tgt := 35) dX6_qDropsToBracket_8 (by decide) (by omega) (by omega) (fun h8 => ?_) (fun h8 => ?_) | refine r_icmp_le (pc := 8) (tgt := 35) dX6_qDropsToBracket_8 (by decide) (fun h8 => ?_) (fun h8 => ?_)
      · skip
        exact absurd h8 (by omega)
      · skip
        refine r_ald0 (pc := 11) dX6_qDropsToBracket_11 ?_
        refine m_getR hS (pc := 12) dX6_qDropsToBracket_12 fl_X6_225 ar103 ?_
        refine r_ald0 (pc := 15) dX6_qDropsToBracket_15 ?_
        refine m_getI hS (pc := 16) dX6_qDropsToBracket_16 fl_X6_330 ?_
        refine Bd.eqI h3 ?_
        refine r_iconst (v := nI 1) (pc := 19) dX6_qDropsToBracket_19 (by decide) ?_
        refine r_isubN (pc := 20) dX6_qDropsToBracket_20 (by omega) ?_
        rw [Nat.add_sub_cancel]
        refine m_iald hS (pc := 21) dX6_qDropsToBracket_21 ar103 (by omega) (by omega) ?_
        refine Bd.eqI h4 ?_
        refine r_cS (pc := 22) dX6_qDropsToBracket_22 cs_X6_602 (ct_X6_qIsBracket hv) rfl rfl (Nat.le_of_ble_eq_true rfl) (by decide) ?_
        rintro _ _ ⟨rfl, rfl⟩
        first | refine r_if_neZ (pc := 25) (tgt := 35) dX6_qDropsToBracket_25 (by decide) (fun h25 => ?_) (fun h25 => ?_) | refine r_if_neN (pc := 25) (tgt := 35) dX6_qDropsToBracket_25 (by decide) (by omega) (fun h25 => ?_) (fun h25 => ?_) | refine r_if_ne (pc := 25) (tgt := 35) dX6_qDropsToBracket_25 (by decide) (fun h25 => ?_) (fun h25 => ?_)
        · skip
          exact absurd h25 hbr
        · skip
          refine r_ald0 (pc := 28) dX6_qDropsToBracket_28 ?_
          refine r_cV (pc := 29) dX6_qDropsToBracket_29 cv_X6_605 hS.k (ct_X6_qDrops hS h) rfl rfl (Nat.le_of_ble_eq_true rfl) (by decide) ?_
          rintro _ _ ⟨s2, rfl, rfl, h2, hf2⟩
          refine r_goto (pc := 32) (tgt := 0) dX6_qDropsToBracket_32 (by decide) ?_
          have hih := ih (cs ++ [v]) s2 h2 ((hf2.1 106 (by decide)).trans hb) (hf.trans hf2)
          rw [List.append_assoc] at hih
          exact hih
theorem ct_X6_qDropsToBracket {cs V B : List Nat} {op : Nat} (hS : ShM g M o) (h : RQ s cs (V ++ B) op) (hb : mF s 106 = nI B.length) :
    Ct g yX6_qDropsToBracket cX6_qDropsToBracket 1 none 2 0 0 [.ref o] (putM M o s) (QM M o (fun r s' => r = none ∧ RQ s' (cs ++ (popW gB V).1) ((popW gB V).2 ++ B) op ∧ Fr [102, 104] [] [101] [] s s')) noX := by
  refine Ct.of (by decide) (Nat.le_of_ble_eq_true rfl) rfl ?_
  exact qDTBLoop hS V cs s h hb Fr.rf
theorem qEPLoop {B : List Nat} (hS : ShM g M o) :
    ∀ (V cs : List Nat) (op : Nat) (s1 : MS), RQ s1 cs (V ++ B) op → mF s1 106 = nI B.length → mF s1 5 = nI 0 → (popW gO V).1.length ≤ op → op ≤ 6 → Fr [102, 104, 105] [] [101] [] s s1 → Bd g yX6_qEndsPart cX6_qEndsPart 1 none [] 2 0 0 (putM M o s1) 0 [some (.ref o)] [] (QM M o (fun r s' => r = none ∧ RQ s' (cs ++ (popW gO V).1) ((popW gO V).2 ++ B) (op - (popW gO V).1.length) ∧ Fr [102, 104, 105] [] [101] [] s s')) noX := by
  intro V
  induction V with
  | nil =>
    intro cs op s1 h hb h5 hop hop6 hf
    rw [show cs ++ (popW gO []).1 = cs from List.append_nil cs]
    have k3 : mF s1 104 = nI B.length := h.2.2.1
    have k7 : cs.length + B.length ≤ 1601 := h.2.2.2.2.2.2
    refine r_ald0 (pc := 0) dX6_qEndsPart_0 ?_
    refine m_getI hS (pc := 1) dX6_qEndsPart_1 fl_X6_237 ?_
    refine Bd.eqI h5 ?_
    first | refine r_if_neZ (pc := 4) (tgt := 51) dX6_qEndsPart_4 (by decide) (fun h4 => ?_) (fun h4 => ?_) | refine r_if_neN (pc := 4) (tgt := 51) dX6_qEndsPart_4 (by decide) (by omega) (fun h4 => ?_) (fun h4 => ?_) | refine r_if_ne (pc := 4) (tgt := 51) dX6_qEndsPart_4 (by decide) (fun h4 => ?_) (fun h4 => ?_)
    · skip
      exact absurd rfl h4
    · skip
      refine r_ald0 (pc := 7) dX6_qEndsPart_7 ?_
      refine m_getI hS (pc := 8) dX6_qEndsPart_8 fl_X6_330 ?_
      refine Bd.eqI k3 ?_
      refine r_ald0 (pc := 11) dX6_qEndsPart_11 ?_
      refine m_getI hS (pc := 12) dX6_qEndsPart_12 fl_X6_336 ?_
      refine Bd.eqI hb ?_
      first | refine r_icmp_leN (pc := 15) (tgt := 51) dX6_qEndsPart_15 (by decide) (by omega) (by omega) (fun h15 => ?_) (fun h15 => ?_) | refine r_icmp_le (pc := 15) (tgt := 51) dX6_qEndsPart_15 (by decide) (fun h15 => ?_) (fun h15 => ?_)
      · skip
        refine r_vret (pc := 51) dX6_qEndsPart_51 ?_
        exact ⟨_, rfl, rfl, h, hf⟩
      · skip
        exact absurd h15 (by omega)
  | cons v V ih =>
    intro cs op s1 h hb h5 hop hop6 hf
    have hv : v < 100 := h.2.2.2.2.2.1 v (by simp)
    have k3 : mF s1 104 = nI ((V ++ B).length + 1) := h.2.2.1
    have k4 : mA s1 103 (V ++ B).length = nI v := h.2.2.2.1.1
    have k7 : cs.length + ((V ++ B).length + 1) ≤ 1601 := h.2.2.2.2.2.2
    rw [List.length_append] at k3 k4 k7
    by_cases hbr : 60 ≤ v
    · rw [show popW gO (v :: V) = (v :: (popW gO V).1, (popW gO V).2) from if_pos (by unfold gO; simp [hbr])] at hop ⊢
      have hop : (popW gO V).1.length + 1 ≤ op := hop
      have hQ2 : RQ (tF s1 105 (nI (op - 1))) cs (v :: (V ++ B)) (op - 1) := ⟨h.1, h.2.1, h.2.2.1, h.2.2.2.1, rfl, h.2.2.2.2.2.1, h.2.2.2.2.2.2⟩
      refine r_ald0 (pc := 0) dX6_qEndsPart_0 ?_
      refine m_getI hS (pc := 1) dX6_qEndsPart_1 fl_X6_237 ?_
      refine Bd.eqI h5 ?_
      first | refine r_if_neZ (pc := 4) (tgt := 51) dX6_qEndsPart_4 (by decide) (fun h4 => ?_) (fun h4 => ?_) | refine r_if_neN (pc := 4) (tgt := 51) dX6_qEndsPart_4 (by decide) (by omega) (fun h4 => ?_) (fun h4 => ?_) | refine r_if_ne (pc := 4) (tgt := 51) dX6_qEndsPart_4 (by decide) (fun h4 => ?_) (fun h4 => ?_)
      · skip
        exact absurd rfl h4
      · skip
        refine r_ald0 (pc := 7) dX6_qEndsPart_7 ?_
        refine m_getI hS (pc := 8) dX6_qEndsPart_8 fl_X6_330 ?_
        refine Bd.eqI k3 ?_
        refine r_ald0 (pc := 11) dX6_qEndsPart_11 ?_
        refine m_getI hS (pc := 12) dX6_qEndsPart_12 fl_X6_336 ?_
        refine Bd.eqI hb ?_
        first | refine r_icmp_leN (pc := 15) (tgt := 51) dX6_qEndsPart_15 (by decide) (by omega) (by omega) (fun h15 => ?_) (fun h15 => ?_) | refine r_icmp_le (pc := 15) (tgt := 51) dX6_qEndsPart_15 (by decide) (fun h15 => ?_) (fun h15 => ?_)
        · skip
          exact absurd h15 (by omega)
        · skip
          refine r_ald0 (pc := 18) dX6_qEndsPart_18 ?_
          refine m_getR hS (pc := 19) dX6_qEndsPart_19 fl_X6_225 ar103 ?_
          refine r_ald0 (pc := 22) dX6_qEndsPart_22 ?_
          refine m_getI hS (pc := 23) dX6_qEndsPart_23 fl_X6_330 ?_
          refine Bd.eqI k3 ?_
          refine r_iconst (v := nI 1) (pc := 26) dX6_qEndsPart_26 (by decide) ?_
          refine r_isubN (pc := 27) dX6_qEndsPart_27 (by omega) ?_
          rw [Nat.add_sub_cancel]
          refine m_iald hS (pc := 28) dX6_qEndsPart_28 ar103 (by omega) (by omega) ?_
          refine Bd.eqI k4 ?_
          refine r_bipush (v := nI 60) (pc := 29) dX6_qEndsPart_29 (by decide) ?_
          first | refine r_icmp_ltN (pc := 31) (tgt := 51) dX6_qEndsPart_31 (by decide) (by omega) (by omega) (fun h31 => ?_) (fun h31 => ?_) | refine r_icmp_lt (pc := 31) (tgt := 51) dX6_qEndsPart_31 (by decide) (fun h31 => ?_) (fun h31 => ?_)
          · skip
            exact absurd h31 (by omega)
          · skip
            refine r_ald0 (pc := 34) dX6_qEndsPart_34 ?_
            refine r_dup (pc := 35) dX6_qEndsPart_35 rfl ?_
            refine m_getI hS (pc := 36) dX6_qEndsPart_36 fl_X6_333 ?_
            refine Bd.eqI h.2.2.2.2.1 ?_
            refine r_iconst (v := nI 1) (pc := 39) dX6_qEndsPart_39 (by decide) ?_
            first | refine r_isubN (pc := 40) dX6_qEndsPart_40 (by omega) ?_ | refine r_isubM (pc := 40) dX6_qEndsPart_40 ?_ | refine r_isubJ (pc := 40) dX6_qEndsPart_40 ?_ | refine r_isub (pc := 40) dX6_qEndsPart_40 ?_
            refine m_putI hS (pc := 41) dX6_qEndsPart_41 fl_X6_333 fw_X6_105 rfl rfl ?_
            refine r_ald0 (pc := 44) dX6_qEndsPart_44 ?_
            refine r_cV (pc := 45) dX6_qEndsPart_45 cv_X6_605 hS.k (ct_X6_qDrops hS hQ2) rfl rfl (Nat.le_of_ble_eq_true rfl) (by decide) ?_
            rintro _ _ ⟨s2, rfl, rfl, h2, hf2⟩
            refine r_goto (pc := 48) (tgt := 0) dX6_qEndsPart_48 (by decide) ?_
            have hih := ih (cs ++ [v]) (op - 1) s2 h2 ((hf2.1 106 (by decide)).trans hb) ((hf2.1 5 (by decide)).trans h5) (by omega) (by omega) ((Fr.tF hf (by decide)).trans (hf2.mono (by decide) (by decide) (by decide) (by decide)))
            rw [List.append_assoc, show op - 1 - (popW gO V).1.length = op - (v :: (popW gO V).1).length by simp; omega] at hih
            exact hih
    · rw [show popW gO (v :: V) = ([], v :: V) from if_neg (by unfold gO; simp; omega), List.append_nil]
      refine r_ald0 (pc := 0) dX6_qEndsPart_0 ?_
      refine m_getI hS (pc := 1) dX6_qEndsPart_1 fl_X6_237 ?_
      refine Bd.eqI h5 ?_
      first | refine r_if_neZ (pc := 4) (tgt := 51) dX6_qEndsPart_4 (by decide) (fun h4 => ?_) (fun h4 => ?_) | refine r_if_neN (pc := 4) (tgt := 51) dX6_qEndsPart_4 (by decide) (by omega) (fun h4 => ?_) (fun h4 => ?_) | refine r_if_ne (pc := 4) (tgt := 51) dX6_qEndsPart_4 (by decide) (fun h4 => ?_) (fun h4 => ?_)
      · skip
        exact absurd rfl h4
      · skip
        refine r_ald0 (pc := 7) dX6_qEndsPart_7 ?_
        refine m_getI hS (pc := 8) dX6_qEndsPart_8 fl_X6_330 ?_
        refine Bd.eqI k3 ?_
        refine r_ald0 (pc := 11) dX6_qEndsPart_11 ?_
        refine m_getI hS (pc := 12) dX6_qEndsPart_12 fl_X6_336 ?_
        refine Bd.eqI hb ?_
        first | refine r_icmp_leN (pc := 15) (tgt := 51) dX6_qEndsPart_15 (by decide) (by omega) (by omega) (fun h15 => ?_) (fun h15 => ?_) | refine r_icmp_le (pc := 15) (tgt := 51) dX6_qEndsPart_15 (by decide) (fun h15 => ?_) (fun h15 => ?_)
        · skip
          exact absurd h15 (by omega)
        · skip
          refine r_ald0 (pc := 18) dX6_qEndsPart_18 ?_
          refine m_getR hS (pc := 19) dX6_qEndsPart_19 fl_X6_225 ar103 ?_
          refine r_ald0 (pc := 22) dX6_qEndsPart_22 ?_
          refine m_getI hS (pc := 23) dX6_qEndsPart_23 fl_X6_330 ?_
          refine Bd.eqI k3 ?_
          refine r_iconst (v := nI 1) (pc := 26) dX6_qEndsPart_26 (by decide) ?_
          refine r_isubN (pc := 27) dX6_qEndsPart_27 (by omega) ?_
          rw [Nat.add_sub_cancel]
          refine m_iald hS (pc := 28) dX6_qEndsPart_28 ar103 (by omega) (by omega) ?_
          refine Bd.eqI k4 ?_
          refine r_bipush (v := nI 60) (pc := 29) dX6_qEndsPart_29 (by decide) ?_
          first | refine r_icmp_ltN (pc := 31) (tgt := 51) dX6_qEndsPart_31 (by decide) (by omega) (by omega) (fun h31 => ?_) (fun h31 => ?_) | refine r_icmp_lt (pc := 31) (tgt := 51) dX6_qEndsPart_31 (by decide) (fun h31 => ?_) (fun h31 => ?_)
          · skip
            refine r_vret (pc := 51) dX6_qEndsPart_51 ?_
            exact ⟨_, rfl, rfl, h, hf⟩
          · skip
            exact absurd h31 (by omega)
theorem ct_X6_qEndsPart {cs V B : List Nat} {op : Nat} (hS : ShM g M o) (h : RQ s cs (V ++ B) op) (hb : mF s 106 = nI B.length) (h5 : mF s 5 = nI 0) (hop : (popW gO V).1.length ≤ op) (hop6 : op ≤ 6) :
    Ct g yX6_qEndsPart cX6_qEndsPart 1 none 2 0 0 [.ref o] (putM M o s) (QM M o (fun r s' => r = none ∧ RQ s' (cs ++ (popW gO V).1) ((popW gO V).2 ++ B) (op - (popW gO V).1.length) ∧ Fr [102, 104, 105] [] [101] [] s s')) noX := by
  refine Ct.of (by decide) (Nat.le_of_ble_eq_true rfl) rfl ?_
  exact qEPLoop hS V cs op s h hb h5 hop hop6 Fr.rf
theorem ct_X6_qEndsPartB (hS : ShM g M o) (h5 : mF s 5 ≠ nI 0) : Ct g yX6_qEndsPart cX6_qEndsPart 1 none 2 0 0 [.ref o] (putM M o s) (VQ (putM M o s)) noX := by
  refine Ct.of (by decide) (Nat.le_of_ble_eq_true rfl) rfl ?_
  refine r_ald0 (pc := 0) dX6_qEndsPart_0 ?_
  refine m_getI hS (pc := 1) dX6_qEndsPart_1 fl_X6_237 ?_
  refine r_if_ne (pc := 4) (tgt := 51) dX6_qEndsPart_4 (by decide) (fun h4 => ?_) (fun h4 => ?_)
  · skip
    refine r_vret (pc := 51) dX6_qEndsPart_51 ?_
    exact ⟨rfl, rfl⟩
  · skip
    exact absurd h4 h5
end M31
