set_option maxRecDepth 100000
/-! THE READER: a question -/
/-- a question at zq: its kind, its codes; nothing found yet -/
def QST (M : MM) (o : Nat) (P : Nat → Prop) (zq k : Nat) (cs : List Nat) : Prop := mK M zq = 39 ∧ mI M zq 0 = nI k ∧ k < 6 ∧ mL M zq 3 = lI (-1) ∧ mI M zq 4 = nI 0 ∧ (k < 3 → ∃ t, mR M zq 1 = some t ∧ TST M o P 40 t cs) ∧ (3 ≤ k → ∃ t, mR M zq 2 = some t ∧ VAL M o P 40 t cs)
def kN (w : List Nat) : Option Nat := if w = wFirst then some 0 else if w = wLast then some 1 else if w = wOften then some 2 else if w = wTotal then some 3 else if w = wMost then some 4 else if w = wLeast then some 5 else none
theorem kN_f {w : List Nat} : fndW toldW w 6 0 = kN w := by
  unfold kN
  simp only [fndW]
  have e : ∀ u, (toldW.getD 0 [] = u) = (wFirst = u) := fun _ => rfl
  have c : ∀ (u v : List Nat), (u = v) = (v = u) := fun u v => propext ⟨Eq.symm, Eq.symm⟩
  show (if wFirst = w then some 0 else if wLast = w then some 1 else if wOften = w then some 2 else if wTotal = w then some 3 else if wMost = w then some 4 else if wLeast = w then some 5 else none) = _
  simp only [c _ w]
theorem kndP_w {f : Nat → Nat} {n : Nat} {w : List Nat} (hw : word f n (skip f n 0) = some w) : kndP f n = match kN w with
    | some k => .ok (k, skip f n 0 + w.length)
    | none => .error (1, skip f n 0) := by
  unfold kndP kN
  rw [hw]
  have c : ∀ u, (some w = some u) = (w = u) := fun u => propext ⟨Option.some.inj, fun q => by rw [q]⟩
  simp only [c]
  by_cases e0 : w = wFirst
  · rw [if_pos e0, if_pos e0, e0]; rfl
  rw [if_neg e0, if_neg e0]
  by_cases e1 : w = wLast
  · rw [if_pos e1, if_pos e1, e1]; rfl
  rw [if_neg e1, if_neg e1]
  by_cases e2 : w = wOften
  · rw [if_pos e2, if_pos e2, e2]; rfl
  rw [if_neg e2, if_neg e2]
  by_cases e3 : w = wTotal
  · rw [if_pos e3, if_pos e3, e3]; rfl
  rw [if_neg e3, if_neg e3]
  by_cases e4 : w = wMost
  · rw [if_pos e4, if_pos e4, e4]; rfl
  rw [if_neg e4, if_neg e4]
  by_cases e5 : w = wLeast
  · rw [if_pos e5, if_pos e5, e5]; rfl
  rw [if_neg e5, if_neg e5]
section X89
variable {g : GC} {M : MM} {o n : Nat} {f : Nat → Nat}
def QnQ (g : GC) (M : MM) (o n : Nat) (f : Nat → Nat) (R : Pz (Nat × List Nat)) : Option Value → MM → Prop := fun r M' => ∃ k cs zq, R = .ok (k, cs) ∧ r = some (.ref zq) ∧ QST M' o (fun c => mZ M ≤ c ∧ c < mZ M' ∧ c ≠ zq) zq k cs ∧ mZ M ≤ zq ∧ zq < mZ M' ∧ FM (fun c => c = o + 5 ∨ c = o + 6) M M' ∧ RDF g M' o n f
def QnX (g : GC) (M : MM) (o n : Nat) (f : Nat → Nat) (R : Pz (Nat × List Nat)) : Nat → MM → Prop := fun q M' => ∃ k p, R = .error (k, p) ∧ XT g M o n f k p q M'
theorem qst_t {M7 M8 : MM} {zq k t lo lo2 D : Nat} {cs : List Nat} (hV : TST M7 o (fun c => lo2 ≤ c ∧ c < mZ M7) D t cs) (hD : D ≤ 40) (hl : lo ≤ zq) (hp : zq < lo2) (hK : mK M7 zq = 39) (h4 : mI M7 zq 4 = nI 0) (hk : k < 3) (e8 : M8 = sR (sR (sI (sL M7 zq 3 (-1 : Int64)) zq 0 (nI k)) zq 1 (some t)) zq 2 none) : QST M8 o (fun c => lo ≤ c ∧ c < mZ M8 ∧ c ≠ zq) zq k cs ∧ FM (fun c => c = zq) M7 M8 := by
  have hS : ∀ c, c ≠ zq → Sm M7 M8 c := fun c hc => by rw [e8]; exact ((((Sm.sL hc).trans (Sm.sI hc)).trans (Sm.sR hc)).trans (Sm.sR hc))
  have hz : mZ M8 = mZ M7 := by rw [e8]; rfl
  refine ⟨⟨by rw [e8]; exact hK, ?_, by omega, ?_, ?_, fun _ => ⟨t, ?_, TST.fr (fun c hc => hS c (by omega)) (fun c hc => ⟨by omega, by omega, by omega⟩) D 40 t cs hD hV⟩, fun q => absurd q (by omega)⟩, by omega, fun c _ hc => hS c hc⟩
  · rw [e8, mI_sR, mI_sR, mI_sIs]
  · rw [e8, mL_sR, mL_sR, mL_sI, mL_sLs]; decide
  · rw [e8, mI_sR, mI_sR, mI_sIj (by decide), mI_sL]; exact h4
  · rw [e8, mR_sRj (by decide), mR_sRs]
theorem qst_v {M7 M8 : MM} {zq k t lo lo2 D : Nat} {cs : List Nat} (hV : VAL M7 o (fun c => lo2 ≤ c ∧ c < mZ M7) D t cs) (hD : D ≤ 40) (hl : lo ≤ zq) (hp : zq < lo2) (hK : mK M7 zq = 39) (h4 : mI M7 zq 4 = nI 0) (hk : 3 ≤ k) (hk6 : k < 6) (e8 : M8 = sR (sR (sI (sL M7 zq 3 (-1 : Int64)) zq 0 (nI k)) zq 1 none) zq 2 (some t)) : QST M8 o (fun c => lo ≤ c ∧ c < mZ M8 ∧ c ≠ zq) zq k cs ∧ FM (fun c => c = zq) M7 M8 := by
  have hS : ∀ c, c ≠ zq → Sm M7 M8 c := fun c hc => by rw [e8]; exact ((((Sm.sL hc).trans (Sm.sI hc)).trans (Sm.sR hc)).trans (Sm.sR hc))
  have hz : mZ M8 = mZ M7 := by rw [e8]; rfl
  refine ⟨⟨by rw [e8]; exact hK, ?_, hk6, ?_, ?_, fun q => absurd q (by omega), fun _ => ⟨t, ?_, VAL.fr (fun c hc => hS c (by omega)) (fun c hc => ⟨by omega, by omega, by omega⟩) D 40 t cs hD hV⟩⟩, by omega, fun c _ hc => hS c hc⟩
  · rw [e8, mI_sR, mI_sR, mI_sIs]
  · rw [e8, mL_sR, mL_sR, mL_sI, mL_sLs]; decide
  · rw [e8, mI_sR, mI_sR, mI_sIj (by decide), mI_sL]; exact h4
  · rw [e8, mR_sRs]
theorem QST.fr {M1 : MM} {zq k lo : Nat} {cs : List Nat} (h : QST M o (fun c => lo ≤ c ∧ c < mZ M ∧ c ≠ zq) zq k cs) (hr : RFr o M M1) (hlo : o + 6 < lo) (hzq : lo ≤ zq) (hzz : zq < mZ M) : QST M1 o (fun c => lo ≤ c ∧ c < mZ M1 ∧ c ≠ zq) zq k cs := by
  obtain ⟨h1, h2, h3, h4, h5, h6, h7⟩ := h
  have s := hr.sm hzz (by omega)
  have hz := hr.1.1
  refine ⟨s.1.trans h1, by rw [s.2.2.1]; exact h2, h3, by rw [s.2.2.2.1]; exact h4, by rw [s.2.2.1]; exact h5, fun q => ?_, fun q => ?_⟩
  · obtain ⟨t, t1, t2⟩ := h6 q
    exact ⟨t, by rw [s.2.2.2.2]; exact t1, TST.fr (fun c hc => hr.sm hc.2.1 (by omega)) (fun c hc => ⟨hc.1, by omega, hc.2.2⟩) 40 40 t cs (Nat.le_refl _) t2⟩
  · obtain ⟨t, t1, t2⟩ := h7 q
    exact ⟨t, by rw [s.2.2.2.2]; exact t1, VAL.fr (fun c hc => hr.sm hc.2.1 (by omega)) (fun c hc => ⟨hc.1, by omega, hc.2.2⟩) 40 40 t cs (Nat.le_refl _) t2⟩
/-- the reader's end of a question -/
theorem qn_82 {M8 : MM} {zq k b e : Nat} {cs : List Nat} {kc ks : Nat} (hR : RW g M8 o n f) (hF : FM (fun c => c = o + 5 ∨ c = o + 6) M M8) (hoz : o + 6 < mZ M) (hA : mI M8 (o + 5) 2 = nI b) (hb : b ≤ n) (hsk : skip f n b = skip f n e) (hq : QST M8 o (fun c => mZ M ≤ c ∧ c < mZ M8 ∧ c ≠ zq) zq k cs) (hz1 : mZ M ≤ zq) (hz2 : zq < mZ M8) :
    Bd g yX2_question cX2_question 4 (some (.object "Retouched$Question")) [] 61 kc ks M8 82 [some (.ref (o + 5)), none, none, none] [.ref zq] (QnQ g M o n f (if lookO f n e = none then .ok (k, cs) else .error (1, skip f n e))) (QnX g M o n f (if lookO f n e = none then .ok (k, cs) else .error (1, skip f n e))) := by
  have h := hR.1
  have hf := h.2.2.2.2.2.2.1.1
  have r7 := h.2.2.2.2.2.2.2.1.1
  have hsl := skip_le (f := f) hb
  have hct := ct_X2_here h hb hA
  by_cases el : lookO f n e = none
  · rw [if_pos el]
    rw [(bI_end hf).2 (by rw [hsk]; exact look_end.1 el)] at hct
    refine r_ast3 (pc := 82) dX2_question_82 ?_
    refine r_ald0 (pc := 83) dX2_question_83 ?_
    refine r_cV (ci := 2) (pc := 84) dX2_question_84 cv_X2_43 r7 hct rfl rfl (Nat.le_of_ble_eq_true rfl) (by decide) ?_
    rintro _ M9 ⟨rfl, k9⟩
    refine r_iconst (v := -1) (pc := 87) dX2_question_87 (by decide) ?_
    refine r_icmp_eq (pc := 88) (tgt := 101) dX2_question_88 (by decide) (fun h88 => ?_) (fun h88 => ?_)
    · skip
      refine r_ald3 (pc := 101) dX2_question_101 ?_
      refine r_aretR (pc := 102) dX2_question_102 ?_
      exact ⟨k, cs, zq, rfl, rfl, hq.fr k9.1 hoz hz1 hz2, hz1, Nat.lt_of_lt_of_le hz2 k9.1.1.1, hF.trans k9.1.1 (fun _ _ e => e) (fun _ _ e => e), h.fr k9.1⟩
    · skip
      exact absurd rfl h88
  · rw [if_neg el]
    have hv : bI f n (skip f n b) ≠ (-1 : Int32) := fun q => el (look_end.2 (by rw [← hsk]; exact (bI_end hf).1 q))
    generalize hv0 : bI f n (skip f n b) = v0 at hct hv
    refine r_ast3 (pc := 82) dX2_question_82 ?_
    refine r_ald0 (pc := 83) dX2_question_83 ?_
    refine r_cV (ci := 2) (pc := 84) dX2_question_84 cv_X2_43 r7 hct rfl rfl (Nat.le_of_ble_eq_true rfl) (by decide) ?_
    rintro _ M9 ⟨rfl, k9⟩
    have h9 := h.fr k9.1
    have r79 := h9.2.2.2.2.2.2.2.1.1
    refine r_iconst (v := -1) (pc := 87) dX2_question_87 (by decide) ?_
    refine r_icmp_eq (pc := 88) (tgt := 101) dX2_question_88 (by decide) (fun h88 => ?_) (fun h88 => ?_)
    · skip
      exact absurd h88 hv
    · skip
      refine r_ald0 (pc := 91) dX2_question_91 ?_
      refine r_iconst (v := nI 1) (pc := 92) dX2_question_92 (by decide) ?_
      refine r_ald0 (pc := 93) dX2_question_93 ?_
      refine r_getI' (pc := 94) dX2_question_94 fl_X2_36 r79 k9.2.1 ?_
      refine r_cV (ci := 2) (pc := 97) dX2_question_97 cv_X2_47 r79 (ct_X2_wrong (k := 1) h9) rfl rfl (Nat.le_of_ble_eq_true rfl) (by decide) ?_
      rintro _ M2 ⟨rfl, e2⟩
      rw [e2]
      exact r_athrow (pc := 100) dX2_question_100 h9.2.2.2.2.2.2.2.2.1 ⟨1, skip f n e, rfl, by rw [← hsk]; exact XT.of2 hF h (XE.fl k9.1)⟩
theorem ct_X2_question (hW : RW g (sI M (o + 5) 1 (nI n)) o n f) : Ct g yX2_question cX2_question 4 (some (.object "Retouched$Question")) 61 (60 * n + 110) (4000 * n + 16000) [.ref (o + 5), .int (nI n)] M (QnQ g M o n f (askP f n)) (QnX g M o n f (askP f n)) := by
  have h := hW.1
  have hg := h.1
  have hgb := h.2.1
  have hc := hW.c
  have h1280 := hW.2.1
  have ho : o + 6 < mZ M := h.oz
  have r7 : mK M (o + 5) = 22 := h.2.2.2.2.2.2.2.1.1
  have e1 : askP f n = bnd (kndP f n) (fun y => bnd (txtP f n y.1 y.2) (fun z => if lookO f n z.2 = none then .ok (y.1, z.1) else .error (1, skip f n z.2))) := rfl
  have hsl := skip_le (f := f) (Nat.zero_le n)
  have hlw := lts_le f (n - skip f n 0) (skip f n 0)
  refine Ct.of (by decide) (Nat.le_of_ble_eq_true rfl) rfl ?_
  refine r_ald0 (pc := 0) dX2_question_0 ?_
  refine r_ild1 (pc := 1) dX2_question_1 ?_
  refine r_putI (pc := 2) (ty := .int) dX2_question_2 fl_X2_29 ⟨rfl, rfl⟩ rfl rfl r7 (by omega) ?_
  refine r_ald0 (pc := 5) dX2_question_5 ?_
  refine r_iconst (v := nI 0) (pc := 6) dX2_question_6 (by decide) ?_
  refine r_putI (pc := 7) (ty := .int) dX2_question_7 fl_X2_36 ⟨rfl, rfl⟩ rfl rfl r7 (by omega) ?_
  refine r_ald0 (pc := 10) dX2_question_10 ?_
  refine r_iconst (v := nI 0) (pc := 11) dX2_question_11 (by decide) ?_
  refine r_putI (pc := 12) (ty := .int) dX2_question_12 fl_X2_113 ⟨rfl, rfl⟩ rfl rfl r7 (by omega) ?_
  refine r_ald0 (pc := 15) dX2_question_15 ?_
  refine r_sipush (v := nI 1819) (pc := 16) dX2_question_16 (by decide) ?_
  refine r_putI (pc := 19) (ty := .int) dX2_question_19 fl_X2_162 ⟨rfl, rfl⟩ rfl rfl r7 (by omega) ?_
  generalize hM4 : sI (sI (sI (sI M (o + 5) 1 (nI n)) (o + 5) 2 (nI 0)) (o + 5) 4 (nI 0)) (o + 5) 5 (nI 1819) = M4
  have z4 : mZ M4 = mZ M := by rw [← hM4]; rfl
  have S4 : ∀ c, c ≠ o + 5 → Sm M M4 c := fun c hc => by rw [← hM4]; exact (((Sm.sI hc).trans (Sm.sI hc)).trans (Sm.sI hc)).trans (Sm.sI hc)
  have i1 : mI M4 (o + 5) 1 = nI n := by rw [← hM4, mI_sIj (by decide), mI_sIj (by decide), mI_sIj (by decide), mI_sIs]
  have i2 : mI M4 (o + 5) 2 = nI 0 := by rw [← hM4, mI_sIj (by decide), mI_sIj (by decide), mI_sIs]
  have i4 : mI M4 (o + 5) 4 = nI 0 := by rw [← hM4, mI_sIj (by decide), mI_sIs]
  have i5 : mI M4 (o + 5) 5 = nI 1819 := by rw [← hM4, mI_sIs]
  have W4 : RW g M4 o n f := hW.set (by omega) (fun c _ h2 => S4 c h2) (by rw [← hM4]; rfl) (by rw [← hM4]; rfl) (by rw [← hM4]; rfl) i1
  clear hM4
  have F4 : FM (fun c => c = o + 5 ∨ c = o + 6) M M4 := ⟨by omega, fun c hc hn => S4 c (fun q => hn (Or.inl q))⟩
  have A4 : RWA g M4 o n f 3 6 0 := ⟨W4, Nat.zero_le n, i2, i4, Nat.le_refl _, i5, Nat.le_refl _⟩
  have r74 := W4.1.2.2.2.2.2.2.2.1.1
  refine r_ald0 (pc := 22) dX2_question_22 ?_
  refine r_cVx (ci := 2) (pc := 23) (kc' := 60 * n + 107) (ks' := 4000 * n + 13436) dX2_question_23 cv_X2_70 r74 (ct_X2_word_2 W4.1 hc (Nat.zero_le n) i2) rfl rfl (Nat.le_of_ble_eq_true rfl) (by decide) (by omega) (by omega) (fun q M' hx => ⟨1, skip f n 0, by rw [e1]; unfold kndP; rw [hx.1]; rfl, XT.of2 F4 W4.1 hx.2⟩) ?_
  rintro _ M5 ⟨w, z, hw, rfl, q1, q2, q3, q4, q5, q6⟩
  have hwe := word_end hw
  have A5 := A4.to q5 hwe.1
  have W5 := A5.1
  have r75 := W5.1.2.2.2.2.2.2.2.1.1
  have F5 : FM (fun c => c = o + 5 ∨ c = o + 6) M M5 := F4.trans q5.1.1 (fun _ _ e => e) (fun _ _ e => e)
  obtain ⟨t, t1, t2, t3⟩ := W5.2.2.2.2 ("TOLD_OF", toldW) (by decide)
  have hfd := ct_X0_find (g := g) hc t3 q2
  rw [show toldW.length = 6 from rfl, kN_f] at hfd
  have ek := kndP_w hw
  refine r_getsNn (pc := 26) dX2_question_26 (hg _ q1534 rfl) t1 ?_
  refine r_cSN (pc := 29) dX2_question_29 (csn_X2_82 hg) hfd rfl rfl (Nat.le_of_ble_eq_true rfl) (by decide) ?_
  rintro _ M8 ⟨rfl, e8⟩
  rw [e8]
  refine r_ist2 (pc := 32) dX2_question_32 ?_
  refine r_ild2 (pc := 33) dX2_question_33 ?_
  refine r_iconst (v := -1) (pc := 34) dX2_question_34 (by decide) ?_
  refine r_icmp_ne (pc := 35) (tgt := 48) dX2_question_35 (by decide) (fun h35 => ?_) (fun h35 => ?_)
  · skip
    obtain ⟨k, hk⟩ : ∃ k, kN w = some k := by
      cases hf : kN w with
      | none => rw [hf] at h35; exact absurd iI_n1 h35
      | some k => exact ⟨k, rfl⟩
    have hk6 : k < 6 := (fndW_lt 6 0 k (kN_f.trans hk)).2
    rw [hk] at ek ⊢
    have e2 : askP f n = bnd (txtP f n k (skip f n 0 + w.length)) (fun z => if lookO f n z.2 = none then .ok (k, z.1) else .error (1, skip f n z.2)) := by rw [e1, ek]; rfl
    rw [show onI (some k) = nI k from rfl]
    refine r_ild2 (pc := 48) dX2_question_48 ?_
    refine r_iconst (v := nI 3) (pc := 49) dX2_question_49 (by decide) ?_
    first | refine r_icmp_geN (pc := 50) (tgt := 69) dX2_question_50 (by decide) (by omega) (by omega) (fun h50 => ?_) (fun h50 => ?_) | refine r_icmp_ge (pc := 50) (tgt := 69) dX2_question_50 (by decide) (fun h50 => ?_) (fun h50 => ?_)
    · skip
      refine r_new (pc := 69) (ci := 19) (kc' := 60 * n + 106) (ks' := 4000 * n + 13431) dX2_question_69 q1536 q1537 q182 (by decide) (by omega) (by omega) ?_
      generalize hM6 : nw M5 (20 + 19) 0 = M6
      have m1 : mZ M6 = mZ M5 + 1 := by rw [← hM6]; rfl
      have m3 : mK M6 (mZ M5) = 39 := by rw [← hM6]; exact if_pos rfl
      have m5 : mI M6 (mZ M5) 4 = nI 0 := by rw [← hM6]; exact if_pos rfl
      have m4 : FM (fun _ => False) M5 M6 := by rw [← hM6]; exact FM.nw
      clear hM6
      have hz5 := F5.1
      have R6 : RO M5 o (skip f n 0 + w.length) M6 := (RO.rf A5.at).more ⟨m4.1, fun c hc _ => m4.2 c hc (fun q => q)⟩ (by omega)
      have A6 := A5.to R6 hwe.1
      have r76 := A6.1.1.2.2.2.2.2.2.2.1.1
      have F6 : FM (fun c => c = o + 5 ∨ c = o + 6) M M6 := F5.trans R6.1.1 (fun _ _ e => e) (fun _ _ e => e)
      have e3 : txtP f n k (skip f n 0 + w.length) = sumP f n (atomP f n 3 6) (skip f n 0 + w.length) := if_neg (by omega)
      rw [e3] at e2
      have c1 : cst 60 30 30 n (skip f n 0 + w.length) (sumP f n (atomP f n 3 6) (skip f n 0 + w.length)) ≤ 60 * n + 106 ∧ cst 4000 400 400 n (skip f n 0 + w.length) (sumP f n (atomP f n 3 6) (skip f n 0 + w.length)) ≤ 4000 * n + 13431 := by
        cases hr : sumP f n (atomP f n 3 6) (skip f n 0 + w.length) with
        | error e => rw [cst_er, cst_er]; omega
        | ok y => have := sumP_prg (atomP_prg 6) _ y hr; rw [cst_ok, cst_ok]; omega
      refine r_dup (pc := 72) dX2_question_72 rfl ?_
      refine r_ild2 (pc := 73) dX2_question_73 ?_
      refine r_null (pc := 74) dX2_question_74 ?_
      refine r_ald0 (pc := 75) dX2_question_75 ?_
      refine r_cVx (ci := 2) (pc := 76) (kc' := 0) (ks' := 0) dX2_question_76 cv_X2_165 r76 (ct_sums (x := 3) (oo := 6) M6 _ A6) rfl rfl (Nat.le_of_ble_eq_true rfl) (by decide) (by omega) (by omega) (fun q M' hx => ?_) ?_
      · obtain ⟨kx, px, x1, x2⟩ := hx
        exact ⟨kx, px, by rw [e2, x1]; rfl, XT.of2 F6 A6.1.1 x2⟩
      rintro _ M7 ⟨y, t, hy, rfl, hV, hRO⟩
      have kb := (sumP_prg (atomP_prg 6) _ y hy).2.1
      have s7 := hRO.1.sm (c := mZ M5) (by omega) (by omega)
      have hz7 := hRO.1.1.1
      refine r_cI (pc := 79) dX2_question_79 ci_X2_318 (ct_X19_initV (M := M7) (a := mZ M5) (by omega) (s7.1.trans m3)) rfl rfl (Nat.le_of_ble_eq_true rfl) (by decide) ?_
      rintro _ M8 ⟨rfl, e8⟩
      obtain ⟨G1, G2⟩ := qst_v (lo := mZ M) hV (by decide) (by omega) (by omega) (s7.1.trans m3) (by rw [s7.2.2.1]; exact m5) (by omega) hk6 e8
      have R8 : RO M5 o y.2 M8 := (R6.trans hRO).more ⟨G2.1, fun c hc hn => G2.2 c hc (fun q => by omega)⟩ (by omega)
      have hz8 := G2.1
      have eE : askP f n = if lookO f n y.2 = none then .ok (k, y.1) else .error (1, skip f n y.2) := by rw [e2, hy]; rfl
      rw [eE]
      have kz : skip f n y.2 = skip f n y.2 := rfl
      exact Bd.kill 1 (Bd.kill 2 (qn_82 (W5.fr R8.1) (F5.trans R8.1.1 (fun _ _ e => e) (fun _ _ e => e)) ho R8.2.1 kb kz G1 (by omega) (by omega)))
    · skip
      refine r_new (pc := 53) (ci := 19) (kc' := 60 * n + 106) (ks' := 4000 * n + 13431) dX2_question_53 q1536 q1537 q182 (by decide) (by omega) (by omega) ?_
      generalize hM6 : nw M5 (20 + 19) 0 = M6
      have m1 : mZ M6 = mZ M5 + 1 := by rw [← hM6]; rfl
      have m3 : mK M6 (mZ M5) = 39 := by rw [← hM6]; exact if_pos rfl
      have m5 : mI M6 (mZ M5) 4 = nI 0 := by rw [← hM6]; exact if_pos rfl
      have m4 : FM (fun _ => False) M5 M6 := by rw [← hM6]; exact FM.nw
      clear hM6
      have hz5 := F5.1
      have R6 : RO M5 o (skip f n 0 + w.length) M6 := (RO.rf A5.at).more ⟨m4.1, fun c hc _ => m4.2 c hc (fun q => q)⟩ (by omega)
      have A6 := A5.to R6 hwe.1
      have r76 := A6.1.1.2.2.2.2.2.2.2.1.1
      have F6 : FM (fun c => c = o + 5 ∨ c = o + 6) M M6 := F5.trans R6.1.1 (fun _ _ e => e) (fun _ _ e => e)
      have e3 : txtP f n k (skip f n 0 + w.length) = testP f n (factP f n 3 6) (skip f n 0 + w.length) := if_pos (by omega)
      rw [e3] at e2
      have c1 : cst 60 20 60 n (skip f n 0 + w.length) (testP f n (factP f n 3 6) (skip f n 0 + w.length)) ≤ 60 * n + 106 ∧ cst 4000 5200 5900 n (skip f n 0 + w.length) (testP f n (factP f n 3 6) (skip f n 0 + w.length)) ≤ 4000 * n + 13431 := by
        cases hr : testP f n (factP f n 3 6) (skip f n 0 + w.length) with
        | error e => rw [cst_er, cst_er]; omega
        | ok y => have := testP_prg (factP_prg 6) _ y hr; rw [cst_ok, cst_ok]; omega
      refine r_dup (pc := 56) dX2_question_56 rfl ?_
      refine r_ild2 (pc := 57) dX2_question_57 ?_
      refine r_ald0 (pc := 58) dX2_question_58 ?_
      refine r_cVx (ci := 2) (pc := 59) (kc' := 0) (ks' := 0) dX2_question_59 cv_X2_210 r76 (ct_tests (x := 3) (oo := 6) M6 _ A6) rfl rfl (Nat.le_of_ble_eq_true rfl) (by decide) (by omega) (by omega) (fun q M' hx => ?_) ?_
      · obtain ⟨kx, px, x1, x2⟩ := hx
        exact ⟨kx, px, by rw [e2, x1]; rfl, XT.of2 F6 A6.1.1 x2⟩
      rintro _ M7 ⟨y, t, b, hy, rfl, hV, hRO, kb, kz⟩
      have s7 := hRO.1.sm (c := mZ M5) (by omega) (by omega)
      have hz7 := hRO.1.1.1
      refine r_null (pc := 62) dX2_question_62 ?_
      refine r_cI (pc := 63) dX2_question_63 ci_X2_318 (ct_X19_initT (M := M7) (a := mZ M5) (by omega) (s7.1.trans m3)) rfl rfl (Nat.le_of_ble_eq_true rfl) (by decide) ?_
      rintro _ M8 ⟨rfl, e8⟩
      obtain ⟨G1, G2⟩ := qst_t (lo := mZ M) hV (by decide) (by omega) (by omega) (s7.1.trans m3) (by rw [s7.2.2.1]; exact m5) (by omega) e8
      have R8 : RO M5 o b M8 := (R6.trans hRO).more ⟨G2.1, fun c hc hn => G2.2 c hc (fun q => by omega)⟩ (by omega)
      have hz8 := G2.1
      have eE : askP f n = if lookO f n y.2 = none then .ok (k, y.1) else .error (1, skip f n y.2) := by rw [e2, hy]; rfl
      rw [eE]
      refine r_goto (pc := 66) (tgt := 82) dX2_question_66 (by decide) ?_
      exact Bd.kill 1 (Bd.kill 2 (qn_82 (W5.fr R8.1) (F5.trans R8.1.1 (fun _ _ e => e) (fun _ _ e => e)) ho R8.2.1 kb kz G1 (by omega) (by omega)))
  · skip
    have hk : kN w = none := by
      cases hf : kN w with
      | none => rfl
      | some k => rw [hf] at h35; exact absurd h35 (nI_n1 (by have := (fndW_lt 6 0 k (kN_f.trans hf)).2; omega))
    rw [hk] at ek
    refine r_ald0 (pc := 38) dX2_question_38 ?_
    refine r_iconst (v := nI 1) (pc := 39) dX2_question_39 (by decide) ?_
    refine r_ald0 (pc := 40) dX2_question_40 ?_
    refine r_getI' (pc := 41) dX2_question_41 fl_X2_61 r75 q6 ?_
    refine r_cV (ci := 2) (pc := 44) dX2_question_44 cv_X2_47 r75 (ct_X2_wrong (k := 1) W5.1) rfl rfl (Nat.le_of_ble_eq_true rfl) (by decide) ?_
    rintro _ M2 ⟨rfl, e9⟩
    rw [e9]
    exact r_athrow (pc := 47) dX2_question_47 W5.1.2.2.2.2.2.2.2.2.1 ⟨1, skip f n 0, by rw [e1, ek]; rfl, XT.of2 F5 W5.1 (XE.fl RFr.rf)⟩
end X89
