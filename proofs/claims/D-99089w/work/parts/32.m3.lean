set_option maxRecDepth 100000
/-! THE MODEL: codesTell -/
/-- what changed at most: int fields fs, long fields gs, int arrays as, long arrays bs -/
def Fr (fs gs as bs : List Nat) (s s' : MS) : Prop := (∀ i, i ∉ fs → mF s' i = mF s i) ∧ (∀ i, i ∉ gs → mG s' i = mG s i) ∧ (∀ i, i ∉ as → mA s' i = mA s i) ∧ (∀ i, i ∉ bs → mB s' i = mB s i)
section FrS
variable {fs gs as bs : List Nat} {s s1 s2 : MS}
theorem Fr.rf : Fr fs gs as bs s s := ⟨fun _ _ => rfl, fun _ _ => rfl, fun _ _ => rfl, fun _ _ => rfl⟩
theorem Fr.trans (h : Fr fs gs as bs s s1) (h' : Fr fs gs as bs s1 s2) : Fr fs gs as bs s s2 := ⟨fun i hi => (h'.1 i hi).trans (h.1 i hi), fun i hi => (h'.2.1 i hi).trans (h.2.1 i hi), fun i hi => (h'.2.2.1 i hi).trans (h.2.2.1 i hi), fun i hi => (h'.2.2.2 i hi).trans (h.2.2.2 i hi)⟩
theorem Fr.mono {fs' gs' as' bs' : List Nat} (h : Fr fs gs as bs s s1) (h1 : ∀ i ∈ fs, i ∈ fs') (h2 : ∀ i ∈ gs, i ∈ gs') (h3 : ∀ i ∈ as, i ∈ as') (h4 : ∀ i ∈ bs, i ∈ bs') : Fr fs' gs' as' bs' s s1 := ⟨fun i hi => h.1 i (fun q => hi (h1 i q)), fun i hi => h.2.1 i (fun q => hi (h2 i q)), fun i hi => h.2.2.1 i (fun q => hi (h3 i q)), fun i hi => h.2.2.2 i (fun q => hi (h4 i q))⟩
theorem Fr.tF {i : Nat} {v : Int32} (h : Fr fs gs as bs s s1) (hi : i ∈ fs) : Fr fs gs as bs s (tF s1 i v) := ⟨fun j hj => by have e : j ≠ i := (fun e => hj (by rw [e]; exact hi)); rw [mF_tF, if_neg e]; exact h.1 j hj, h.2.1, h.2.2.1, h.2.2.2⟩
theorem Fr.tG {i : Nat} {v : Int64} (h : Fr fs gs as bs s s1) (hi : i ∈ gs) : Fr fs gs as bs s (tG s1 i v) := ⟨h.1, fun j hj => by have e : j ≠ i := (fun e => hj (by rw [e]; exact hi)); rw [mG_tG, if_neg e]; exact h.2.1 j hj, h.2.2.1, h.2.2.2⟩
theorem Fr.tA {i j : Nat} {v : Int32} (h : Fr fs gs as bs s s1) (hi : i ∈ as) : Fr fs gs as bs s (tA s1 i j v) := ⟨h.1, h.2.1, fun a ha => by have e : a ≠ i := (fun e => ha (by rw [e]; exact hi)); funext b; rw [mA_tA, if_neg (fun q => e q.1), h.2.2.1 a ha], h.2.2.2⟩
theorem Fr.tB {i j : Nat} {v : Int64} (h : Fr fs gs as bs s s1) (hi : i ∈ bs) : Fr fs gs as bs s (tB s1 i j v) := ⟨h.1, h.2.1, h.2.2.1, fun a ha => by have e : a ≠ i := (fun e => ha (by rw [e]; exact hi)); funext b; rw [mB_tB, if_neg (fun q => e q.1), h.2.2.2 a ha]⟩
end FrS
/-- the parts that stand ready for the codes of a terrace -/
def PE (s : MS) (env : Nat → Int) : Prop := mF s 57 = iI (env 0) ∧ mF s 58 = iI (env 1) ∧ mF s 59 = iI (env 2) ∧ mA s 55 0 = iI (env 3) ∧ mF s 60 = iI (env 4) ∧ mF s 61 = iI (env 5) ∧ mF s 62 = iI (env 6) ∧ mF s 63 = iI (env 7)
section M3
variable {g : GC} {M : MM} {o : Nat} {s : MS} {M1 : MM}
theorem ct_X6_qPartOf {env : Nat → Int} {k : Nat} (hS : ShM g M o) (hk : k < 8) (ht : ¬ mF s 54 = nI 3) (hE : PE s env) (hb : b31 (env k)) : Ct g yX6_qPartOf cX6_qPartOf 3 (some Jvm.ClassFile.FieldType.long) 1 0 0 [.ref o, .int (nI k), .int (nI 0)] (putM M o s) (PQ (putM M o s) (.long (lI (env k)))) noX := by
  obtain ⟨e0, e1, e2, e3, e4, e5, e6, e7⟩ := hE
  have hc : k = 0 ∨ k = 1 ∨ k = 2 ∨ k = 3 ∨ k = 4 ∨ k = 5 ∨ k = 6 ∨ k = 7 := by omega
  refine Ct.of (by decide) (Nat.le_of_ble_eq_true rfl) rfl ?_
  rcases hc with h | h | h | h | h | h | h | h <;> subst h
  · skip
    refine r_ild1 (pc := 0) dX6_qPartOf_0 ?_
    refine r_tableIn (pc := 1) (tgt := 56) (off := 55) dX6_qPartOf_1 (by decide) (by decide) rfl (by decide) ?_
    refine r_ald0 (pc := 56) dX6_qPartOf_56 ?_
    refine m_getI hS (pc := 57) dX6_qPartOf_57 fl_X6_295 ?_
    refine r_iconst (v := nI 3) (pc := 60) dX6_qPartOf_60 (by decide) ?_
    first | refine r_icmp_neN (pc := 61) (tgt := 73) dX6_qPartOf_61 (by decide) (by omega) (by omega) (fun h61 => ?_) (fun h61 => ?_) | refine r_icmp_ne (pc := 61) (tgt := 73) dX6_qPartOf_61 (by decide) (fun h61 => ?_) (fun h61 => ?_)
    · skip
      refine r_ald0 (pc := 73) dX6_qPartOf_73 ?_
      refine m_getI hS (pc := 74) dX6_qPartOf_74 fl_X6_429 ?_
      refine Bd.eqI e0 ?_
      first | refine r_i2lM (pc := 77) dX6_qPartOf_77 (by omega) ?_ | refine r_i2lI (pc := 77) dX6_qPartOf_77 (by constructor <;> omega) ?_ | refine r_i2lT (pc := 77) dX6_qPartOf_77 ?_
      refine r_lret (pc := 78) dX6_qPartOf_78 ?_
      exact ⟨rfl, rfl⟩
    · skip
      exact absurd h61 ht
  · skip
    refine r_ild1 (pc := 0) dX6_qPartOf_0 ?_
    refine r_tableIn (pc := 1) (tgt := 79) (off := 78) dX6_qPartOf_1 (by decide) (by decide) rfl (by decide) ?_
    refine r_ald0 (pc := 79) dX6_qPartOf_79 ?_
    refine m_getI hS (pc := 80) dX6_qPartOf_80 fl_X6_295 ?_
    refine r_iconst (v := nI 3) (pc := 83) dX6_qPartOf_83 (by decide) ?_
    first | refine r_icmp_neN (pc := 84) (tgt := 96) dX6_qPartOf_84 (by decide) (by omega) (by omega) (fun h84 => ?_) (fun h84 => ?_) | refine r_icmp_ne (pc := 84) (tgt := 96) dX6_qPartOf_84 (by decide) (fun h84 => ?_) (fun h84 => ?_)
    · skip
      refine r_ald0 (pc := 96) dX6_qPartOf_96 ?_
      refine m_getI hS (pc := 97) dX6_qPartOf_97 fl_X6_435 ?_
      refine Bd.eqI e1 ?_
      first | refine r_i2lM (pc := 100) dX6_qPartOf_100 (by omega) ?_ | refine r_i2lI (pc := 100) dX6_qPartOf_100 (by constructor <;> omega) ?_ | refine r_i2lT (pc := 100) dX6_qPartOf_100 ?_
      refine r_lret (pc := 101) dX6_qPartOf_101 ?_
      exact ⟨rfl, rfl⟩
    · skip
      exact absurd h84 ht
  · skip
    refine r_ild1 (pc := 0) dX6_qPartOf_0 ?_
    refine r_tableIn (pc := 1) (tgt := 102) (off := 101) dX6_qPartOf_1 (by decide) (by decide) rfl (by decide) ?_
    refine r_ald0 (pc := 102) dX6_qPartOf_102 ?_
    refine m_getI hS (pc := 103) dX6_qPartOf_103 fl_X6_441 ?_
    refine Bd.eqI e2 ?_
    first | refine r_i2lM (pc := 106) dX6_qPartOf_106 (by omega) ?_ | refine r_i2lI (pc := 106) dX6_qPartOf_106 (by constructor <;> omega) ?_ | refine r_i2lT (pc := 106) dX6_qPartOf_106 ?_
    refine r_lret (pc := 107) dX6_qPartOf_107 ?_
    exact ⟨rfl, rfl⟩
  · skip
    refine r_ild1 (pc := 0) dX6_qPartOf_0 ?_
    refine r_tableIn (pc := 1) (tgt := 108) (off := 107) dX6_qPartOf_1 (by decide) (by decide) rfl (by decide) ?_
    refine r_ald0 (pc := 108) dX6_qPartOf_108 ?_
    refine m_getR hS (pc := 109) dX6_qPartOf_109 fl_X6_121 ar55 ?_
    refine r_iconst (v := nI 0) (pc := 112) dX6_qPartOf_112 (by decide) ?_
    refine m_iald hS (pc := 113) dX6_qPartOf_113 ar55 (by omega) (by omega) ?_
    refine Bd.eqI e3 ?_
    first | refine r_i2lM (pc := 114) dX6_qPartOf_114 (by omega) ?_ | refine r_i2lI (pc := 114) dX6_qPartOf_114 (by constructor <;> omega) ?_ | refine r_i2lT (pc := 114) dX6_qPartOf_114 ?_
    refine r_lret (pc := 115) dX6_qPartOf_115 ?_
    exact ⟨rfl, rfl⟩
  · skip
    refine r_ild1 (pc := 0) dX6_qPartOf_0 ?_
    refine r_tableIn (pc := 1) (tgt := 116) (off := 115) dX6_qPartOf_1 (by decide) (by decide) rfl (by decide) ?_
    refine r_ald0 (pc := 116) dX6_qPartOf_116 ?_
    refine m_getI hS (pc := 117) dX6_qPartOf_117 fl_X6_295 ?_
    refine r_iconst (v := nI 3) (pc := 120) dX6_qPartOf_120 (by decide) ?_
    first | refine r_icmp_neN (pc := 121) (tgt := 133) dX6_qPartOf_121 (by decide) (by omega) (by omega) (fun h121 => ?_) (fun h121 => ?_) | refine r_icmp_ne (pc := 121) (tgt := 133) dX6_qPartOf_121 (by decide) (fun h121 => ?_) (fun h121 => ?_)
    · skip
      refine r_ald0 (pc := 133) dX6_qPartOf_133 ?_
      refine m_getI hS (pc := 134) dX6_qPartOf_134 fl_X6_444 ?_
      refine Bd.eqI e4 ?_
      first | refine r_i2lM (pc := 137) dX6_qPartOf_137 (by omega) ?_ | refine r_i2lI (pc := 137) dX6_qPartOf_137 (by constructor <;> omega) ?_ | refine r_i2lT (pc := 137) dX6_qPartOf_137 ?_
      refine r_lret (pc := 138) dX6_qPartOf_138 ?_
      exact ⟨rfl, rfl⟩
    · skip
      exact absurd h121 ht
  · skip
    refine r_ild1 (pc := 0) dX6_qPartOf_0 ?_
    refine r_tableIn (pc := 1) (tgt := 139) (off := 138) dX6_qPartOf_1 (by decide) (by decide) rfl (by decide) ?_
    refine r_ald0 (pc := 139) dX6_qPartOf_139 ?_
    refine m_getI hS (pc := 140) dX6_qPartOf_140 fl_X6_447 ?_
    refine Bd.eqI e5 ?_
    first | refine r_i2lM (pc := 143) dX6_qPartOf_143 (by omega) ?_ | refine r_i2lI (pc := 143) dX6_qPartOf_143 (by constructor <;> omega) ?_ | refine r_i2lT (pc := 143) dX6_qPartOf_143 ?_
    refine r_lret (pc := 144) dX6_qPartOf_144 ?_
    exact ⟨rfl, rfl⟩
  · skip
    refine r_ild1 (pc := 0) dX6_qPartOf_0 ?_
    refine r_tableIn (pc := 1) (tgt := 145) (off := 144) dX6_qPartOf_1 (by decide) (by decide) rfl (by decide) ?_
    refine r_ald0 (pc := 145) dX6_qPartOf_145 ?_
    refine m_getI hS (pc := 146) dX6_qPartOf_146 fl_X6_458 ?_
    refine Bd.eqI e6 ?_
    first | refine r_i2lM (pc := 149) dX6_qPartOf_149 (by omega) ?_ | refine r_i2lI (pc := 149) dX6_qPartOf_149 (by constructor <;> omega) ?_ | refine r_i2lT (pc := 149) dX6_qPartOf_149 ?_
    refine r_lret (pc := 150) dX6_qPartOf_150 ?_
    exact ⟨rfl, rfl⟩
  · skip
    refine r_ild1 (pc := 0) dX6_qPartOf_0 ?_
    refine r_tableIn (pc := 1) (tgt := 151) (off := 150) dX6_qPartOf_1 (by decide) (by decide) rfl (by decide) ?_
    refine r_ald0 (pc := 151) dX6_qPartOf_151 ?_
    refine m_getI hS (pc := 152) dX6_qPartOf_152 fl_X6_461 ?_
    refine Bd.eqI e7 ?_
    first | refine r_i2lM (pc := 155) dX6_qPartOf_155 (by omega) ?_ | refine r_i2lI (pc := 155) dX6_qPartOf_155 (by constructor <;> omega) ?_ | refine r_i2lT (pc := 155) dX6_qPartOf_155 ?_
    refine r_lret (pc := 156) dX6_qPartOf_156 ?_
    exact ⟨rfl, rfl⟩
theorem pil_top {b : Nat → Nat → Int64} {v : Int} {vs : List Int} (h : pil (b 107) vs) : pil ((fun a j => if a = 107 ∧ j = vs.length then lI v else b a j) 107) (v :: vs) := by
  refine ⟨if_pos ⟨rfl, rfl⟩, pil_congr (fun i hi => ?_) h⟩
  show (if (107 : Nat) = 107 ∧ i = vs.length then lI v else b 107 i) = b 107 i
  rw [if_neg (by omega)]
theorem tyS_not {c : Nat} {ts ts' : List Bool} {vs : List Int} (hc : c = 12) (h : tyS c ts = some ts') (hv : okl ts vs) : ∃ a r, vs = a :: r ∧ b6 a := by
  subst hc
  match ts, vs, h, hv with
  | false :: r, v :: vs, h, hv => exact ⟨v, vs, rfl, okv_b6 hv.1⟩
theorem tyS_jn {c : Nat} {ts ts' : List Bool} {vs : List Int} (hc : c ≠ 12 ∧ c ≠ 13) (hc2 : c < 40) (h : tyS c ts = some ts') (hv : okl ts vs) : ∃ b a r, vs = b :: a :: r ∧ b6 a ∧ b6 b ∧ (1 ≤ c ∧ c ≤ 11) := by
  unfold tyS at h
  rw [if_neg (by omega), if_neg (by omega), if_neg (by omega), if_neg (by omega), if_neg (by omega)] at h
  split at h
  · next h6 =>
    match ts, vs, h, hv with
    | false :: false :: r, b :: a :: vs, h, hv => exact ⟨b, a, vs, rfl, okv_b6 hv.2.1, okv_b6 hv.1, by omega⟩
  · split at h
    · next h7 =>
      match ts, vs, h, hv with
      | true :: true :: r, b :: a :: vs, h, hv => exact ⟨b, a, vs, rfl, hv.2.1, hv.1, by omega⟩
    · split at h
      · next h8 =>
        match ts, vs, h, hv with
        | true :: true :: r, b :: a :: vs, h, hv => exact ⟨b, a, vs, rfl, hv.2.1, hv.1, by omega⟩
      · cases h
theorem tellLoop {env : Nat → Int} {ofn : Nat → Int → Int} {al : Nat → Bool} {w e : Nat} {v : Int} (hS : ShM g M o) (hw : w < 3) (hal : ∀ k, al k = true → b6 (env k)) (hb : ∀ k, b31 (env k)) (he : e ≤ 1600) :
    ∀ (cs : List Nat) (ts : List Bool) (vs : List Int) (s : MS) (k : Nat) (x3 : Option Value), c2 [some (.ref o), some (.int (nI w)), some (.int (nI k)), x3] 3 = true → k + cs.length = e → hol (mA s 50) (1600 + k) cs → okC al cs → (∃ t, tyC cs ts = some [t]) → okl ts vs → pil (mB s 107) vs → mF s 108 = nI vs.length → vs.length + cs.length ≤ 1700 → PE s env → ¬ mF s 54 = nI 3 → mA s 49 (3 + w) = nI e → rpn env ofn cs vs = [v] →
    Bd g yX6_codesTell cX6_codesTell 4 (some Jvm.ClassFile.FieldType.long) [] 2 0 0 (putM M o s) 19 [some (.ref o), some (.int (nI w)), some (.int (nI k)), x3] [] (QM M o (fun r s' => r = some (.long (lI v)) ∧ Fr [108] [] [] [107] s s')) noX := by
  intro cs
  induction cs with
  | nil =>
    intro ts vs s k x3 hx3 hk hh hc ht hv hp h108 hlen hE h54 h49 hr
    obtain ⟨t, ht⟩ := ht
    have hr : vs = [v] := hr
    subst hr
    have hk : k = e := hk
    refine r_ild2 (pc := 19) dX6_codesTell_19 ?_
    refine r_ald0 (pc := 20) dX6_codesTell_20 ?_
    refine m_getR hS (pc := 21) dX6_codesTell_21 fl_X6_115 ar49 ?_
    refine r_iconst (v := nI 3) (pc := 24) dX6_codesTell_24 (by decide) ?_
    refine r_ild1 (pc := 25) dX6_codesTell_25 ?_
    first | refine r_iaddN (pc := 26) dX6_codesTell_26 ?_ | refine r_iaddJ (pc := 26) dX6_codesTell_26 ?_ | refine r_iadd (pc := 26) dX6_codesTell_26 ?_
    refine m_iald hS (pc := 27) dX6_codesTell_27 ar49 (by omega) (by omega) ?_
    refine Bd.eqI h49 ?_
    first | refine r_icmp_geN (pc := 28) (tgt := 142) dX6_codesTell_28 (by decide) (by omega) (by omega) (fun h28 => ?_) (fun h28 => ?_) | refine r_icmp_ge (pc := 28) (tgt := 142) dX6_codesTell_28 (by decide) (fun h28 => ?_) (fun h28 => ?_)
    · skip
      refine r_ald0 (pc := 142) dX6_codesTell_142 ?_
      refine m_getR hS (pc := 143) dX6_codesTell_143 fl_X6_228 ar107 ?_
      refine r_iconst (v := nI 0) (pc := 146) dX6_codesTell_146 (by decide) ?_
      refine m_lald hS (pc := 147) dX6_codesTell_147 ar107 (by omega) (by omega) ?_
      refine Bd.eqL hp.1 ?_
      refine r_lret (pc := 148) dX6_codesTell_148 ?_
      exact ⟨s, rfl, rfl, Fr.rf⟩
    · skip
      exact absurd h28 (by omega)
  | cons c cs ih =>
    intro ts vs s k x3 hx3 hk hh hc ht hv hp h108 hlen hE h54 h49 hr
    obtain ⟨t, ht⟩ := ht
    have hk' : k + 1 + cs.length = e := by simp at hk; omega
    have hlen' : vs.length + 1 + cs.length ≤ 1700 := by simp at hlen; omega
    have hcc := hc c List.mem_cons_self
    have ht' : (tyS c ts).bind (tyC cs) = some [t] := ht
    have hr' : rpn env ofn cs (stp env ofn c vs) = [v] := hr
    cases e1 : tyS c ts with
    | none => rw [e1] at ht'; cases ht'
    | some ts1 =>
    rw [e1] at ht'
    have ht' : tyC cs ts1 = some [t] := ht'
    have hv1 := tyS_ok (env := env) (ofn := ofn) e1 hv
    have hpush : ∀ z : Int, pil (mB (tF (tB s 107 vs.length (lI z)) 108 (nI (vs.length + 1))) 107) (z :: vs) := fun z => by
      refine ⟨?_, pil_congr (fun i hi => ?_) hp⟩
      · show (if (107 : Nat) = 107 ∧ vs.length = vs.length then lI z else _) = lI z
        rw [if_pos ⟨rfl, rfl⟩]
      · show (if (107 : Nat) = 107 ∧ i = vs.length then lI z else mB s 107 i) = mB s 107 i
        rw [if_neg (by omega)]
    have hc1000 : c < 11000 := by
      rcases Nat.lt_or_ge c 1000 with q | q
      · omega
      · unfold tyS at e1; rw [if_pos q] at e1
        split at e1
        · assumption
        · cases e1
    refine r_ild2 (pc := 19) dX6_codesTell_19 ?_
    refine r_ald0 (pc := 20) dX6_codesTell_20 ?_
    refine m_getR hS (pc := 21) dX6_codesTell_21 fl_X6_115 ar49 ?_
    refine r_iconst (v := nI 3) (pc := 24) dX6_codesTell_24 (by decide) ?_
    refine r_ild1 (pc := 25) dX6_codesTell_25 ?_
    first | refine r_iaddN (pc := 26) dX6_codesTell_26 ?_ | refine r_iaddJ (pc := 26) dX6_codesTell_26 ?_ | refine r_iadd (pc := 26) dX6_codesTell_26 ?_
    refine m_iald hS (pc := 27) dX6_codesTell_27 ar49 (by omega) (by omega) ?_
    refine Bd.eqI h49 ?_
    first | refine r_icmp_geN (pc := 28) (tgt := 142) dX6_codesTell_28 (by decide) (by omega) (by omega) (fun h28 => ?_) (fun h28 => ?_) | refine r_icmp_ge (pc := 28) (tgt := 142) dX6_codesTell_28 (by decide) (fun h28 => ?_) (fun h28 => ?_)
    · skip
      exact absurd h28 (by omega)
    · skip
      refine r_ald0 (pc := 31) dX6_codesTell_31 ?_
      refine m_getR hS (pc := 32) dX6_codesTell_32 fl_X6_118 ar50 ?_
      refine r_sipush (v := nI 1600) (pc := 35) dX6_codesTell_35 (by decide) ?_
      refine r_ild2 (pc := 38) dX6_codesTell_38 ?_
      first | refine r_iaddN (pc := 39) dX6_codesTell_39 ?_ | refine r_iaddJ (pc := 39) dX6_codesTell_39 ?_ | refine r_iadd (pc := 39) dX6_codesTell_39 ?_
      refine m_iald hS (pc := 40) dX6_codesTell_40 ar50 (by omega) (by omega) ?_
      refine Bd.eqI hh.1 ?_
      refine r_ist3 (pc := 41) dX6_codesTell_41 ?_
      refine r_ild3 (pc := 42) dX6_codesTell_42 ?_
      refine r_sipush (v := nI 1000) (pc := 43) dX6_codesTell_43 (by decide) ?_
      first | refine r_icmp_ltN (pc := 46) (tgt := 62) dX6_codesTell_46 (by decide) (by omega) (by omega) (fun h46 => ?_) (fun h46 => ?_) | refine r_icmp_lt (pc := 46) (tgt := 62) dX6_codesTell_46 (by decide) (fun h46 => ?_) (fun h46 => ?_)
      · skip
        refine r_ild3 (pc := 62) dX6_codesTell_62 ?_
        refine r_bipush (v := nI 40) (pc := 63) dX6_codesTell_63 (by decide) ?_
        first | refine r_icmp_ltN (pc := 65) (tgt := 84) dX6_codesTell_65 (by decide) (by omega) (by omega) (fun h65 => ?_) (fun h65 => ?_) | refine r_icmp_lt (pc := 65) (tgt := 84) dX6_codesTell_65 (by decide) (fun h65 => ?_) (fun h65 => ?_)
        · skip
          refine r_ild3 (pc := 84) dX6_codesTell_84 ?_
          refine r_bipush (v := nI 13) (pc := 85) dX6_codesTell_85 (by decide) ?_
          first | refine r_icmp_neN (pc := 87) (tgt := 98) dX6_codesTell_87 (by decide) (by omega) (by omega) (fun h87 => ?_) (fun h87 => ?_) | refine r_icmp_ne (pc := 87) (tgt := 98) dX6_codesTell_87 (by decide) (fun h87 => ?_) (fun h87 => ?_)
          · skip
            refine r_ild3 (pc := 98) dX6_codesTell_98 ?_
            refine r_bipush (v := nI 12) (pc := 99) dX6_codesTell_99 (by decide) ?_
            first | refine r_icmp_neN (pc := 101) (tgt := 131) dX6_codesTell_101 (by decide) (by omega) (by omega) (fun h101 => ?_) (fun h101 => ?_) | refine r_icmp_ne (pc := 101) (tgt := 131) dX6_codesTell_101 (by decide) (fun h101 => ?_) (fun h101 => ?_)
            · skip
              have hjn : ∃ b a r, vs = b :: a :: r ∧ b6 a ∧ b6 b ∧ (1 ≤ c ∧ c ≤ 11) := tyS_jn ⟨by omega, by omega⟩ (by omega) e1 hv
              obtain ⟨b, a, r, rfl, ha6, hb6, hop⟩ := hjn
              have h108 : mF s 108 = nI (r.length + 2) := h108
              have hlen' : r.length + 2 + 1 + cs.length ≤ 1700 := hlen'
              have hs : stp env ofn c (b :: a :: r) = jn c a b :: r := by unfold stp; rw [if_neg (by omega), if_neg (by omega), if_neg (by omega), if_neg (by omega), if_neg (by omega)]
              rw [hs] at hv1 hr'
              have hp1 : pil (mB (tF (tB (tF s 108 (nI r.length)) 107 r.length (lI (jn c a b))) 108 (nI (r.length + 1))) 107) (jn c a b :: r) := pil_top hp.2.2
              have hN := ih ts1 _ (tF (tB (tF s 108 (nI r.length)) 107 r.length (lI (jn c a b))) 108 (nI (r.length + 1))) (k + 1) (some (.int (nI c))) rfl hk' hh.2 (okC_tl hc) ⟨t, ht'⟩ hv1 hp1 rfl (by simp at hlen ⊢; omega) hE h54 h49 hr'
              have hfr : Fr [108] [] [] [107] s (tF (tB (tF s 108 (nI r.length)) 107 r.length (lI (jn c a b))) 108 (nI (r.length + 1))) := Fr.tF (Fr.tB (Fr.tF Fr.rf (by decide)) (by decide)) (by decide)
              refine r_ald0 (pc := 131) dX6_codesTell_131 ?_
              refine r_ild3 (pc := 132) dX6_codesTell_132 ?_
              refine r_cV (pc := 133) dX6_codesTell_133 cv_X6_420 hS.k (ct_X6_qJoins hS hop (k := r.length) h108 (by simp at hlen ⊢; omega) hp.1 hp.2.1 ha6 hb6) rfl rfl (Nat.le_of_ble_eq_true rfl) (by decide) ?_
              rintro _ _ ⟨rfl, rfl⟩
              first | refine r_iinc2N (j := 1) (pc := 136) dX6_codesTell_136 rfl ?_ | refine r_iinc2 (pc := 136) dX6_codesTell_136 ?_
              refine r_goto (pc := 139) (tgt := 19) dX6_codesTell_139 (by decide) ?_
              exact Bd.post (fun r M' ⟨s', e1, e2, e3⟩ => ⟨s', e1, e2, Fr.trans hfr e3⟩) (fun _ _ h => h) hN
            · skip
              have hnot : ∃ a r, vs = a :: r ∧ b6 a := tyS_not (by omega) e1 hv
              obtain ⟨a, r, rfl, ha6⟩ := hnot
              obtain ⟨ha1, ha2⟩ := ha6
              have h108 : mF s 108 = nI (r.length + 1) := h108
              have hlen' : r.length + 1 + 1 + cs.length ≤ 1700 := hlen'
              have hs : stp env ofn c (a :: r) = (1 - a) :: r := by unfold stp; rw [if_neg (by omega), if_neg (by omega), if_neg (by omega), if_neg (by omega), if_pos (by omega)]
              rw [hs] at hv1 hr'
              have hp1 : pil (mB (tB s 107 r.length (lI (1 - a))) 107) ((1 - a) :: r) := pil_top hp.2
              have hN := ih ts1 _ (tB s 107 r.length (lI (1 - a))) (k + 1) (some (.int (nI c))) rfl hk' hh.2 (okC_tl hc) ⟨t, ht'⟩ hv1 hp1 h108 (by simp at hlen ⊢; omega) hE h54 h49 hr'
              have hfr : Fr [108] [] [] [107] s (tB s 107 r.length (lI (1 - a))) := Fr.tB Fr.rf (by decide)
              refine r_ald0 (pc := 104) dX6_codesTell_104 ?_
              refine m_getR hS (pc := 105) dX6_codesTell_105 fl_X6_228 ar107 ?_
              refine r_ald0 (pc := 108) dX6_codesTell_108 ?_
              refine m_getI hS (pc := 109) dX6_codesTell_109 fl_X6_409 ?_
              refine Bd.eqI h108 ?_
              refine r_iconst (v := nI 1) (pc := 112) dX6_codesTell_112 (by decide) ?_
              first | refine r_isubN (pc := 113) dX6_codesTell_113 (by omega) ?_ | refine r_isubM (pc := 113) dX6_codesTell_113 ?_ | refine r_isubJ (pc := 113) dX6_codesTell_113 ?_ | refine r_isub (pc := 113) dX6_codesTell_113 ?_
              refine r_lconst (v := lI 1) (pc := 114) dX6_codesTell_114 rfl ?_
              refine r_ald0 (pc := 115) dX6_codesTell_115 ?_
              refine m_getR hS (pc := 116) dX6_codesTell_116 fl_X6_228 ar107 ?_
              refine r_ald0 (pc := 119) dX6_codesTell_119 ?_
              refine m_getI hS (pc := 120) dX6_codesTell_120 fl_X6_409 ?_
              refine Bd.eqI h108 ?_
              refine r_iconst (v := nI 1) (pc := 123) dX6_codesTell_123 (by decide) ?_
              first | refine r_isubN (pc := 124) dX6_codesTell_124 (by omega) ?_ | refine r_isubM (pc := 124) dX6_codesTell_124 ?_ | refine r_isubJ (pc := 124) dX6_codesTell_124 ?_ | refine r_isub (pc := 124) dX6_codesTell_124 ?_
              refine m_lald hS (pc := 125) dX6_codesTell_125 ar107 (by omega) (by omega) ?_
              refine Bd.eqL hp.1 ?_
              first | refine r_lsubI (pc := 126) dX6_codesTell_126 ?_ | refine r_lsub (pc := 126) dX6_codesTell_126 ?_
              refine m_last hS (pc := 127) dX6_codesTell_127 ar107 (by omega) (by omega) ?_
              refine r_goto (pc := 128) (tgt := 136) dX6_codesTell_128 (by decide) ?_
              first | refine r_iinc2N (j := 1) (pc := 136) dX6_codesTell_136 rfl ?_ | refine r_iinc2 (pc := 136) dX6_codesTell_136 ?_
              refine r_goto (pc := 139) (tgt := 19) dX6_codesTell_139 (by decide) ?_
              exact Bd.post (fun r M' ⟨s', e1, e2, e3⟩ => ⟨s', e1, e2, Fr.trans hfr e3⟩) (fun _ _ h => h) hN
          · skip
            have hs : stp env ofn c vs = 1 :: vs := by unfold stp; rw [if_neg (by omega), if_neg (by omega), if_neg (by omega), if_pos (by omega)]
            rw [hs] at hv1 hr'
            have hN := ih ts1 _ (tF (tB s 107 vs.length (lI 1)) 108 (nI (vs.length + 1))) (k + 1) (some (.int (nI c))) rfl hk' hh.2 (okC_tl hc) ⟨t, ht'⟩ hv1 (hpush _) rfl (by simp; omega) hE h54 h49 hr'
            have hfr : Fr [108] [] [] [107] s (tF (tB s 107 vs.length (lI 1)) 108 (nI (vs.length + 1))) := Fr.tF (Fr.tB Fr.rf (by decide)) (by decide)
            refine r_ald0 (pc := 90) dX6_codesTell_90 ?_
            refine r_lconst (v := lI 1) (pc := 91) dX6_codesTell_91 rfl ?_
            refine r_cV (pc := 92) dX6_codesTell_92 cv_X6_412 hS.k (ct_X6_qPuts hS (k := vs.length) h108 (by omega)) rfl rfl (Nat.le_of_ble_eq_true rfl) (by decide) ?_
            rintro _ _ ⟨rfl, rfl⟩
            refine r_goto (pc := 95) (tgt := 136) dX6_codesTell_95 (by decide) ?_
            first | refine r_iinc2N (j := 1) (pc := 136) dX6_codesTell_136 rfl ?_ | refine r_iinc2 (pc := 136) dX6_codesTell_136 ?_
            refine r_goto (pc := 139) (tgt := 19) dX6_codesTell_139 (by decide) ?_
            exact Bd.post (fun r M' ⟨s', e1, e2, e3⟩ => ⟨s', e1, e2, Fr.trans hfr e3⟩) (fun _ _ h => h) hN
        · skip
          have hs : stp env ofn c vs = env (c - 40) :: vs := by unfold stp; rw [if_neg (by omega), if_neg (by omega), if_pos (by omega), clip_id (hal _ (hcc.elim (fun q => absurd q (by omega)) (fun q => q.2.2)))]
          rw [hs] at hv1 hr'
          have hN := ih ts1 _ (tF (tB s 107 vs.length (lI (env (c - 40)))) 108 (nI (vs.length + 1))) (k + 1) (some (.int (nI c))) rfl hk' hh.2 (okC_tl hc) ⟨t, ht'⟩ hv1 (hpush _) rfl (by simp; omega) hE h54 h49 hr'
          have hfr : Fr [108] [] [] [107] s (tF (tB s 107 vs.length (lI (env (c - 40)))) 108 (nI (vs.length + 1))) := Fr.tF (Fr.tB Fr.rf (by decide)) (by decide)
          refine r_ald0 (pc := 68) dX6_codesTell_68 ?_
          refine r_ald0 (pc := 69) dX6_codesTell_69 ?_
          refine r_ild3 (pc := 70) dX6_codesTell_70 ?_
          refine r_bipush (v := nI 40) (pc := 71) dX6_codesTell_71 (by decide) ?_
          first | refine r_isubN (pc := 73) dX6_codesTell_73 (by omega) ?_ | refine r_isubM (pc := 73) dX6_codesTell_73 ?_ | refine r_isubJ (pc := 73) dX6_codesTell_73 ?_ | refine r_isub (pc := 73) dX6_codesTell_73 ?_
          refine r_iconst (v := nI 0) (pc := 74) dX6_codesTell_74 (by decide) ?_
          refine r_cV (pc := 75) dX6_codesTell_75 cv_X6_416 hS.k (ct_X6_qPartOf hS (by omega) h54 hE (hb _)) rfl rfl (Nat.le_of_ble_eq_true rfl) (by decide) ?_
          rintro _ _ ⟨rfl, rfl⟩
          refine r_cV (pc := 78) dX6_codesTell_78 cv_X6_412 hS.k (ct_X6_qPuts hS (k := vs.length) h108 (by omega)) rfl rfl (Nat.le_of_ble_eq_true rfl) (by decide) ?_
          rintro _ _ ⟨rfl, rfl⟩
          refine r_goto (pc := 81) (tgt := 136) dX6_codesTell_81 (by decide) ?_
          first | refine r_iinc2N (j := 1) (pc := 136) dX6_codesTell_136 rfl ?_ | refine r_iinc2 (pc := 136) dX6_codesTell_136 ?_
          refine r_goto (pc := 139) (tgt := 19) dX6_codesTell_139 (by decide) ?_
          exact Bd.post (fun r M' ⟨s', e1, e2, e3⟩ => ⟨s', e1, e2, Fr.trans hfr e3⟩) (fun _ _ h => h) hN
      · skip
        have hs : stp env ofn c vs = ((c : Int) - 1000) :: vs := if_pos (by omega)
        rw [hs] at hv1 hr'
        have hN := ih ts1 _ (tF (tB s 107 vs.length (lI ((c : Int) - 1000))) 108 (nI (vs.length + 1))) (k + 1) (some (.int (nI c))) rfl hk' hh.2 (okC_tl hc) ⟨t, ht'⟩ hv1 (hpush _) rfl (by simp; omega) hE h54 h49 hr'
        refine r_ald0 (pc := 49) dX6_codesTell_49 ?_
        refine r_ild3 (pc := 50) dX6_codesTell_50 ?_
        refine r_sipush (v := nI 1000) (pc := 51) dX6_codesTell_51 (by decide) ?_
        first | refine r_isubN (pc := 54) dX6_codesTell_54 (by omega) ?_ | refine r_isubM (pc := 54) dX6_codesTell_54 ?_ | refine r_isubJ (pc := 54) dX6_codesTell_54 ?_ | refine r_isub (pc := 54) dX6_codesTell_54 ?_
        first | refine r_i2lM (pc := 55) dX6_codesTell_55 (by omega) ?_ | refine r_i2lI (pc := 55) dX6_codesTell_55 (by constructor <;> omega) ?_ | refine r_i2lT (pc := 55) dX6_codesTell_55 ?_
        refine Bd.eqL (x' := lI ((c : Int) - 1000)) (by congr 1; omega) ?_
        refine r_cV (pc := 56) dX6_codesTell_56 cv_X6_412 hS.k (ct_X6_qPuts hS (k := vs.length) h108 (by omega)) rfl rfl (Nat.le_of_ble_eq_true rfl) (by decide) ?_
        rintro _ _ ⟨rfl, rfl⟩
        have hfr : Fr [108] [] [] [107] s (tF (tB s 107 vs.length (lI ((c : Int) - 1000))) 108 (nI (vs.length + 1))) := Fr.tF (Fr.tB Fr.rf (by decide)) (by decide)
        refine r_goto (pc := 59) (tgt := 136) dX6_codesTell_59 (by decide) ?_
        first | refine r_iinc2N (j := 1) (pc := 136) dX6_codesTell_136 rfl ?_ | refine r_iinc2 (pc := 136) dX6_codesTell_136 ?_
        refine r_goto (pc := 139) (tgt := 19) dX6_codesTell_139 (by decide) ?_
        exact Bd.post (fun r M' ⟨s', e1, e2, e3⟩ => ⟨s', e1, e2, Fr.trans hfr e3⟩) (fun _ _ h => h) hN
end M3
