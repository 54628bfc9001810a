set_option maxRecDepth 100000
/-! THE OTHER SIDE: a state's changes -/
section Rows13
variable {g : GC} {y : MethodName} {cc : ByteArray} {nL : Nat} {hh : List (Nat × Nat × Nat × Nat)} {d kc ks : Nat} {M : MM} {pc : Nat} {lv : List (Option Value)} {Q : Option Value → MM → Prop} {X : Nat → MM → Prop}
theorem r_aretR {a : Nat} {n : String} (hd : decode cc pc = .ok (.areturn, 1)) (hQ : Q (some (.ref a)) M) : Bd g y cc nL (some (.object n)) hh d kc ks M pc lv [.ref a] Q X := r_aret (r := some a) hd (Or.inl ⟨n, rfl⟩) hQ
end Rows13
section X3
variable {g : GC} {M : MM} {o b n : Nat} {s : XS} {F K : Nat → Nat} {t : St}
theorem upN {f : Nat → Nat} {p v q : Nat} : nI (va_up f p v q) = if q = p then nI v else nI (f q) := by
  unfold va_up; split <;> rfl
theorem SX.house {p v : Nat} (h : SX s b n F K t) : SX (uI s (b + 1) p (nI v)) b n F K (sHs t p v) := by
  obtain ⟨h1, h2, h3, h4, h5, h6, h7, h8⟩ := h
  refine ⟨?_, ?_, fun q hq => ?_, fun q hq => ?_, fun q hq => ?_, fun q hq => ?_, fun q hq => ?_, fun q hq r hr => ?_⟩
  · rw [iX_c (by omega)]; exact h1
  · rw [iX_c (by omega)]; exact h2
  · show iX (uI s (b + 1) p (nI v)) (b + 1) q = nI (va_up (hs t) p v q)
    rw [upN, iX_uI]
    by_cases e : q = p
    · rw [if_pos ⟨rfl, e⟩, if_pos e]
    · rw [if_neg (fun z => e z.2), if_neg e]; exact h3 q hq
  · rw [iX_c (by omega)]; exact h4 q hq
  · rw [iX_c (by omega)]; exact h5 q hq
  · rw [iX_c (by omega)]; exact h6 q hq
  · rw [iX_c (by omega)]; exact h7 q hq
  · rw [iX_c (by omega)]; exact h8 q hq r hr
theorem SX.look {p v : Nat} (h : SX s b n F K t) : SX (uI s (b + 2) p (nI v)) b n F K (sLk t p v) := by
  obtain ⟨h1, h2, h3, h4, h5, h6, h7, h8⟩ := h
  refine ⟨?_, ?_, fun q hq => ?_, fun q hq => ?_, fun q hq => ?_, fun q hq => ?_, fun q hq => ?_, fun q hq r hr => ?_⟩
  · rw [iX_c (by omega)]; exact h1
  · rw [iX_c (by omega)]; exact h2
  · rw [iX_c (by omega)]; exact h3 q hq
  · show iX (uI s (b + 2) p (nI v)) (b + 2) q = nI (va_up (lk t) p v q)
    rw [upN, iX_uI]
    by_cases e : q = p
    · rw [if_pos ⟨rfl, e⟩, if_pos e]
    · rw [if_neg (fun z => e z.2), if_neg e]; exact h4 q hq
  · rw [iX_c (by omega)]; exact h5 q hq
  · rw [iX_c (by omega)]; exact h6 q hq
  · rw [iX_c (by omega)]; exact h7 q hq
  · rw [iX_c (by omega)]; exact h8 q hq r hr
theorem SX.spare {p v : Nat} (hv : v < 2) (h : SX s b n F K t) : SX (uI s (b + 5) p (nI v)) b n F K (sSp t p v) := by
  obtain ⟨h1, h2, h3, h4, h5, h6, h7, h8⟩ := h
  refine ⟨?_, ?_, fun q hq => ?_, fun q hq => ?_, fun q hq => ?_, fun q hq => ?_, fun q hq => ?_, fun q hq r hr => ?_⟩
  · rw [iX_c (by omega)]; exact h1
  · rw [iX_c (by omega)]; exact h2
  · rw [iX_c (by omega)]; exact h3 q hq
  · rw [iX_c (by omega)]; exact h4 q hq
  · rw [iX_c (by omega)]; exact h5 q hq
  · rw [iX_c (by omega)]; exact h6 q hq
  · show iX (uI s (b + 5) p (nI v)) (b + 5) q = zI (va_up (sp t) p v q = 1)
    rw [iX_uI]
    unfold va_up
    by_cases e : q = p
    · rw [if_pos ⟨rfl, e⟩, if_pos e]
      have hv2 : v = 0 ∨ v = 1 := by omega
      rcases hv2 with rfl | rfl
      · rw [zI_f (by decide)]; rfl
      · rw [zI_t rfl]; rfl
    · rw [if_neg (fun z => e z.2), if_neg e]; exact h7 q hq
  · rw [iX_c (by omega)]; exact h8 q hq r hr
theorem SX.think {p w v : Nat} (h : SX s b n F K t) : SX (uI s (b + (7 + p)) w (nI v)) b n F K (sTh t p w v) := by
  obtain ⟨h1, h2, h3, h4, h5, h6, h7, h8⟩ := h
  refine ⟨?_, ?_, fun q hq => ?_, fun q hq => ?_, fun q hq => ?_, fun q hq => ?_, fun q hq => ?_, fun q hq r hr => ?_⟩
  · rw [iX_c (by omega)]; exact h1
  · rw [iX_c (by omega)]; exact h2
  · rw [iX_c (by omega)]; exact h3 q hq
  · rw [iX_c (by omega)]; exact h4 q hq
  · rw [iX_c (by omega)]; exact h5 q hq
  · rw [iX_c (by omega)]; exact h6 q hq
  · rw [iX_c (by omega)]; exact h7 q hq
  · show iX (uI s (b + (7 + p)) w (nI v)) (b + (7 + q)) r = nI (va_up (th t) p (va_up (th t p) w v) q r)
    rw [iX_uI]
    by_cases e : q = p
    · subst e
      rw [show va_up (th t) q (va_up (th t q) w v) q r = va_up (th t q) w v r by unfold va_up; rw [if_pos rfl], upN]
      by_cases e2 : r = w
      · rw [if_pos ⟨rfl, e2⟩, if_pos e2]
      · rw [if_neg (fun z => e2 z.2), if_neg e2]; exact h8 q hq r hr
    · rw [if_neg (fun z => e (by omega))]
      rw [show va_up (th t) p (va_up (th t p) w v) q r = th t q r by unfold va_up; rw [if_neg e]]
      exact h8 q hq r hr
theorem SX.year {v : Nat} (h : SX s b n F K t) : SX (uI s b 0 (nI v)) b n F K (sYr t v) := by
  obtain ⟨h1, h2, h3, h4, h5, h6, h7, h8⟩ := h
  refine ⟨iX_s, ?_, fun q hq => ?_, fun q hq => ?_, fun q hq => ?_, fun q hq => ?_, fun q hq => ?_, fun q hq r hr => ?_⟩
  · rw [iX_j (by decide)]; exact h2
  · rw [iX_c (by omega)]; exact h3 q hq
  · rw [iX_c (by omega)]; exact h4 q hq
  · rw [iX_c (by omega)]; exact h5 q hq
  · rw [iX_c (by omega)]; exact h6 q hq
  · rw [iX_c (by omega)]; exact h7 q hq
  · rw [iX_c (by omega)]; exact h8 q hq r hr
/-- what is written elsewhere leaves a state as it was -/
theorem SX.fr {s' : XS} (h : SX s b n F K t) (hf : ∀ c, b ≤ c → c < b + 15 → ∀ j, (c = b → j < 2) → iX s' c j = iX s c j) (hn : n ≤ 8) : SX s' b n F K t := by
  obtain ⟨h1, h2, h3, h4, h5, h6, h7, h8⟩ := h
  refine ⟨?_, ?_, fun q hq => ?_, fun q hq => ?_, fun q hq => ?_, fun q hq => ?_, fun q hq => ?_, fun q hq r hr => ?_⟩
  · rw [hf b (by omega) (by omega) 0 (fun _ => by decide)]; exact h1
  · rw [hf b (by omega) (by omega) 1 (fun _ => by decide)]; exact h2
  · rw [hf (b + 1) (by omega) (by omega) q (fun e => by omega)]; exact h3 q hq
  · rw [hf (b + 2) (by omega) (by omega) q (fun e => by omega)]; exact h4 q hq
  · rw [hf (b + 3) (by omega) (by omega) q (fun e => by omega)]; exact h5 q hq
  · rw [hf (b + 4) (by omega) (by omega) q (fun e => by omega)]; exact h6 q hq
  · rw [hf (b + 5) (by omega) (by omega) q (fun e => by omega)]; exact h7 q hq
  · rw [hf (b + (7 + q)) (by omega) (by omega) r (fun e => by omega)]; exact h8 q hq r hr
theorem SX.uL {c j : Nat} {v : Int64} (h : SX s b n F K t) : SX (uL s c j v) b n F K t := h
theorem SX.ask {x1 x2 x3 x4 : Int} (h : SX s b n F K t) : SX (askX s x1 x2 x3 x4) b n F K t := h
theorem oI_none : oI none = -1 := rfl
theorem oI_some {p : Nat} : oI (some p) = nI p := rfl
/-- what a state's own may change: all but its references -/
def stP (b c : Nat) : Prop := b ≤ c ∧ c < b + 56
theorem ct_X5_changes {h k : Nat} (hS : ShX g M o) (hX : FxX (rX s) o) (hb : isS b) (hN : SX s b n F K t) (hB : SB n t) (hn8 : n ≤ 8) (hh : h < 9) (hk : k < 9) :
    Ct g yX5_changes cX5_changes 5 (some ((Jvm.ClassFile.FieldType.object "Retouched$State"))) 1 0 0 [.ref (o + b), .int (nI h), .int (nI k)] (putX M o s) (QX M o (fun v s' => v = some (.ref (o + b)) ∧ SX s' b n F K (changesS n t h k) ∧ rX s' = rX s ∧ FrX (fun c => c = b + 1) s s')) noX := by
  refine Ct.of (by decide) (Nat.le_of_ble_eq_true rfl) rfl ?_
  cases e1 : who t n h with
  | none =>
    cases e2 : who t n k with
    | none =>
      have e0 : changesS n t h k = t := by unfold changesS; rw [e1, e2]
      rw [e0]
      refine r_ald0 (pc := 0) dX5_changes_0 ?_
      refine r_ild1 (pc := 1) dX5_changes_1 ?_
      refine r_cV (pc := 2) dX5_changes_2 cv_X5_68 (hS.k (c := b) (st_ow hb) (st_kd hb)) (ct_X5_who hS hX hb hN hB hn8 (by omega)) rfl rfl (Nat.le_of_ble_eq_true rfl) (by decide) ?_
      rintro _ _ ⟨rfl, rfl⟩
      rw [e1]
      refine r_ist3 (pc := 5) dX5_changes_5 ?_
      refine r_ald0 (pc := 6) dX5_changes_6 ?_
      refine r_ild2 (pc := 7) dX5_changes_7 ?_
      refine r_cV (pc := 8) dX5_changes_8 cv_X5_68 (hS.k (c := b) (st_ow hb) (st_kd hb)) (ct_X5_who hS hX hb hN hB hn8 (by omega)) rfl rfl (Nat.le_of_ble_eq_true rfl) (by decide) ?_
      rintro _ _ ⟨rfl, rfl⟩
      rw [e2]
      refine r_ist4 (pc := 11) dX5_changes_11 ?_
      refine r_ild3 (pc := 13) dX5_changes_13 ?_
      refine r_iconst (v := -1) (pc := 14) dX5_changes_14 (by decide) ?_
      first | refine r_icmp_eqN (pc := 15) (tgt := 25) dX5_changes_15 (by decide) (by omega) (by omega) (fun h15 => ?_) (fun h15 => ?_) | refine r_icmp_eq (pc := 15) (tgt := 25) dX5_changes_15 (by decide) (fun h15 => ?_) (fun h15 => ?_)
      · skip
        refine r_ild4 (pc := 25) dX5_changes_25 ?_
        refine r_iconst (v := -1) (pc := 27) dX5_changes_27 (by decide) ?_
        first | refine r_icmp_eqN (pc := 28) (tgt := 39) dX5_changes_28 (by decide) (by omega) (by omega) (fun h28 => ?_) (fun h28 => ?_) | refine r_icmp_eq (pc := 28) (tgt := 39) dX5_changes_28 (by decide) (fun h28 => ?_) (fun h28 => ?_)
        · skip
          refine r_ald0 (pc := 39) dX5_changes_39 ?_
          refine r_aretR (pc := 40) dX5_changes_40 ?_
          exact ⟨s, rfl, rfl, hN, rfl, FrX.rf⟩
        · skip
          exact absurd rfl h28
      · skip
        exact absurd rfl h15
    | some r =>
      have hr := who_lt e2
      have e0 : changesS n t h k = sHs t r h := by unfold changesS; rw [e1, e2]
      rw [e0]
      refine r_ald0 (pc := 0) dX5_changes_0 ?_
      refine r_ild1 (pc := 1) dX5_changes_1 ?_
      refine r_cV (pc := 2) dX5_changes_2 cv_X5_68 (hS.k (c := b) (st_ow hb) (st_kd hb)) (ct_X5_who hS hX hb hN hB hn8 (by omega)) rfl rfl (Nat.le_of_ble_eq_true rfl) (by decide) ?_
      rintro _ _ ⟨rfl, rfl⟩
      rw [e1]
      refine r_ist3 (pc := 5) dX5_changes_5 ?_
      refine r_ald0 (pc := 6) dX5_changes_6 ?_
      refine r_ild2 (pc := 7) dX5_changes_7 ?_
      refine r_cV (pc := 8) dX5_changes_8 cv_X5_68 (hS.k (c := b) (st_ow hb) (st_kd hb)) (ct_X5_who hS hX hb hN hB hn8 (by omega)) rfl rfl (Nat.le_of_ble_eq_true rfl) (by decide) ?_
      rintro _ _ ⟨rfl, rfl⟩
      rw [e2, oI_some]
      refine r_ist4 (pc := 11) dX5_changes_11 ?_
      refine r_ild3 (pc := 13) dX5_changes_13 ?_
      refine r_iconst (v := -1) (pc := 14) dX5_changes_14 (by decide) ?_
      first | refine r_icmp_eqN (pc := 15) (tgt := 25) dX5_changes_15 (by decide) (by omega) (by omega) (fun h15 => ?_) (fun h15 => ?_) | refine r_icmp_eq (pc := 15) (tgt := 25) dX5_changes_15 (by decide) (fun h15 => ?_) (fun h15 => ?_)
      · skip
        refine r_ild4 (pc := 25) dX5_changes_25 ?_
        refine r_iconst (v := -1) (pc := 27) dX5_changes_27 (by decide) ?_
        first | refine r_icmp_eqN (pc := 28) (tgt := 39) dX5_changes_28 (by decide) (by omega) (by omega) (fun h28 => ?_) (fun h28 => ?_) | refine r_icmp_eq (pc := 28) (tgt := 39) dX5_changes_28 (by decide) (fun h28 => ?_) (fun h28 => ?_)
        · skip
          exact absurd h28 (nI_m1 (by omega))
        · skip
          refine r_ald0 (pc := 31) dX5_changes_31 ?_
          refine x_getR (c := b) hS (st_ow hb) (st_kd hb) (pc := 32) dX5_changes_32 fl_X5_15 (fs_3 hX hb) ?_
          refine r_ild4 (pc := 35) dX5_changes_35 ?_
          refine r_ild1 (pc := 37) dX5_changes_37 ?_
          refine x_iast (c := (b + 1)) hS (st_ow1 hb) (st_kd1 hb) (st_ln1 hb) (pc := 38) dX5_changes_38 (by omega) (by omega) ?_
          refine r_ald0 (pc := 39) dX5_changes_39 ?_
          refine r_aretR (pc := 40) dX5_changes_40 ?_
          exact ⟨_, rfl, rfl, hN.house, rfl, FrX.rf.uI rfl⟩
      · skip
        exact absurd rfl h15
  | some p =>
    have hp := who_lt e1
    cases e2 : who t n k with
    | none =>
      have e0 : changesS n t h k = sHs t p k := by unfold changesS; rw [e1, e2]
      rw [e0]
      refine r_ald0 (pc := 0) dX5_changes_0 ?_
      refine r_ild1 (pc := 1) dX5_changes_1 ?_
      refine r_cV (pc := 2) dX5_changes_2 cv_X5_68 (hS.k (c := b) (st_ow hb) (st_kd hb)) (ct_X5_who hS hX hb hN hB hn8 (by omega)) rfl rfl (Nat.le_of_ble_eq_true rfl) (by decide) ?_
      rintro _ _ ⟨rfl, rfl⟩
      rw [e1, oI_some]
      refine r_ist3 (pc := 5) dX5_changes_5 ?_
      refine r_ald0 (pc := 6) dX5_changes_6 ?_
      refine r_ild2 (pc := 7) dX5_changes_7 ?_
      refine r_cV (pc := 8) dX5_changes_8 cv_X5_68 (hS.k (c := b) (st_ow hb) (st_kd hb)) (ct_X5_who hS hX hb hN hB hn8 (by omega)) rfl rfl (Nat.le_of_ble_eq_true rfl) (by decide) ?_
      rintro _ _ ⟨rfl, rfl⟩
      rw [e2]
      refine r_ist4 (pc := 11) dX5_changes_11 ?_
      refine r_ild3 (pc := 13) dX5_changes_13 ?_
      refine r_iconst (v := -1) (pc := 14) dX5_changes_14 (by decide) ?_
      first | refine r_icmp_eqN (pc := 15) (tgt := 25) dX5_changes_15 (by decide) (by omega) (by omega) (fun h15 => ?_) (fun h15 => ?_) | refine r_icmp_eq (pc := 15) (tgt := 25) dX5_changes_15 (by decide) (fun h15 => ?_) (fun h15 => ?_)
      · skip
        exact absurd h15 (nI_m1 (by omega))
      · skip
        refine r_ald0 (pc := 18) dX5_changes_18 ?_
        refine x_getR (c := b) hS (st_ow hb) (st_kd hb) (pc := 19) dX5_changes_19 fl_X5_15 (fs_3 hX hb) ?_
        refine r_ild3 (pc := 22) dX5_changes_22 ?_
        refine r_ild2 (pc := 23) dX5_changes_23 ?_
        refine x_iast (c := (b + 1)) hS (st_ow1 hb) (st_kd1 hb) (st_ln1 hb) (pc := 24) dX5_changes_24 (by omega) (by omega) ?_
        refine r_ild4 (pc := 25) dX5_changes_25 ?_
        refine r_iconst (v := -1) (pc := 27) dX5_changes_27 (by decide) ?_
        first | refine r_icmp_eqN (pc := 28) (tgt := 39) dX5_changes_28 (by decide) (by omega) (by omega) (fun h28 => ?_) (fun h28 => ?_) | refine r_icmp_eq (pc := 28) (tgt := 39) dX5_changes_28 (by decide) (fun h28 => ?_) (fun h28 => ?_)
        · skip
          refine r_ald0 (pc := 39) dX5_changes_39 ?_
          refine r_aretR (pc := 40) dX5_changes_40 ?_
          exact ⟨_, rfl, rfl, hN.house, rfl, FrX.rf.uI rfl⟩
        · skip
          exact absurd rfl h28
    | some r =>
      have hr := who_lt e2
      have e0 : changesS n t h k = sHs (sHs t p k) r h := by unfold changesS; rw [e1, e2]
      rw [e0]
      refine r_ald0 (pc := 0) dX5_changes_0 ?_
      refine r_ild1 (pc := 1) dX5_changes_1 ?_
      refine r_cV (pc := 2) dX5_changes_2 cv_X5_68 (hS.k (c := b) (st_ow hb) (st_kd hb)) (ct_X5_who hS hX hb hN hB hn8 (by omega)) rfl rfl (Nat.le_of_ble_eq_true rfl) (by decide) ?_
      rintro _ _ ⟨rfl, rfl⟩
      rw [e1, oI_some]
      refine r_ist3 (pc := 5) dX5_changes_5 ?_
      refine r_ald0 (pc := 6) dX5_changes_6 ?_
      refine r_ild2 (pc := 7) dX5_changes_7 ?_
      refine r_cV (pc := 8) dX5_changes_8 cv_X5_68 (hS.k (c := b) (st_ow hb) (st_kd hb)) (ct_X5_who hS hX hb hN hB hn8 (by omega)) rfl rfl (Nat.le_of_ble_eq_true rfl) (by decide) ?_
      rintro _ _ ⟨rfl, rfl⟩
      rw [e2, oI_some]
      refine r_ist4 (pc := 11) dX5_changes_11 ?_
      refine r_ild3 (pc := 13) dX5_changes_13 ?_
      refine r_iconst (v := -1) (pc := 14) dX5_changes_14 (by decide) ?_
      first | refine r_icmp_eqN (pc := 15) (tgt := 25) dX5_changes_15 (by decide) (by omega) (by omega) (fun h15 => ?_) (fun h15 => ?_) | refine r_icmp_eq (pc := 15) (tgt := 25) dX5_changes_15 (by decide) (fun h15 => ?_) (fun h15 => ?_)
      · skip
        exact absurd h15 (nI_m1 (by omega))
      · skip
        refine r_ald0 (pc := 18) dX5_changes_18 ?_
        refine x_getR (c := b) hS (st_ow hb) (st_kd hb) (pc := 19) dX5_changes_19 fl_X5_15 (fs_3 hX hb) ?_
        refine r_ild3 (pc := 22) dX5_changes_22 ?_
        refine r_ild2 (pc := 23) dX5_changes_23 ?_
        refine x_iast (c := (b + 1)) hS (st_ow1 hb) (st_kd1 hb) (st_ln1 hb) (pc := 24) dX5_changes_24 (by omega) (by omega) ?_
        refine r_ild4 (pc := 25) dX5_changes_25 ?_
        refine r_iconst (v := -1) (pc := 27) dX5_changes_27 (by decide) ?_
        first | refine r_icmp_eqN (pc := 28) (tgt := 39) dX5_changes_28 (by decide) (by omega) (by omega) (fun h28 => ?_) (fun h28 => ?_) | refine r_icmp_eq (pc := 28) (tgt := 39) dX5_changes_28 (by decide) (fun h28 => ?_) (fun h28 => ?_)
        · skip
          exact absurd h28 (nI_m1 (by omega))
        · skip
          refine r_ald0 (pc := 31) dX5_changes_31 ?_
          refine x_getR (c := b) hS (st_ow hb) (st_kd hb) (pc := 32) dX5_changes_32 fl_X5_15 (fs_3 hX hb) ?_
          refine r_ild4 (pc := 35) dX5_changes_35 ?_
          refine r_ild1 (pc := 37) dX5_changes_37 ?_
          refine x_iast (c := (b + 1)) hS (st_ow1 hb) (st_kd1 hb) (st_ln1 hb) (pc := 38) dX5_changes_38 (by omega) (by omega) ?_
          refine r_ald0 (pc := 39) dX5_changes_39 ?_
          refine r_aretR (pc := 40) dX5_changes_40 ?_
          exact ⟨_, rfl, rfl, hN.house.house, rfl, FrX.uI (P := fun c => c = b + 1) (FrX.uI FrX.rf rfl) rfl⟩
end X3
