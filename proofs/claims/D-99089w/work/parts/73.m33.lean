set_option maxRecDepth 100000
/-! THE MODEL: parts of sums -/
section M33
variable {g : GC} {M : MM} {o : Nat} {s s' sB : MS} {M1 : MM} {q : Sg} {f : Nat → Nat} {n a x : Nat}
/-- a state of the reader of sums: B waits below -/
def CFG (s : MS) (f : Nat → Nat) (n x : Nat) (B : List Nat) (c : Cf) : Prop := RP s f n c.2.1 ∧ RQ s c.2.2.1 (c.2.2.2.1 ++ B) c.2.2.2.2 ∧ mF s 106 = nI B.length ∧ mF s 54 = nI x ∧ iC n B.length c ∧ (∀ v ∈ B, v = 10 ∨ v = 11 ∨ v = 12 ∨ v = 25) ∧ x ≤ 3
def bQ (s : MS) (e : Nat × Nat) : Prop := BD s e ∧ ∃ c, c ≤ 1610 ∧ mF s 102 = nI c
abbrev FQ (s s' : MS) : Prop := Fr [2, 4, 5, 6, 10, 102, 104, 105] [] [101, 103] [] s s'
theorem runC_some {k : Nat} {c : Cf} {r : Ou} (h : runC f n x k c = some r) : ∃ k1, k = k1 + 1 ∧ ((∃ d, stpC f n x c = .inl d ∧ runC f n x k1 d = some r) ∨ stpC f n x c = .inr r) := by
  cases k with
  | zero => cases h
  | succ k1 =>
    refine ⟨k1, rfl, ?_⟩
    have h : (match stpC f n x c with | .inl d => runC f n x k1 d | .inr r => some r) = some r := h
    cases hs : stpC f n x c with
    | inl d => rw [hs] at h; exact Or.inl ⟨d, rfl, h⟩
    | inr r' => rw [hs] at h; cases h; exact Or.inr rfl
theorem RP.fr5 {fs gs as bs : List Nat} (h : RP s f n a) (hf : Fr fs gs as bs s s') (h5 : mF s' 5 = nI 0 ∧ mF s' 6 = mF s 6) (h1 : 2 ∉ fs ∧ 3 ∉ fs ∧ 4 ∉ fs) (h2 : 0 ∉ as ∧ ∀ e ∈ wdT, e.1 ∉ as) : RP s' f n a := by
  obtain ⟨⟨r1, r2, r3, r4, r5, r6⟩, b1, ⟨e, e1, e2, e3⟩, w1⟩ := h
  exact ⟨⟨(hf.1 3 h1.2.1).trans r1, (hf.1 2 h1.1).trans r2, r3, r4, by rw [hf.2.2.1 0 h2.1]; exact r5, r6⟩, h5.1, ⟨e, (hf.1 4 h1.2.2).trans e1, e2, e3⟩, w1.1.fr hf h2.2, h5.2.trans w1.2⟩
theorem BD.fr {fs gs as bs : List Nat} {e : Nat × Nat} (h : BD s e) (hf : Fr fs gs as bs s s') (h1 : 5 ∉ fs ∧ 6 ∉ fs) : BD s' e := ⟨(hf.1 5 h1.1).trans h.1, (hf.1 6 h1.2).trans h.2.1, h.2.2⟩
theorem fr_at2 {v : Int32} : Fr [2] [] [] [] s (tF s 2 v) := Fr.tF Fr.rf (by decide)
/-- what is told behind parts: a fault, or the state behind it -/
def PtQ (f : Nat → Nat) (n x : Nat) (B : List Nat) (k : Nat) (r : Ou) (s : MS) (v : Option Value) (s' : MS) : Prop := v = none ∧ FQ s s' ∧ ((∃ e, r = .error e ∧ bQ s' e) ∨ ∃ k' c', k' < k ∧ c'.1 = false ∧ runC f n x k' c' = some r ∧ CFG s' f n x B c')
theorem PtQ.mono {B : List Nat} {k k2 : Nat} {r : Ou} {s1 : MS} {v : Option Value} (hk : k ≤ k2) (hf : FQ s s1) (h : PtQ f n x B k r s1 v s') : PtQ f n x B k2 r s v s' := by
  obtain ⟨h1, h2, h3⟩ := h
  refine ⟨h1, hf.trans h2, ?_⟩
  rcases h3 with h3 | ⟨k', c', h4, h5⟩
  · exact Or.inl h3
  · exact Or.inr ⟨k', c', by omega, h5⟩
/-- a fault stands: the loop ends -/
theorem partBad {B : List Nat} {k : Nat} {r : Ou} {e : Nat × Nat} {s1 : MS} {w2 w3 w4 w5 : Option Value} (hS : ShM g M o) (hr : r = .error e) (hB : bQ s1 e) (hf : FQ s s1) :
    Bd g yX6_qPartTold cX6_qPartTold 6 none [] 5 0 0 (putM M o s1) 2 [some (.ref o), some (.int (nI 1)), w2, w3, w4, w5] [] (QM M o (PtQ f n x B k r s)) noX := by
  have hb : mF s1 5 ≠ nI 0 := hB.1.ne
  refine r_ild1 (pc := 2) dX6_qPartTold_2 ?_
  refine r_if_eqN (pc := 3) (tgt := 186) dX6_qPartTold_3 (by decide) (by omega) (fun h3 => ?_) (fun h3 => ?_)
  · skip
    exact absurd h3 (by decide)
  · skip
    refine r_ald0 (pc := 6) dX6_qPartTold_6 ?_
    refine m_getI hS (pc := 7) dX6_qPartTold_7 fl_X6_237 ?_
    refine r_if_ne (pc := 10) (tgt := 186) dX6_qPartTold_10 (by decide) (fun h10 => ?_) (fun h10 => ?_)
    · skip
      refine r_ald0 (pc := 186) dX6_qPartTold_186 ?_
      refine m_getI hS (pc := 187) dX6_qPartTold_187 fl_X6_237 ?_
      refine r_if_eq (pc := 190) (tgt := 194) dX6_qPartTold_190 (by decide) (fun h190 => ?_) (fun h190 => ?_)
      · skip
        exact absurd h190 hb
      · skip
        refine r_vret (pc := 193) dX6_qPartTold_193 ?_
        exact ⟨_, rfl, rfl, hf, Or.inl ⟨e, hr, hB⟩⟩
    · skip
      exact absurd h10 hb
theorem sgOk40 : sgOk 40 := by unfold sgOk; decide
theorem sgOk_all : ∀ c ∈ ([40, 41, 42, 43, 44, 45, 47, 59, 60, 61, 62, 91, 93] : List Nat), sgOk c := by unfold sgOk; decide
theorem RP.step {p c : Nat} {s1 : MS} (h : RP s f n p) (hp : p < n) (hc : f p = c) (hs : sgOk c) (h2 : mF s1 2 = nI (p + 1)) (hf : ∀ i, i = 3 ∨ i = 5 ∨ i = 6 → mF s1 i = mF s i) (ha : mA s1 = mA s) (h4 : mF s1 4 = mF s 4) : RP s1 f n (p + 1) :=
  h.mv hp h2 hf ha (h.2.2.1.sign h4 (Nat.lt_succ_self _) (ptd_sign (by rw [hc]; exact hs.1) (by rw [hc]; exact hs.2.1)))
theorem iC_pop {e a op : Nat} {m : Bool} {cs V : List Nat} (h : iC n e (m, a, cs, V, op)) : (popW gO V).1.length ≤ op := by
  have h3 : cO V ≤ op := h.2.2.1
  have p2 := cO_pop gO V
  have p3 : cO (popW gO V).1 = (popW gO V).1.length := cO_all (fun v hv => by
    have := popW_all gO V v hv
    unfold gO at this
    have : 60 ≤ v := by simpa using this
    omega)
  omega
/-- the last part of qPartTold: a part's code, a number -/
theorem partLeaf {B cs V : List Nat} {op k : Nat} {r : Ou} {p : Nat} {s1 : MS} {w2 w3 w4 w5 : Option Value} (hS : ShM g M o) (hp : skip f n p = p)
    (h0 : ¬ (p < n ∧ f p = 40)) (h1 : word f n p ≠ some wMin) (h2 : word f n p ≠ some wMax) (h3 : wrdO x 11 13 (word f n p) = none) (hC : CFG s1 f n x B (true, p, cs, V, op)) (hrun : runC f n x k (true, p, cs, V, op) = some r) (hf : FQ s s1) :
    Bd g yX6_qPartTold cX6_qPartTold 6 none [] 5 0 0 (putM M o s1) 186 [some (.ref o), some (.int (nI 0)), w2, w3, w4, w5] [] (QM M o (PtQ f n x B k r s)) noX := by
  obtain ⟨hR, hQ, h106, h54, hi, hB, hx⟩ := hC
  have hR : RP s1 f n p := hR
  have hQ : RQ s1 cs (V ++ B) op := hQ
  have hn := hR.1.2.2.2.1
  obtain ⟨k1, rfl, hr2⟩ := runC_some hrun
  have hat : aTok f n x p = match wrdO x 0 11 (word f n p) with
      | some k => .ok (3, 40 + k, p + wln f n p)
      | none => tokN p (numP f n 0 9999 p) := by
    unfold aTok; rw [if_neg h0, if_neg h1, if_neg h2, h3]; rfl
  have hpop := iC_pop hi
  obtain ⟨i1, i2, i3, i4⟩ := hi
  have i1 : cs.length + V.length + B.length ≤ p := i1
  have i2 : p ≤ n := i2
  have i4 : op ≤ 6 := i4
  have hlen : (V ++ B).length = V.length + B.length := List.length_append
  have hstp : stpC f n x (true, p, cs, V, op) = stpP f n x p cs V op := rfl
  cases hw : wrdO x 0 11 (word f n p) with
  | some kk =>
    rw [hw] at hat
    obtain ⟨k0, k01, k02, k03, l, hl, hl2⟩ := wrdO_some hw
    have hww := whN_aw k03
    have hst : stpC f n x (true, p, cs, V, op) = .inl (false, p + wln f n p, cs ++ [40 + kk] ++ (popW gO V).1, (popW gO V).2, op - (popW gO V).1.length) := by
      rw [hstp]; unfold stpP; rw [hp, hat]; rfl
    have hiC := stpC_inv (e := B.length) hst ⟨i1, i2, i3, i4⟩
    rw [hst] at hr2
    rcases hr2 with ⟨d, hd, hrun⟩ | hd
    · cases hd
      have hend := (word_end hww).1
      have hlen2 : wln f n p = (awK kk).length := wln_some hww
      have hwo := ct_X6_qWordOf (lo := 0) (hi := 11) hS hR hp h54 hx (by decide) (by decide)
      rw [hw] at hwo
      rw [show oI (some kk) = nI kk from rfl] at hwo
      refine r_ald0 (pc := 186) dX6_qPartTold_186 ?_
      refine m_getI hS (pc := 187) dX6_qPartTold_187 fl_X6_237 ?_
      refine Bd.eqI hR.2.1 ?_
      first | refine r_if_eqZ (pc := 190) (tgt := 194) dX6_qPartTold_190 (by decide) (fun h190 => ?_) (fun h190 => ?_) | refine r_if_eqN (pc := 190) (tgt := 194) dX6_qPartTold_190 (by decide) (by omega) (fun h190 => ?_) (fun h190 => ?_) | refine r_if_eq (pc := 190) (tgt := 194) dX6_qPartTold_190 (by decide) (fun h190 => ?_) (fun h190 => ?_)
      · skip
        refine r_ald0 (pc := 194) dX6_qPartTold_194 ?_
        refine r_iconst (v := nI 0) (pc := 195) dX6_qPartTold_195 (by decide) ?_
        refine r_bipush (v := nI 11) (pc := 196) dX6_qPartTold_196 (by decide) ?_
        refine r_cV (pc := 198) dX6_qPartTold_198 cv_X6_614 hS.k hwo rfl rfl (Nat.le_of_ble_eq_true rfl) (by decide) ?_
        rintro _ _ ⟨s2, rfl, rfl, hR2, hf2⟩
        refine r_ist2 (pc := 201) dX6_qPartTold_201 ?_
        refine r_ild2 (pc := 202) dX6_qPartTold_202 ?_
        refine r_iconst (v := -1) (pc := 203) dX6_qPartTold_203 (by decide) ?_
        refine r_icmp_eq (pc := 204) (tgt := 212) dX6_qPartTold_204 (by decide) (fun h204 => ?_) (fun h204 => ?_)
        · skip
          exact absurd h204 (nI_m1 (by omega))
        · skip
          refine r_ald0 (pc := 207) dX6_qPartTold_207 ?_
          refine r_ild2 (pc := 208) dX6_qPartTold_208 ?_
          refine r_cV (pc := 209) dX6_qPartTold_209 cv_X6_620 hS.k (ct_X6_qAsksWord hS hR2 hp (by omega) hww) rfl rfl (Nat.le_of_ble_eq_true rfl) (by decide) ?_
          rintro _ _ ⟨s3, rfl, rfl, hR3, hf3⟩
          refine r_ald0 (pc := 212) dX6_qPartTold_212 ?_
          refine r_ild2 (pc := 213) dX6_qPartTold_213 ?_
          refine r_iconst (v := -1) (pc := 214) dX6_qPartTold_214 (by decide) ?_
          refine r_icmp_eq (pc := 215) (tgt := 225) dX6_qPartTold_215 (by decide) (fun h215 => ?_) (fun h215 => ?_)
          · skip
            exact absurd h215 (nI_m1 (by omega))
          · skip
            refine r_bipush (v := nI 40) (pc := 218) dX6_qPartTold_218 (by decide) ?_
            refine r_ild2 (pc := 220) dX6_qPartTold_220 ?_
            first | refine r_iaddN (pc := 221) dX6_qPartTold_221 ?_ | refine r_iaddJ (pc := 221) dX6_qPartTold_221 ?_ | refine r_iadd (pc := 221) dX6_qPartTold_221 ?_
            refine r_goto (pc := 222) (tgt := 237) dX6_qPartTold_222 (by decide) ?_
            refine r_cV (pc := 237) dX6_qPartTold_237 cv_X6_599 hS.k (ct_X6_qCode hS ((hQ.fr hf2 (by decide) (by decide)).fr hf3 (by decide) (by decide)) (by rw [hlen]; omega)) rfl rfl (Nat.le_of_ble_eq_true rfl) (by decide) ?_
            rintro _ _ ⟨s4, rfl, rfl, hQ4, hf4⟩
            have hR4 := hR3.fr hf4 (by decide) (by decide)
            refine r_ald0 (pc := 240) dX6_qPartTold_240 ?_
            refine r_cV (pc := 241) dX6_qPartTold_241 cv_X6_623 hS.k (ct_X6_qEndsPart hS hQ4 ((hf4.1 106 (by decide)).trans ((hf3.1 106 (by decide)).trans ((hf2.1 106 (by decide)).trans h106))) hR4.2.1 hpop i4) rfl rfl (Nat.le_of_ble_eq_true rfl) (by decide) ?_
            rintro _ _ ⟨s5, rfl, rfl, hQ5, hf5⟩
            refine r_vret (pc := 244) dX6_qPartTold_244 ?_
            refine ⟨_, rfl, rfl, hf.trans ((hf2.mono (by decide) (by decide) (by decide) (by decide)).trans ((hf3.mono (by decide) (by decide) (by decide) (by decide)).trans ((hf4.mono (by decide) (by decide) (by decide) (by decide)).trans (hf5.mono (by decide) (by decide) (by decide) (by decide))))), Or.inr ⟨k1, _, Nat.lt_succ_self _, rfl, hrun, ?_⟩⟩
            refine ⟨by show RP s5 f n (p + wln f n p); rw [hlen2]; exact hR4.fr hf5 (by decide) (by decide), hQ5, (hf5.1 106 (by decide)).trans ((hf4.1 106 (by decide)).trans ((hf3.1 106 (by decide)).trans ((hf2.1 106 (by decide)).trans h106))), (hf5.1 54 (by decide)).trans ((hf4.1 54 (by decide)).trans ((hf3.1 54 (by decide)).trans ((hf2.1 54 (by decide)).trans h54))), hiC, hB, hx⟩
      · skip
        exact absurd rfl h190
    · cases hd
  | none =>
    rw [hw] at hat
    have hwo := ct_X6_qWordOf (lo := 0) (hi := 11) hS hR hp h54 hx (by decide) (by decide)
    rw [hw] at hwo
    cases hnp : numP f n 0 9999 p with
    | error e =>
      rw [hnp] at hat
      have hst : stpC f n x (true, p, cs, V, op) = .inr (.error e) := by
        rw [hstp]; unfold stpP; rw [hp, hat]; rfl
      rw [hst] at hr2
      rcases hr2 with ⟨d, hd, hrun⟩ | hd
      · cases hd
      · cases hd
        refine r_ald0 (pc := 186) dX6_qPartTold_186 ?_
        refine m_getI hS (pc := 187) dX6_qPartTold_187 fl_X6_237 ?_
        refine Bd.eqI hR.2.1 ?_
        first | refine r_if_eqZ (pc := 190) (tgt := 194) dX6_qPartTold_190 (by decide) (fun h190 => ?_) (fun h190 => ?_) | refine r_if_eqN (pc := 190) (tgt := 194) dX6_qPartTold_190 (by decide) (by omega) (fun h190 => ?_) (fun h190 => ?_) | refine r_if_eq (pc := 190) (tgt := 194) dX6_qPartTold_190 (by decide) (fun h190 => ?_) (fun h190 => ?_)
        · skip
          refine r_ald0 (pc := 194) dX6_qPartTold_194 ?_
          refine r_iconst (v := nI 0) (pc := 195) dX6_qPartTold_195 (by decide) ?_
          refine r_bipush (v := nI 11) (pc := 196) dX6_qPartTold_196 (by decide) ?_
          refine r_cV (pc := 198) dX6_qPartTold_198 cv_X6_614 hS.k hwo rfl rfl (Nat.le_of_ble_eq_true rfl) (by decide) ?_
          rintro _ _ ⟨s2, rfl, rfl, hR2, hf2⟩
          refine r_ist2 (pc := 201) dX6_qPartTold_201 ?_
          refine r_ild2 (pc := 202) dX6_qPartTold_202 ?_
          refine r_iconst (v := -1) (pc := 203) dX6_qPartTold_203 (by decide) ?_
          refine r_icmp_eq (pc := 204) (tgt := 212) dX6_qPartTold_204 (by decide) (fun h204 => ?_) (fun h204 => ?_)
          · skip
            refine r_ald0 (pc := 212) dX6_qPartTold_212 ?_
            refine r_ild2 (pc := 213) dX6_qPartTold_213 ?_
            refine r_iconst (v := -1) (pc := 214) dX6_qPartTold_214 (by decide) ?_
            refine r_icmp_eq (pc := 215) (tgt := 225) dX6_qPartTold_215 (by decide) (fun h215 => ?_) (fun h215 => ?_)
            · skip
              refine r_sipush (v := nI 1000) (pc := 225) dX6_qPartTold_225 (by decide) ?_
              refine r_ald0 (pc := 228) dX6_qPartTold_228 ?_
              refine r_iconst (v := nI 0) (pc := 229) dX6_qPartTold_229 (by decide) ?_
              refine r_sipush (v := nI 9999) (pc := 230) dX6_qPartTold_230 (by decide) ?_
              refine r_cV (pc := 233) dX6_qPartTold_233 cv_X6_313 hS.k (ct_X6_number (lo := 0) (hi := 9999) hS hR2 (by decide) (by decide)) rfl rfl (Nat.le_of_ble_eq_true rfl) (by decide) ?_
              rintro v _ ⟨s3, rfl, hN, hf3⟩
              rw [hp, hnp] at hN
              obtain ⟨⟨v3, rfl⟩, hBD⟩ := hN
              refine r_iadd (pc := 236) dX6_qPartTold_236 ?_
              refine r_cV (pc := 237) dX6_qPartTold_237 cv_X6_599 hS.k (ct_X6_qCodeR (c := cs.length) hS ((hf3.1 102 (by decide)).trans ((hf2.1 102 (by decide)).trans hQ.1)) (by omega)) rfl rfl (Nat.le_of_ble_eq_true rfl) (by decide) ?_
              rintro _ _ ⟨rfl, rfl⟩
              refine r_ald0 (pc := 240) dX6_qPartTold_240 ?_
              refine r_cV (pc := 241) dX6_qPartTold_241 cv_X6_623 hS.k (ct_X6_qEndsPartB hS (hBD.fr (RQ.codeF (s := s3)) (by decide)).ne) rfl rfl (Nat.le_of_ble_eq_true rfl) (by decide) ?_
              rintro _ _ ⟨rfl, rfl⟩
              refine r_vret (pc := 244) dX6_qPartTold_244 ?_
              refine ⟨_, rfl, rfl, hf.trans ((hf2.mono (by decide) (by decide) (by decide) (by decide)).trans ((hf3.mono (by decide) (by decide) (by decide) (by decide)).trans ((RQ.codeF (s := s3)).mono (by decide) (by decide) (by decide) (by decide)))), Or.inl ⟨_, rfl, hBD.fr (RQ.codeF (s := s3)) (by decide), cs.length + 1, by omega, rfl⟩⟩
            · skip
              exact absurd rfl h215
          · skip
            exact absurd rfl h204
        · skip
          exact absurd rfl h190
    | ok y =>
      rw [hnp] at hat
      obtain ⟨y1, y2, y3, y4, y5⟩ := numP_ok hnp
      have hst : stpC f n x (true, p, cs, V, op) = .inl (false, y.2, cs ++ [1000 + y.1] ++ (popW gO V).1, (popW gO V).2, op - (popW gO V).1.length) := by
        rw [hstp]; unfold stpP; rw [hp, hat]; rfl
      have hiC := stpC_inv (e := B.length) hst ⟨i1, i2, i3, i4⟩
      rw [hst] at hr2
      rcases hr2 with ⟨d, hd, hrun⟩ | hd
      · cases hd
        refine r_ald0 (pc := 186) dX6_qPartTold_186 ?_
        refine m_getI hS (pc := 187) dX6_qPartTold_187 fl_X6_237 ?_
        refine Bd.eqI hR.2.1 ?_
        first | refine r_if_eqZ (pc := 190) (tgt := 194) dX6_qPartTold_190 (by decide) (fun h190 => ?_) (fun h190 => ?_) | refine r_if_eqN (pc := 190) (tgt := 194) dX6_qPartTold_190 (by decide) (by omega) (fun h190 => ?_) (fun h190 => ?_) | refine r_if_eq (pc := 190) (tgt := 194) dX6_qPartTold_190 (by decide) (fun h190 => ?_) (fun h190 => ?_)
        · skip
          refine r_ald0 (pc := 194) dX6_qPartTold_194 ?_
          refine r_iconst (v := nI 0) (pc := 195) dX6_qPartTold_195 (by decide) ?_
          refine r_bipush (v := nI 11) (pc := 196) dX6_qPartTold_196 (by decide) ?_
          refine r_cV (pc := 198) dX6_qPartTold_198 cv_X6_614 hS.k hwo rfl rfl (Nat.le_of_ble_eq_true rfl) (by decide) ?_
          rintro _ _ ⟨s2, rfl, rfl, hR2, hf2⟩
          refine r_ist2 (pc := 201) dX6_qPartTold_201 ?_
          refine r_ild2 (pc := 202) dX6_qPartTold_202 ?_
          refine r_iconst (v := -1) (pc := 203) dX6_qPartTold_203 (by decide) ?_
          refine r_icmp_eq (pc := 204) (tgt := 212) dX6_qPartTold_204 (by decide) (fun h204 => ?_) (fun h204 => ?_)
          · skip
            refine r_ald0 (pc := 212) dX6_qPartTold_212 ?_
            refine r_ild2 (pc := 213) dX6_qPartTold_213 ?_
            refine r_iconst (v := -1) (pc := 214) dX6_qPartTold_214 (by decide) ?_
            refine r_icmp_eq (pc := 215) (tgt := 225) dX6_qPartTold_215 (by decide) (fun h215 => ?_) (fun h215 => ?_)
            · skip
              refine r_sipush (v := nI 1000) (pc := 225) dX6_qPartTold_225 (by decide) ?_
              refine r_ald0 (pc := 228) dX6_qPartTold_228 ?_
              refine r_iconst (v := nI 0) (pc := 229) dX6_qPartTold_229 (by decide) ?_
              refine r_sipush (v := nI 9999) (pc := 230) dX6_qPartTold_230 (by decide) ?_
              refine r_cV (pc := 233) dX6_qPartTold_233 cv_X6_313 hS.k (ct_X6_number (lo := 0) (hi := 9999) hS hR2 (by decide) (by decide)) rfl rfl (Nat.le_of_ble_eq_true rfl) (by decide) ?_
              rintro v _ ⟨s3, rfl, hN, hf3⟩
              rw [hp, hnp] at hN
              obtain ⟨rfl, hR3, -⟩ := hN
              first | refine r_iaddN (pc := 236) dX6_qPartTold_236 ?_ | refine r_iaddJ (pc := 236) dX6_qPartTold_236 ?_ | refine r_iadd (pc := 236) dX6_qPartTold_236 ?_
              refine r_cV (pc := 237) dX6_qPartTold_237 cv_X6_599 hS.k (ct_X6_qCode hS ((hQ.fr hf2 (by decide) (by decide)).fr hf3 (by decide) (by decide)) (by rw [hlen]; omega)) rfl rfl (Nat.le_of_ble_eq_true rfl) (by decide) ?_
              rintro _ _ ⟨s4, rfl, rfl, hQ4, hf4⟩
              have hR4 := hR3.fr hf4 (by decide) (by decide)
              refine r_ald0 (pc := 240) dX6_qPartTold_240 ?_
              refine r_cV (pc := 241) dX6_qPartTold_241 cv_X6_623 hS.k (ct_X6_qEndsPart hS hQ4 ((hf4.1 106 (by decide)).trans ((hf3.1 106 (by decide)).trans ((hf2.1 106 (by decide)).trans h106))) hR4.2.1 hpop i4) rfl rfl (Nat.le_of_ble_eq_true rfl) (by decide) ?_
              rintro _ _ ⟨s5, rfl, rfl, hQ5, hf5⟩
              refine r_vret (pc := 244) dX6_qPartTold_244 ?_
              refine ⟨_, rfl, rfl, hf.trans ((hf2.mono (by decide) (by decide) (by decide) (by decide)).trans ((hf3.mono (by decide) (by decide) (by decide) (by decide)).trans ((hf4.mono (by decide) (by decide) (by decide) (by decide)).trans (hf5.mono (by decide) (by decide) (by decide) (by decide))))), Or.inr ⟨k1, _, Nat.lt_succ_self _, rfl, hrun, ?_⟩⟩
              exact ⟨hR4.fr hf5 (by decide) (by decide), hQ5, (hf5.1 106 (by decide)).trans ((hf4.1 106 (by decide)).trans ((hf3.1 106 (by decide)).trans ((hf2.1 106 (by decide)).trans h106))), (hf5.1 54 (by decide)).trans ((hf4.1 54 (by decide)).trans ((hf3.1 54 (by decide)).trans ((hf2.1 54 (by decide)).trans h54))), hiC, hB, hx⟩
            · skip
              exact absurd rfl h215
          · skip
            exact absurd rfl h204
        · skip
          exact absurd rfl h190
      · cases hd
/-- behind min or max: its bracket -/
theorem partMm {B cs V : List Nat} {op b v : Nat} {r : Ou} {k : Nat} {s1 : MS} {w2 w3 w5 : Option Value} {z : Int32} (hS : ShM g M o) (hv : v ≤ 1) (hz : z = zI (v = 0)) (hR : RP s1 f n b) (hQ : RQ s1 cs (V ++ B) op) (hop : op ≤ 6) (hl : cs.length + ((V ++ B).length + 1) ≤ 1601) (hf : FQ s s1)
    (hbad : ∀ s2 e u2 u3 u4 u5, (e = if lookO f n b = some 40 then (4, skip f n b) else (1, skip f n b)) → (lookO f n b = some 40 → op = 6) → bQ s2 e → FQ s s2 → Bd g yX6_qPartTold cX6_qPartTold 6 none [] 5 0 0 (putM M o s2) 2 [some (.ref o), some (.int (nI 1)), u2, u3, u4, u5] [] (QM M o (PtQ f n x B k r s)) noX)
    (hgood : ∀ s2 u2 u3 u4 u5, lookO f n b = some 40 → op ≠ 6 → RP s2 f n (skip f n b + 1) → RQ s2 cs ((21 + v) :: (V ++ B)) (op + 1) → FQ s s2 → Fr [2, 5, 6, 104, 105] [] [103] [] s1 s2 → Bd g yX6_qPartTold cX6_qPartTold 6 none [] 5 0 0 (putM M o s2) 2 [some (.ref o), some (.int (nI 1)), u2, u3, u4, u5] [] (QM M o (PtQ f n x B k r s)) noX) :
    Bd g yX6_qPartTold cX6_qPartTold 6 none [] 5 0 0 (putM M o s1) 101 [some (.ref o), some (.int (nI 1)), w2, w3, some (.int z), w5] [] (QM M o (PtQ f n x B k r s)) noX := by
  have hn := hR.1.2.2.2.1
  have hsl := skip_le (f := f) hR.1.2.2.1
  have hlk := ct_X6_lookP hS hR
  by_cases hl40 : lookO f n b = some 40
  · rw [hl40] at hlk
    rw [show oI (some 40) = nI 40 from rfl] at hlk
    have hbr : ∀ (s2 : MS), RP s2 f n (skip f n b) → RQ s2 cs (V ++ B) op → FQ s s2 → Fr [2] [] [] [] s1 s2 → ∀ u2 u3 u4, Bd g yX6_qPartTold cX6_qPartTold 6 none [] 5 0 0 (putM M o s2) 139 [some (.ref o), some (.int (nI 1)), u2, u3, u4, some (.int (nI (skip f n b)))] [.int (nI (21 + v)), .ref o] (QM M o (PtQ f n x B k r s)) noX := by
      intro s2 hR2 hQ2 hf2 hf12 u2 u3 u4
      have hlk2 : lookO f n (skip f n b) = some 40 := by rw [lookO_skip]; exact hl40
      by_cases e6 : op = 6
      · skip
        refine r_ild5 (pc := 139) dX6_qPartTold_139 ?_
        refine r_cV (pc := 141) dX6_qPartTold_141 cv_X6_617 hS.k (ct_X6_qOpens hS hR2.2.1 hQ2 (by omega) hop (by omega) hl) rfl rfl (Nat.le_of_ble_eq_true rfl) (by decide) ?_
        rintro _ _ ⟨s3, rfl, rfl, hO, hf3⟩
        rw [if_pos e6] at hO
        refine r_ald0 (pc := 144) dX6_qPartTold_144 ?_
        refine r_bipush (v := nI 40) (pc := 145) dX6_qPartTold_145 (by decide) ?_
        refine r_cV (pc := 147) dX6_qPartTold_147 cv_X6_320 hS.k (ct_X6_asksSignB hS hO.1.ne) rfl rfl (Nat.le_of_ble_eq_true rfl) (by decide) ?_
        rintro _ _ ⟨rfl, rfl⟩
        refine r_goto (pc := 150) (tgt := 183) dX6_qPartTold_150 (by decide) ?_
        refine r_goto (pc := 183) (tgt := 2) dX6_qPartTold_183 (by decide) ?_
        exact hbad s3 _ _ _ _ _ rfl (fun _ => e6) ⟨by rw [if_pos hl40]; exact hO.1, cs.length, by omega, hO.2.1⟩ (hf2.trans (hf3.mono (by decide) (by decide) (by decide) (by decide)))
      · skip
        refine r_ild5 (pc := 139) dX6_qPartTold_139 ?_
        refine r_cV (pc := 141) dX6_qPartTold_141 cv_X6_617 hS.k (ct_X6_qOpens hS hR2.2.1 hQ2 (by omega) hop (by omega) hl) rfl rfl (Nat.le_of_ble_eq_true rfl) (by decide) ?_
        rintro _ _ ⟨s3, rfl, rfl, hO, hf3⟩
        rw [if_neg e6] at hO
        have hR3 := hR2.fr5 hf3 hO.2 (by decide) (by decide)
        refine r_ald0 (pc := 144) dX6_qPartTold_144 ?_
        refine r_bipush (v := nI 40) (pc := 145) dX6_qPartTold_145 (by decide) ?_
        refine r_cV (pc := 147) dX6_qPartTold_147 cv_X6_320 hS.k (ct_X6_asksSign hS hR3 sgOk40) rfl rfl (Nat.le_of_ble_eq_true rfl) (by decide) ?_
        rintro _ _ ⟨s4, rfl, rfl, hR4, hf4⟩
        rw [show sgP f n 40 (skip f n b) = .ok (skip f n b + 1) by unfold sgP; rw [if_pos hlk2, skip_idem]] at hR4
        refine r_goto (pc := 150) (tgt := 183) dX6_qPartTold_150 (by decide) ?_
        refine r_goto (pc := 183) (tgt := 2) dX6_qPartTold_183 (by decide) ?_
        exact hgood s4 _ _ _ _ hl40 e6 hR4 (hO.1.fr hf4 (by decide) (by decide)) (hf2.trans ((hf3.mono (by decide) (by decide) (by decide) (by decide)).trans (hf4.mono (by decide) (by decide) (by decide) (by decide)))) ((hf12.mono (by decide) (by decide) (by decide) (by decide)).trans ((hf3.mono (by decide) (by decide) (by decide) (by decide)).trans (hf4.mono (by decide) (by decide) (by decide) (by decide))))
    by_cases ev : v = 0
    · subst ev
      rw [hz, zI_t rfl]
      refine r_ald0 (pc := 101) dX6_qPartTold_101 ?_
      refine r_cV (pc := 102) dX6_qPartTold_102 cv_X6_249 hS.k hlk rfl rfl (Nat.le_of_ble_eq_true rfl) (by decide) ?_
      rintro _ _ ⟨s2, rfl, rfl, hR2, hf2⟩
      refine r_bipush (v := nI 40) (pc := 105) dX6_qPartTold_105 (by decide) ?_
      first | refine r_icmp_neN (pc := 107) (tgt := 117) dX6_qPartTold_107 (by decide) (by omega) (by omega) (fun h107 => ?_) (fun h107 => ?_) | refine r_icmp_ne (pc := 107) (tgt := 117) dX6_qPartTold_107 (by decide) (fun h107 => ?_) (fun h107 => ?_)
      · skip
        exact absurd rfl h107
      · skip
        refine r_ald0 (pc := 110) dX6_qPartTold_110 ?_
        refine m_getI hS (pc := 111) dX6_qPartTold_111 fl_X6_243 ?_
        refine Bd.eqI hR2.1.2.1 ?_
        refine r_goto (pc := 114) (tgt := 118) dX6_qPartTold_114 (by decide) ?_
        refine r_ist5 (pc := 118) dX6_qPartTold_118 ?_
        refine r_ild5 (pc := 120) dX6_qPartTold_120 ?_
        refine r_iconst (v := -1) (pc := 122) dX6_qPartTold_122 (by decide) ?_
        refine r_icmp_eq (pc := 123) (tgt := 144) dX6_qPartTold_123 (by decide) (fun h123 => ?_) (fun h123 => ?_)
        · skip
          exact absurd h123 (nI_m1 (by omega))
        · skip
          refine r_ald0 (pc := 126) dX6_qPartTold_126 ?_
          refine r_ild4 (pc := 127) dX6_qPartTold_127 ?_
          refine r_if_eq (pc := 129) (tgt := 137) dX6_qPartTold_129 (by decide) (fun h129 => ?_) (fun h129 => ?_)
          · skip
            exact absurd h129 (by decide)
          · skip
            refine r_bipush (v := nI 21) (pc := 132) dX6_qPartTold_132 (by decide) ?_
            refine r_goto (pc := 134) (tgt := 139) dX6_qPartTold_134 (by decide) ?_
            exact hbr s2 hR2 (hQ.fr hf2 (by decide) (by decide)) (hf.trans (hf2.mono (by decide) (by decide) (by decide) (by decide))) hf2 _ _ _
    · obtain rfl : v = 1 := by omega
      rw [hz, zI_f (by decide)]
      refine r_ald0 (pc := 101) dX6_qPartTold_101 ?_
      refine r_cV (pc := 102) dX6_qPartTold_102 cv_X6_249 hS.k hlk rfl rfl (Nat.le_of_ble_eq_true rfl) (by decide) ?_
      rintro _ _ ⟨s2, rfl, rfl, hR2, hf2⟩
      refine r_bipush (v := nI 40) (pc := 105) dX6_qPartTold_105 (by decide) ?_
      first | refine r_icmp_neN (pc := 107) (tgt := 117) dX6_qPartTold_107 (by decide) (by omega) (by omega) (fun h107 => ?_) (fun h107 => ?_) | refine r_icmp_ne (pc := 107) (tgt := 117) dX6_qPartTold_107 (by decide) (fun h107 => ?_) (fun h107 => ?_)
      · skip
        exact absurd rfl h107
      · skip
        refine r_ald0 (pc := 110) dX6_qPartTold_110 ?_
        refine m_getI hS (pc := 111) dX6_qPartTold_111 fl_X6_243 ?_
        refine Bd.eqI hR2.1.2.1 ?_
        refine r_goto (pc := 114) (tgt := 118) dX6_qPartTold_114 (by decide) ?_
        refine r_ist5 (pc := 118) dX6_qPartTold_118 ?_
        refine r_ild5 (pc := 120) dX6_qPartTold_120 ?_
        refine r_iconst (v := -1) (pc := 122) dX6_qPartTold_122 (by decide) ?_
        refine r_icmp_eq (pc := 123) (tgt := 144) dX6_qPartTold_123 (by decide) (fun h123 => ?_) (fun h123 => ?_)
        · skip
          exact absurd h123 (nI_m1 (by omega))
        · skip
          refine r_ald0 (pc := 126) dX6_qPartTold_126 ?_
          refine r_ild4 (pc := 127) dX6_qPartTold_127 ?_
          refine r_if_eq (pc := 129) (tgt := 137) dX6_qPartTold_129 (by decide) (fun h129 => ?_) (fun h129 => ?_)
          · skip
            refine r_bipush (v := nI 22) (pc := 137) dX6_qPartTold_137 (by decide) ?_
            exact hbr s2 hR2 (hQ.fr hf2 (by decide) (by decide)) (hf.trans (hf2.mono (by decide) (by decide) (by decide) (by decide))) hf2 _ _ _
          · skip
            exact absurd rfl h129
  · skip
    refine r_ald0 (pc := 101) dX6_qPartTold_101 ?_
    refine r_cV (pc := 102) dX6_qPartTold_102 cv_X6_249 hS.k hlk rfl rfl (Nat.le_of_ble_eq_true rfl) (by decide) ?_
    rintro _ _ ⟨s2, rfl, rfl, hR2, hf2⟩
    refine r_bipush (v := nI 40) (pc := 105) dX6_qPartTold_105 (by decide) ?_
    refine r_icmp_ne (pc := 107) (tgt := 117) dX6_qPartTold_107 (by decide) (fun h107 => ?_) (fun h107 => ?_)
    · skip
      refine r_iconst (v := -1) (pc := 117) dX6_qPartTold_117 (by decide) ?_
      refine r_ist5 (pc := 118) dX6_qPartTold_118 ?_
      refine r_ild5 (pc := 120) dX6_qPartTold_120 ?_
      refine r_iconst (v := -1) (pc := 122) dX6_qPartTold_122 (by decide) ?_
      refine r_icmp_eq (pc := 123) (tgt := 144) dX6_qPartTold_123 (by decide) (fun h123 => ?_) (fun h123 => ?_)
      · skip
        refine r_ald0 (pc := 144) dX6_qPartTold_144 ?_
        refine r_bipush (v := nI 40) (pc := 145) dX6_qPartTold_145 (by decide) ?_
        refine r_cV (pc := 147) dX6_qPartTold_147 cv_X6_320 hS.k (ct_X6_asksSign hS hR2 sgOk40) rfl rfl (Nat.le_of_ble_eq_true rfl) (by decide) ?_
        rintro _ _ ⟨s4, rfl, rfl, hR4, hf4⟩
        rw [show sgP f n 40 (skip f n b) = .error (1, skip f n b) by unfold sgP; rw [lookO_skip, if_neg hl40, skip_idem]] at hR4
        refine r_goto (pc := 150) (tgt := 183) dX6_qPartTold_150 (by decide) ?_
        refine r_goto (pc := 183) (tgt := 2) dX6_qPartTold_183 (by decide) ?_
        exact hbad s4 _ _ _ _ _ rfl (fun q => absurd q hl40) ⟨by rw [if_neg hl40]; exact hR4, cs.length, by omega, (hf4.1 102 (by decide)).trans ((hf2.1 102 (by decide)).trans hQ.1)⟩ (hf.trans ((hf2.mono (by decide) (by decide) (by decide) (by decide)).trans (hf4.mono (by decide) (by decide) (by decide) (by decide))))
      · skip
        exact absurd rfl h123
    · skip
      exact absurd (oI_inj (fun c hc => by have := (lookO_lt hR hc).1; omega) (by decide) h107) hl40
theorem lk40 {p : Nat} (hp : skip f n p = p) : lookO f n p = some 40 ↔ p < n ∧ f p = 40 := by
  unfold lookO; rw [hp]
  split
  · next h => exact ⟨fun q => ⟨h, Option.some.inj q⟩, fun q => by rw [q.2]⟩
  · next h => exact ⟨fun q => (by cases q), fun q => absurd q.1 h⟩
theorem partLoop {B : List Nat} {r : Ou} (hS : ShM g M o) : ∀ (k a : Nat) (cs V : List Nat) (op : Nat) (s1 : MS) (w2 w3 w4 w5 : Option Value), CFG s1 f n x B (true, a, cs, V, op) → runC f n x k (true, a, cs, V, op) = some r → FQ s s1 →
    Bd g yX6_qPartTold cX6_qPartTold 6 none [] 5 0 0 (putM M o s1) 2 [some (.ref o), some (.int (nI 1)), w2, w3, w4, w5] [] (QM M o (PtQ f n x B k r s)) noX := by
  intro k
  induction k with
  | zero => intro a cs V op s1 w2 w3 w4 w5 hC hrun hf; cases hrun
  | succ k ih =>
    intro a cs V op s1 w2 w3 w4 w5 hC hrun hf
    have hC0 := hC
    obtain ⟨hR, hQ, h106, h54, hi, hB, hx⟩ := hC
    have hR : RP s1 f n a := hR
    have hQ : RQ s1 cs (V ++ B) op := hQ
    have hn := hR.1.2.2.2.1
    have hsl := skip_le (f := f) hR.1.2.2.1
    have hsg := skip_ge f n a
    have hp := skip_idem f n a
    have hrun0 := hrun
    obtain ⟨k1, hk1, hr2⟩ := runC_some hrun
    obtain rfl : k1 = k := by omega
    have hi0 := hi
    obtain ⟨i1, i2, i3, i4⟩ := hi
    have i1 : cs.length + V.length + B.length ≤ a := i1
    have i4 : op ≤ 6 := i4
    have hlen : (V ++ B).length = V.length + B.length := List.length_append
    have hl1 : cs.length + ((V ++ B).length + 1) ≤ 1601 := by rw [hlen]; omega
    have hstp : stpC f n x (true, a, cs, V, op) = stpP f n x a cs V op := rfl
    have hlk := ct_X6_lookP hS hR
    have hwo : ∀ {s2 : MS}, RP s2 f n (skip f n a) → Fr [2] [] [] [] s1 s2 → _ := fun {s2} hR2 hf2 => ct_X6_qWordOf (x := x) (lo := 11) (hi := 13) hS hR2 hp ((hf2.1 54 (by decide)).trans h54) hx (by decide) (by decide)
    have hihb : ∀ s2 e u2 u3 u4 u5, r = .error e → bQ s2 e → FQ s s2 → Bd g yX6_qPartTold cX6_qPartTold 6 none [] 5 0 0 (putM M o s2) 2 [some (.ref o), some (.int (nI 1)), u2, u3, u4, u5] [] (QM M o (PtQ f n x B (k1 + 1) r s)) noX := fun s2 e u2 u3 u4 u5 h1 h2 h3 => partBad hS h1 h2 h3
    have hih : ∀ (a' : Nat) (cs' V' : List Nat) (op' : Nat) (s2 : MS) (u2 u3 u4 u5 : Option Value), CFG s2 f n x B (true, a', cs', V', op') → runC f n x k1 (true, a', cs', V', op') = some r → FQ s s2 → Bd g yX6_qPartTold cX6_qPartTold 6 none [] 5 0 0 (putM M o s2) 2 [some (.ref o), some (.int (nI 1)), u2, u3, u4, u5] [] (QM M o (PtQ f n x B (k1 + 1) r s)) noX := by
      intro a' cs' V' op' s2 u2 u3 u4 u5 h1 h2 h3
      refine Bd.post ?_ (fun _ _ h => h) (ih a' cs' V' op' s2 u2 u3 u4 u5 h1 h2 h3)
      rintro v M' ⟨s9, rfl, h9⟩
      exact ⟨s9, rfl, PtQ.mono (Nat.le_succ _) Fr.rf h9⟩
    by_cases hl40 : lookO f n a = some 40
    · obtain ⟨l1, l2⟩ := lookO_some hl40
      have hat : aTok f n x (skip f n a) = .ok (0, 0, skip f n a + 1) := by unfold aTok; rw [if_pos ⟨l1, l2⟩]
      have hst : stpC f n x (true, a, cs, V, op) = if op = 6 then .inr (.error (4, skip f n a)) else .inl (true, skip f n a + 1, cs, 20 :: V, op + 1) := by
        rw [hstp]; unfold stpP; rw [hat]; rfl
      rw [hl40] at hlk
      rw [show oI (some 40) = nI 40 from rfl] at hlk
      by_cases e6 : op = 6
      · rw [if_pos e6] at hst
        rw [hst] at hr2
        rcases hr2 with ⟨d, hd, hrun⟩ | hd
        · cases hd
        · cases hd
          refine r_ild1 (pc := 2) dX6_qPartTold_2 ?_
          refine r_if_eqN (pc := 3) (tgt := 186) dX6_qPartTold_3 (by decide) (by omega) (fun h3 => ?_) (fun h3 => ?_)
          · skip
            exact absurd h3 (by decide)
          · skip
            refine r_ald0 (pc := 6) dX6_qPartTold_6 ?_
            refine m_getI hS (pc := 7) dX6_qPartTold_7 fl_X6_237 ?_
            refine Bd.eqI hR.2.1 ?_
            first | refine r_if_neZ (pc := 10) (tgt := 186) dX6_qPartTold_10 (by decide) (fun h10 => ?_) (fun h10 => ?_) | refine r_if_neN (pc := 10) (tgt := 186) dX6_qPartTold_10 (by decide) (by omega) (fun h10 => ?_) (fun h10 => ?_) | refine r_if_ne (pc := 10) (tgt := 186) dX6_qPartTold_10 (by decide) (fun h10 => ?_) (fun h10 => ?_)
            · skip
              exact absurd rfl h10
            · skip
              refine r_ald0 (pc := 13) dX6_qPartTold_13 ?_
              refine r_cV (pc := 14) dX6_qPartTold_14 cv_X6_249 hS.k hlk rfl rfl (Nat.le_of_ble_eq_true rfl) (by decide) ?_
              rintro _ _ ⟨s2, rfl, rfl, hR2, hf2⟩
              refine r_ist2 (pc := 17) dX6_qPartTold_17 ?_
              refine r_ald0 (pc := 18) dX6_qPartTold_18 ?_
              refine r_bipush (v := nI 11) (pc := 19) dX6_qPartTold_19 (by decide) ?_
              refine r_bipush (v := nI 13) (pc := 21) dX6_qPartTold_21 (by decide) ?_
              refine r_cV (pc := 23) dX6_qPartTold_23 cv_X6_614 hS.k (hwo hR2 hf2) rfl rfl (Nat.le_of_ble_eq_true rfl) (by decide) ?_
              rintro _ _ ⟨s3, rfl, rfl, hR3, hf3⟩
              refine r_ist3 (pc := 26) dX6_qPartTold_26 ?_
              refine r_ild2 (pc := 27) dX6_qPartTold_27 ?_
              refine r_bipush (v := nI 40) (pc := 28) dX6_qPartTold_28 (by decide) ?_
              first | refine r_icmp_neN (pc := 30) (tgt := 56) dX6_qPartTold_30 (by decide) (by omega) (by omega) (fun h30 => ?_) (fun h30 => ?_) | refine r_icmp_ne (pc := 30) (tgt := 56) dX6_qPartTold_30 (by decide) (fun h30 => ?_) (fun h30 => ?_)
              · skip
                exact absurd rfl h30
              · skip
                refine r_ald0 (pc := 33) dX6_qPartTold_33 ?_
                refine r_bipush (v := nI 20) (pc := 34) dX6_qPartTold_34 (by decide) ?_
                refine r_ald0 (pc := 36) dX6_qPartTold_36 ?_
                refine m_getI hS (pc := 37) dX6_qPartTold_37 fl_X6_243 ?_
                refine Bd.eqI hR3.1.2.1 ?_
                refine r_cV (pc := 40) dX6_qPartTold_40 cv_X6_617 hS.k (ct_X6_qOpens hS hR3.2.1 ((hQ.fr hf2 (by decide) (by decide)).fr hf3 (by decide) (by decide)) (by decide) i4 (by omega) hl1) rfl rfl (Nat.le_of_ble_eq_true rfl) (by decide) ?_
                rintro _ _ ⟨s4, rfl, rfl, hO, hf4⟩
                rw [if_pos e6] at hO
                refine r_ald0 (pc := 43) dX6_qPartTold_43 ?_
                refine r_dup (pc := 44) dX6_qPartTold_44 rfl ?_
                refine m_getI hS (pc := 45) dX6_qPartTold_45 fl_X6_243 ?_
                refine Bd.eqI (x' := nI (skip f n a)) ((hf4.1 2 (by decide)).trans hR3.1.2.1) ?_
                refine r_iconst (v := nI 1) (pc := 48) dX6_qPartTold_48 (by decide) ?_
                first | refine r_iaddN (pc := 49) dX6_qPartTold_49 ?_ | refine r_iaddJ (pc := 49) dX6_qPartTold_49 ?_ | refine r_iadd (pc := 49) dX6_qPartTold_49 ?_
                refine m_putI hS (pc := 50) dX6_qPartTold_50 fl_X6_243 fw_X6_2 rfl rfl ?_
                refine r_goto (pc := 53) (tgt := 183) dX6_qPartTold_53 (by decide) ?_
                refine r_goto (pc := 183) (tgt := 2) dX6_qPartTold_183 (by decide) ?_
                exact hihb _ _ _ _ _ _ rfl ⟨hO.1.fr fr_at2 (by decide), cs.length, by omega, hO.2.1⟩ (Fr.tF (hf.trans ((hf2.mono (by decide) (by decide) (by decide) (by decide)).trans ((hf3.mono (by decide) (by decide) (by decide) (by decide)).trans (hf4.mono (by decide) (by decide) (by decide) (by decide))))) (by decide))
      · rw [if_neg e6] at hst
        have hiC := stpC_inv (e := B.length) hst hi0
        rw [hst] at hr2
        rcases hr2 with ⟨d, hd, hrun⟩ | hd
        · cases hd
          refine r_ild1 (pc := 2) dX6_qPartTold_2 ?_
          refine r_if_eqN (pc := 3) (tgt := 186) dX6_qPartTold_3 (by decide) (by omega) (fun h3 => ?_) (fun h3 => ?_)
          · skip
            exact absurd h3 (by decide)
          · skip
            refine r_ald0 (pc := 6) dX6_qPartTold_6 ?_
            refine m_getI hS (pc := 7) dX6_qPartTold_7 fl_X6_237 ?_
            refine Bd.eqI hR.2.1 ?_
            first | refine r_if_neZ (pc := 10) (tgt := 186) dX6_qPartTold_10 (by decide) (fun h10 => ?_) (fun h10 => ?_) | refine r_if_neN (pc := 10) (tgt := 186) dX6_qPartTold_10 (by decide) (by omega) (fun h10 => ?_) (fun h10 => ?_) | refine r_if_ne (pc := 10) (tgt := 186) dX6_qPartTold_10 (by decide) (fun h10 => ?_) (fun h10 => ?_)
            · skip
              exact absurd rfl h10
            · skip
              refine r_ald0 (pc := 13) dX6_qPartTold_13 ?_
              refine r_cV (pc := 14) dX6_qPartTold_14 cv_X6_249 hS.k hlk rfl rfl (Nat.le_of_ble_eq_true rfl) (by decide) ?_
              rintro _ _ ⟨s2, rfl, rfl, hR2, hf2⟩
              refine r_ist2 (pc := 17) dX6_qPartTold_17 ?_
              refine r_ald0 (pc := 18) dX6_qPartTold_18 ?_
              refine r_bipush (v := nI 11) (pc := 19) dX6_qPartTold_19 (by decide) ?_
              refine r_bipush (v := nI 13) (pc := 21) dX6_qPartTold_21 (by decide) ?_
              refine r_cV (pc := 23) dX6_qPartTold_23 cv_X6_614 hS.k (hwo hR2 hf2) rfl rfl (Nat.le_of_ble_eq_true rfl) (by decide) ?_
              rintro _ _ ⟨s3, rfl, rfl, hR3, hf3⟩
              refine r_ist3 (pc := 26) dX6_qPartTold_26 ?_
              refine r_ild2 (pc := 27) dX6_qPartTold_27 ?_
              refine r_bipush (v := nI 40) (pc := 28) dX6_qPartTold_28 (by decide) ?_
              first | refine r_icmp_neN (pc := 30) (tgt := 56) dX6_qPartTold_30 (by decide) (by omega) (by omega) (fun h30 => ?_) (fun h30 => ?_) | refine r_icmp_ne (pc := 30) (tgt := 56) dX6_qPartTold_30 (by decide) (fun h30 => ?_) (fun h30 => ?_)
              · skip
                exact absurd rfl h30
              · skip
                refine r_ald0 (pc := 33) dX6_qPartTold_33 ?_
                refine r_bipush (v := nI 20) (pc := 34) dX6_qPartTold_34 (by decide) ?_
                refine r_ald0 (pc := 36) dX6_qPartTold_36 ?_
                refine m_getI hS (pc := 37) dX6_qPartTold_37 fl_X6_243 ?_
                refine Bd.eqI hR3.1.2.1 ?_
                refine r_cV (pc := 40) dX6_qPartTold_40 cv_X6_617 hS.k (ct_X6_qOpens hS hR3.2.1 ((hQ.fr hf2 (by decide) (by decide)).fr hf3 (by decide) (by decide)) (by decide) i4 (by omega) hl1) rfl rfl (Nat.le_of_ble_eq_true rfl) (by decide) ?_
                rintro _ _ ⟨s4, rfl, rfl, hO, hf4⟩
                rw [if_neg e6] at hO
                have hR4 := hR3.fr5 hf4 hO.2 (by decide) (by decide)
                refine r_ald0 (pc := 43) dX6_qPartTold_43 ?_
                refine r_dup (pc := 44) dX6_qPartTold_44 rfl ?_
                refine m_getI hS (pc := 45) dX6_qPartTold_45 fl_X6_243 ?_
                refine Bd.eqI (x' := nI (skip f n a)) hR4.1.2.1 ?_
                refine r_iconst (v := nI 1) (pc := 48) dX6_qPartTold_48 (by decide) ?_
                first | refine r_iaddN (pc := 49) dX6_qPartTold_49 ?_ | refine r_iaddJ (pc := 49) dX6_qPartTold_49 ?_ | refine r_iadd (pc := 49) dX6_qPartTold_49 ?_
                refine m_putI hS (pc := 50) dX6_qPartTold_50 fl_X6_243 fw_X6_2 rfl rfl ?_
                refine r_goto (pc := 53) (tgt := 183) dX6_qPartTold_53 (by decide) ?_
                refine r_goto (pc := 183) (tgt := 2) dX6_qPartTold_183 (by decide) ?_
                exact hih _ _ _ _ _ _ _ _ _ ⟨hR4.step l1 l2 sgOk40 rfl (by rintro i (rfl | rfl | rfl) <;> rfl) rfl rfl, hO.1.fr fr_at2 (by decide) (by decide), (hf4.1 106 (by decide)).trans ((hf3.1 106 (by decide)).trans ((hf2.1 106 (by decide)).trans h106)), (hf4.1 54 (by decide)).trans ((hf3.1 54 (by decide)).trans ((hf2.1 54 (by decide)).trans h54)), hiC, hB, hx⟩ hrun (Fr.tF (hf.trans ((hf2.mono (by decide) (by decide) (by decide) (by decide)).trans ((hf3.mono (by decide) (by decide) (by decide) (by decide)).trans (hf4.mono (by decide) (by decide) (by decide) (by decide))))) (by decide))
        · cases hd
    · have h0 : ¬ (skip f n a < n ∧ f (skip f n a) = 40) := fun q => hl40 (by rw [← lookO_skip]; exact (lk40 hp).mpr q)
      have hmm : ∀ (v b : Nat), v ≤ 1 → b = skip f n a + 3 → aTok f n x (skip f n a) = .ok (1, v, b) → ∀ (s2 : MS) (z : Int32) u2 u3 u5, z = zI (v = 0) → RP s2 f n b → Fr [2, 4, 5, 6] [] [] [] s1 s2 → Bd g yX6_qPartTold cX6_qPartTold 6 none [] 5 0 0 (putM M o s2) 101 [some (.ref o), some (.int (nI 1)), u2, u3, some (.int z), u5] [] (QM M o (PtQ f n x B (k1 + 1) r s)) noX := by
        intro v b hv hb hat s2 z u2 u3 u5 hz hR2 hf2
        have hst : stpC f n x (true, a, cs, V, op) = if lookO f n b = some 40 then (if op = 6 then .inr (.error (4, skip f n b)) else .inl (true, skip f n b + 1, cs, (21 + v) :: V, op + 1)) else .inr (.error (1, skip f n b)) := by
          rw [hstp]; unfold stpP; rw [hat]; rfl
        refine partMm hS hv hz hR2 (hQ.fr hf2 (by decide) (by decide)) i4 hl1 (hf.trans (hf2.mono (by decide) (by decide) (by decide) (by decide))) ?_ ?_
        · intro s3 e u2 u3 u4 u5 he h6 hbq hf3
          refine hihb s3 e _ _ _ _ ?_ hbq hf3
          by_cases hl : lookO f n b = some 40
          · rw [if_pos hl, if_pos (h6 hl)] at hst
            rw [hst] at hr2
            rw [if_pos hl] at he
            rcases hr2 with ⟨d, hd, hrun⟩ | hd
            · cases hd
            · cases hd; rw [he]
          · rw [if_neg hl] at hst
            rw [hst] at hr2
            rw [if_neg hl] at he
            rcases hr2 with ⟨d, hd, hrun⟩ | hd
            · cases hd
            · cases hd; rw [he]
        · intro s3 u2 u3 u4 u5 hl h6 hR3 hQ3 hf3 hf13
          rw [if_pos hl, if_neg h6] at hst
          have hiC := stpC_inv (e := B.length) hst hi0
          rw [hst] at hr2
          rcases hr2 with ⟨d, hd, hrun⟩ | hd
          · cases hd
            exact hih _ _ _ _ _ _ _ _ _ ⟨hR3, hQ3, (hf13.1 106 (by decide)).trans ((hf2.1 106 (by decide)).trans h106), (hf13.1 54 (by decide)).trans ((hf2.1 54 (by decide)).trans h54), hiC, hB, hx⟩ hrun hf3
          · cases hd
      by_cases hmin : word f n (skip f n a) = some wMin
      · have hat : aTok f n x (skip f n a) = .ok (1, 0, skip f n a + 3) := by unfold aTok; rw [if_neg h0, if_pos hmin]
        refine r_ild1 (pc := 2) dX6_qPartTold_2 ?_
        refine r_if_eqN (pc := 3) (tgt := 186) dX6_qPartTold_3 (by decide) (by omega) (fun h3 => ?_) (fun h3 => ?_)
        · skip
          exact absurd h3 (by decide)
        · skip
          refine r_ald0 (pc := 6) dX6_qPartTold_6 ?_
          refine m_getI hS (pc := 7) dX6_qPartTold_7 fl_X6_237 ?_
          refine Bd.eqI hR.2.1 ?_
          first | refine r_if_neZ (pc := 10) (tgt := 186) dX6_qPartTold_10 (by decide) (fun h10 => ?_) (fun h10 => ?_) | refine r_if_neN (pc := 10) (tgt := 186) dX6_qPartTold_10 (by decide) (by omega) (fun h10 => ?_) (fun h10 => ?_) | refine r_if_ne (pc := 10) (tgt := 186) dX6_qPartTold_10 (by decide) (fun h10 => ?_) (fun h10 => ?_)
          · skip
            exact absurd rfl h10
          · skip
            refine r_ald0 (pc := 13) dX6_qPartTold_13 ?_
            refine r_cV (pc := 14) dX6_qPartTold_14 cv_X6_249 hS.k hlk rfl rfl (Nat.le_of_ble_eq_true rfl) (by decide) ?_
            rintro _ _ ⟨s2, rfl, rfl, hR2, hf2⟩
            refine r_ist2 (pc := 17) dX6_qPartTold_17 ?_
            refine r_ald0 (pc := 18) dX6_qPartTold_18 ?_
            refine r_bipush (v := nI 11) (pc := 19) dX6_qPartTold_19 (by decide) ?_
            refine r_bipush (v := nI 13) (pc := 21) dX6_qPartTold_21 (by decide) ?_
            refine r_cV (pc := 23) dX6_qPartTold_23 cv_X6_614 hS.k (hwo hR2 hf2) rfl rfl (Nat.le_of_ble_eq_true rfl) (by decide) ?_
            rintro _ _ ⟨s3, rfl, rfl, hR3, hf3⟩
            refine r_ist3 (pc := 26) dX6_qPartTold_26 ?_
            refine r_ild2 (pc := 27) dX6_qPartTold_27 ?_
            refine r_bipush (v := nI 40) (pc := 28) dX6_qPartTold_28 (by decide) ?_
            refine r_icmp_ne (pc := 30) (tgt := 56) dX6_qPartTold_30 (by decide) (fun h30 => ?_) (fun h30 => ?_)
            · skip
              refine r_ald0 (pc := 56) dX6_qPartTold_56 ?_
              refine r_ald0 (pc := 57) dX6_qPartTold_57 ?_
              refine m_getR hS (pc := 58) dX6_qPartTold_58 fl_X6_177 ar86 ?_
              refine r_cV (pc := 61) dX6_qPartTold_61 cv_X6_260 hS.k (hereP hS hp hR3 ar86 (w := wMin) (by decide) (hf2.trans hf3)) rfl rfl (Nat.le_of_ble_eq_true rfl) (by decide) ?_
              rintro _ _ ⟨s4, rfl, rfl, hR4, hf4⟩
              first | refine r_if_neZ (pc := 64) (tgt := 78) dX6_qPartTold_64 (by decide) (fun h64 => ?_) (fun h64 => ?_) | refine r_if_neN (pc := 64) (tgt := 78) dX6_qPartTold_64 (by decide) (by omega) (fun h64 => ?_) (fun h64 => ?_) | refine r_if_ne (pc := 64) (tgt := 78) dX6_qPartTold_64 (by decide) (fun h64 => ?_) (fun h64 => ?_)
              · skip
                refine r_ald0 (pc := 78) dX6_qPartTold_78 ?_
                refine r_ald0 (pc := 79) dX6_qPartTold_79 ?_
                refine m_getR hS (pc := 80) dX6_qPartTold_80 fl_X6_177 ar86 ?_
                refine r_cV (pc := 83) dX6_qPartTold_83 cv_X6_264 hS.k (ct_X6_takes hS hR4 ar86 (w := wMin) (by decide)) rfl rfl (Nat.le_of_ble_eq_true rfl) (by decide) ?_
                rintro _ _ ⟨s5, rfl, rfl, hR5, hf5⟩
                rw [hp, if_pos hmin] at hR5
                refine r_ist4 (pc := 86) dX6_qPartTold_86 ?_
                refine r_ild4 (pc := 88) dX6_qPartTold_88 ?_
                first | refine r_if_neZ (pc := 90) (tgt := 101) dX6_qPartTold_90 (by decide) (fun h90 => ?_) (fun h90 => ?_) | refine r_if_neN (pc := 90) (tgt := 101) dX6_qPartTold_90 (by decide) (by omega) (fun h90 => ?_) (fun h90 => ?_) | refine r_if_ne (pc := 90) (tgt := 101) dX6_qPartTold_90 (by decide) (fun h90 => ?_) (fun h90 => ?_)
                · skip
                  exact hmm 0 _ (by decide) rfl hat s5 _ _ _ _ (by rw [hp, zI_t hmin, zI_t rfl]) hR5 ((hf4.mono (by decide) (by decide) (by decide) (by decide)).trans (hf5.mono (by decide) (by decide) (by decide) (by decide)))
                · skip
                  exact absurd (by rw [hp]; exact hmin) h90
              · skip
                exact absurd hmin h64
            · skip
              exact absurd (oI_inj (fun c hc => by have := (lookO_lt hR hc).1; omega) (by decide) h30) hl40
      · by_cases hmax : word f n (skip f n a) = some wMax
        · have hat : aTok f n x (skip f n a) = .ok (1, 1, skip f n a + 3) := by unfold aTok; rw [if_neg h0, if_neg hmin, if_pos hmax]
          refine r_ild1 (pc := 2) dX6_qPartTold_2 ?_
          refine r_if_eqN (pc := 3) (tgt := 186) dX6_qPartTold_3 (by decide) (by omega) (fun h3 => ?_) (fun h3 => ?_)
          · skip
            exact absurd h3 (by decide)
          · skip
            refine r_ald0 (pc := 6) dX6_qPartTold_6 ?_
            refine m_getI hS (pc := 7) dX6_qPartTold_7 fl_X6_237 ?_
            refine Bd.eqI hR.2.1 ?_
            first | refine r_if_neZ (pc := 10) (tgt := 186) dX6_qPartTold_10 (by decide) (fun h10 => ?_) (fun h10 => ?_) | refine r_if_neN (pc := 10) (tgt := 186) dX6_qPartTold_10 (by decide) (by omega) (fun h10 => ?_) (fun h10 => ?_) | refine r_if_ne (pc := 10) (tgt := 186) dX6_qPartTold_10 (by decide) (fun h10 => ?_) (fun h10 => ?_)
            · skip
              exact absurd rfl h10
            · skip
              refine r_ald0 (pc := 13) dX6_qPartTold_13 ?_
              refine r_cV (pc := 14) dX6_qPartTold_14 cv_X6_249 hS.k hlk rfl rfl (Nat.le_of_ble_eq_true rfl) (by decide) ?_
              rintro _ _ ⟨s2, rfl, rfl, hR2, hf2⟩
              refine r_ist2 (pc := 17) dX6_qPartTold_17 ?_
              refine r_ald0 (pc := 18) dX6_qPartTold_18 ?_
              refine r_bipush (v := nI 11) (pc := 19) dX6_qPartTold_19 (by decide) ?_
              refine r_bipush (v := nI 13) (pc := 21) dX6_qPartTold_21 (by decide) ?_
              refine r_cV (pc := 23) dX6_qPartTold_23 cv_X6_614 hS.k (hwo hR2 hf2) rfl rfl (Nat.le_of_ble_eq_true rfl) (by decide) ?_
              rintro _ _ ⟨s3, rfl, rfl, hR3, hf3⟩
              refine r_ist3 (pc := 26) dX6_qPartTold_26 ?_
              refine r_ild2 (pc := 27) dX6_qPartTold_27 ?_
              refine r_bipush (v := nI 40) (pc := 28) dX6_qPartTold_28 (by decide) ?_
              refine r_icmp_ne (pc := 30) (tgt := 56) dX6_qPartTold_30 (by decide) (fun h30 => ?_) (fun h30 => ?_)
              · skip
                refine r_ald0 (pc := 56) dX6_qPartTold_56 ?_
                refine r_ald0 (pc := 57) dX6_qPartTold_57 ?_
                refine m_getR hS (pc := 58) dX6_qPartTold_58 fl_X6_177 ar86 ?_
                refine r_cV (pc := 61) dX6_qPartTold_61 cv_X6_260 hS.k (hereP hS hp hR3 ar86 (w := wMin) (by decide) (hf2.trans hf3)) rfl rfl (Nat.le_of_ble_eq_true rfl) (by decide) ?_
                rintro _ _ ⟨s4, rfl, rfl, hR4, hf4⟩
                first | refine r_if_neZ (pc := 64) (tgt := 78) dX6_qPartTold_64 (by decide) (fun h64 => ?_) (fun h64 => ?_) | refine r_if_neN (pc := 64) (tgt := 78) dX6_qPartTold_64 (by decide) (by omega) (fun h64 => ?_) (fun h64 => ?_) | refine r_if_ne (pc := 64) (tgt := 78) dX6_qPartTold_64 (by decide) (fun h64 => ?_) (fun h64 => ?_)
                · skip
                  exact absurd h64 hmin
                · skip
                  refine r_ald0 (pc := 67) dX6_qPartTold_67 ?_
                  refine r_ald0 (pc := 68) dX6_qPartTold_68 ?_
                  refine m_getR hS (pc := 69) dX6_qPartTold_69 fl_X6_180 ar87 ?_
                  refine r_cV (pc := 72) dX6_qPartTold_72 cv_X6_260 hS.k (hereP hS hp hR4 ar87 (w := wMax) (by decide) hf4) rfl rfl (Nat.le_of_ble_eq_true rfl) (by decide) ?_
                  rintro _ _ ⟨s6, rfl, rfl, hR6, hf6⟩
                  first | refine r_if_eqZ (pc := 75) (tgt := 153) dX6_qPartTold_75 (by decide) (fun h75 => ?_) (fun h75 => ?_) | refine r_if_eqN (pc := 75) (tgt := 153) dX6_qPartTold_75 (by decide) (by omega) (fun h75 => ?_) (fun h75 => ?_) | refine r_if_eq (pc := 75) (tgt := 153) dX6_qPartTold_75 (by decide) (fun h75 => ?_) (fun h75 => ?_)
                  · skip
                    exact absurd hmax h75
                  · skip
                    refine r_ald0 (pc := 78) dX6_qPartTold_78 ?_
                    refine r_ald0 (pc := 79) dX6_qPartTold_79 ?_
                    refine m_getR hS (pc := 80) dX6_qPartTold_80 fl_X6_177 ar86 ?_
                    refine r_cV (pc := 83) dX6_qPartTold_83 cv_X6_264 hS.k (ct_X6_takes hS hR6 ar86 (w := wMin) (by decide)) rfl rfl (Nat.le_of_ble_eq_true rfl) (by decide) ?_
                    rintro _ _ ⟨s5, rfl, rfl, hR5, hf5⟩
                    rw [hp, if_neg hmin] at hR5
                    refine r_ist4 (pc := 86) dX6_qPartTold_86 ?_
                    refine r_ild4 (pc := 88) dX6_qPartTold_88 ?_
                    first | refine r_if_neZ (pc := 90) (tgt := 101) dX6_qPartTold_90 (by decide) (fun h90 => ?_) (fun h90 => ?_) | refine r_if_neN (pc := 90) (tgt := 101) dX6_qPartTold_90 (by decide) (by omega) (fun h90 => ?_) (fun h90 => ?_) | refine r_if_ne (pc := 90) (tgt := 101) dX6_qPartTold_90 (by decide) (fun h90 => ?_) (fun h90 => ?_)
                    · skip
                      exact absurd (by rw [hp] at h90; exact h90) hmin
                    · skip
                      refine r_ald0 (pc := 93) dX6_qPartTold_93 ?_
                      refine r_ald0 (pc := 94) dX6_qPartTold_94 ?_
                      refine m_getR hS (pc := 95) dX6_qPartTold_95 fl_X6_180 ar87 ?_
                      refine r_cV (pc := 98) dX6_qPartTold_98 cv_X6_309 hS.k (ct_X6_asks hS hR5 ar87 (w := wMax) (by decide)) rfl rfl (Nat.le_of_ble_eq_true rfl) (by decide) ?_
                      rintro _ _ ⟨s7, rfl, rfl, hR7, hf7⟩
                      rw [kw_at hp hmax] at hR7
                      exact hmm 1 _ (by decide) rfl hat s7 _ _ _ _ (by rw [hp, zI_f hmin, zI_f (by decide)]) hR7 ((hf6.mono (by decide) (by decide) (by decide) (by decide)).trans ((hf5.mono (by decide) (by decide) (by decide) (by decide)).trans hf7))
              · skip
                exact absurd (oI_inj (fun c hc => by have := (lookO_lt hR hc).1; omega) (by decide) h30) hl40
        · cases hof : wrdO x 11 13 (word f n (skip f n a)) with
          | none =>
            have hwo : ∀ {s2 : MS}, RP s2 f n (skip f n a) → Fr [2] [] [] [] s1 s2 → _ := fun {s2} hR2 hf2 => ct_X6_qWordOf (x := x) (lo := 11) (hi := 13) hS hR2 hp ((hf2.1 54 (by decide)).trans h54) hx (by decide) (by decide)
            rw [hof] at hwo
            have hst2 : stpC f n x (true, skip f n a, cs, V, op) = stpC f n x (true, a, cs, V, op) := by
              show stpP f n x (skip f n a) cs V op = stpP f n x a cs V op
              unfold stpP; rw [hp]
            have hrun2 : runC f n x (k1 + 1) (true, skip f n a, cs, V, op) = some r := by
              show (match stpC f n x (true, skip f n a, cs, V, op) with | .inl d => runC f n x k1 d | .inr r => some r) = _
              rw [hst2]; exact hrun0
            refine r_ild1 (pc := 2) dX6_qPartTold_2 ?_
            refine r_if_eqN (pc := 3) (tgt := 186) dX6_qPartTold_3 (by decide) (by omega) (fun h3 => ?_) (fun h3 => ?_)
            · skip
              exact absurd h3 (by decide)
            · skip
              refine r_ald0 (pc := 6) dX6_qPartTold_6 ?_
              refine m_getI hS (pc := 7) dX6_qPartTold_7 fl_X6_237 ?_
              refine Bd.eqI hR.2.1 ?_
              first | refine r_if_neZ (pc := 10) (tgt := 186) dX6_qPartTold_10 (by decide) (fun h10 => ?_) (fun h10 => ?_) | refine r_if_neN (pc := 10) (tgt := 186) dX6_qPartTold_10 (by decide) (by omega) (fun h10 => ?_) (fun h10 => ?_) | refine r_if_ne (pc := 10) (tgt := 186) dX6_qPartTold_10 (by decide) (fun h10 => ?_) (fun h10 => ?_)
              · skip
                exact absurd rfl h10
              · skip
                refine r_ald0 (pc := 13) dX6_qPartTold_13 ?_
                refine r_cV (pc := 14) dX6_qPartTold_14 cv_X6_249 hS.k hlk rfl rfl (Nat.le_of_ble_eq_true rfl) (by decide) ?_
                rintro _ _ ⟨s2, rfl, rfl, hR2, hf2⟩
                refine r_ist2 (pc := 17) dX6_qPartTold_17 ?_
                refine r_ald0 (pc := 18) dX6_qPartTold_18 ?_
                refine r_bipush (v := nI 11) (pc := 19) dX6_qPartTold_19 (by decide) ?_
                refine r_bipush (v := nI 13) (pc := 21) dX6_qPartTold_21 (by decide) ?_
                refine r_cV (pc := 23) dX6_qPartTold_23 cv_X6_614 hS.k (hwo hR2 hf2) rfl rfl (Nat.le_of_ble_eq_true rfl) (by decide) ?_
                rintro _ _ ⟨s3, rfl, rfl, hR3, hf3⟩
                refine r_ist3 (pc := 26) dX6_qPartTold_26 ?_
                refine r_ild2 (pc := 27) dX6_qPartTold_27 ?_
                refine r_bipush (v := nI 40) (pc := 28) dX6_qPartTold_28 (by decide) ?_
                refine r_icmp_ne (pc := 30) (tgt := 56) dX6_qPartTold_30 (by decide) (fun h30 => ?_) (fun h30 => ?_)
                · skip
                  refine r_ald0 (pc := 56) dX6_qPartTold_56 ?_
                  refine r_ald0 (pc := 57) dX6_qPartTold_57 ?_
                  refine m_getR hS (pc := 58) dX6_qPartTold_58 fl_X6_177 ar86 ?_
                  refine r_cV (pc := 61) dX6_qPartTold_61 cv_X6_260 hS.k (hereP hS hp hR3 ar86 (w := wMin) (by decide) (hf2.trans hf3)) rfl rfl (Nat.le_of_ble_eq_true rfl) (by decide) ?_
                  rintro _ _ ⟨s4, rfl, rfl, hR4, hf4⟩
                  first | refine r_if_neZ (pc := 64) (tgt := 78) dX6_qPartTold_64 (by decide) (fun h64 => ?_) (fun h64 => ?_) | refine r_if_neN (pc := 64) (tgt := 78) dX6_qPartTold_64 (by decide) (by omega) (fun h64 => ?_) (fun h64 => ?_) | refine r_if_ne (pc := 64) (tgt := 78) dX6_qPartTold_64 (by decide) (fun h64 => ?_) (fun h64 => ?_)
                  · skip
                    exact absurd h64 hmin
                  · skip
                    refine r_ald0 (pc := 67) dX6_qPartTold_67 ?_
                    refine r_ald0 (pc := 68) dX6_qPartTold_68 ?_
                    refine m_getR hS (pc := 69) dX6_qPartTold_69 fl_X6_180 ar87 ?_
                    refine r_cV (pc := 72) dX6_qPartTold_72 cv_X6_260 hS.k (hereP hS hp hR4 ar87 (w := wMax) (by decide) hf4) rfl rfl (Nat.le_of_ble_eq_true rfl) (by decide) ?_
                    rintro _ _ ⟨s6, rfl, rfl, hR6, hf6⟩
                    first | refine r_if_eqZ (pc := 75) (tgt := 153) dX6_qPartTold_75 (by decide) (fun h75 => ?_) (fun h75 => ?_) | refine r_if_eqN (pc := 75) (tgt := 153) dX6_qPartTold_75 (by decide) (by omega) (fun h75 => ?_) (fun h75 => ?_) | refine r_if_eq (pc := 75) (tgt := 153) dX6_qPartTold_75 (by decide) (fun h75 => ?_) (fun h75 => ?_)
                    · skip
                      refine r_ild3 (pc := 153) dX6_qPartTold_153 ?_
                      refine r_iconst (v := -1) (pc := 154) dX6_qPartTold_154 (by decide) ?_
                      refine r_icmp_eq (pc := 155) (tgt := 181) dX6_qPartTold_155 (by decide) (fun h155 => ?_) (fun h155 => ?_)
                      · skip
                        refine r_iconst (v := nI 0) (pc := 181) dX6_qPartTold_181 (by decide) ?_
                        refine r_ist1 (pc := 182) dX6_qPartTold_182 ?_
                        refine r_goto (pc := 183) (tgt := 2) dX6_qPartTold_183 (by decide) ?_
                        refine r_ild1 (pc := 2) dX6_qPartTold_2 ?_
                        refine r_if_eqN (pc := 3) (tgt := 186) dX6_qPartTold_3 (by decide) (by omega) (fun h3 => ?_) (fun h3 => absurd rfl h3)
                        exact partLeaf hS hp h0 hmin hmax hof ⟨hR6, hQ.fr hf6 (by decide) (by decide), (hf6.1 106 (by decide)).trans h106, (hf6.1 54 (by decide)).trans h54, ⟨(by show cs.length + V.length + B.length ≤ skip f n a; omega), hsl, i3, i4⟩, hB, hx⟩ hrun2 (hf.trans (hf6.mono (by decide) (by decide) (by decide) (by decide)))
                      · skip
                        exact absurd rfl h155
                    · skip
                      exact absurd h75 hmax
                · skip
                  exact absurd (oI_inj (fun c hc => by have := (lookO_lt hR hc).1; omega) (by decide) h30) hl40
          | some kk =>
            obtain ⟨k0, k01, k02, k03, l, hl, hl2⟩ := wrdO_some hof
            have hww := whN_aw k03
            have hend := (word_end hww).1
            have hlen2 : wln f n (skip f n a) = (awK kk).length := wln_some hww
            have hwo : ∀ {s2 : MS}, RP s2 f n (skip f n a) → Fr [2] [] [] [] s1 s2 → _ := fun {s2} hR2 hf2 => ct_X6_qWordOf (x := x) (lo := 11) (hi := 13) hS hR2 hp ((hf2.1 54 (by decide)).trans h54) hx (by decide) (by decide)
            rw [hof] at hwo
            rw [show oI (some kk) = nI kk from rfl] at hwo
            have hat : aTok f n x (skip f n a) = .ok (2, kk - 11, skip f n a + wln f n (skip f n a)) := by unfold aTok; rw [if_neg h0, if_neg hmin, if_neg hmax, hof]
            have hst : stpC f n x (true, a, cs, V, op) = if op = 6 then .inr (.error (4, skip f n a)) else .inl (true, skip f n a + wln f n (skip f n a), cs, (60 + (kk - 11)) :: V, op + 1) := by
              rw [hstp]; unfold stpP; rw [hat]; rfl
            by_cases e6 : op = 6
            · rw [if_pos e6] at hst
              rw [hst] at hr2
              rcases hr2 with ⟨d, hd, hrun⟩ | hd
              · cases hd
              · cases hd
                refine r_ild1 (pc := 2) dX6_qPartTold_2 ?_
                refine r_if_eqN (pc := 3) (tgt := 186) dX6_qPartTold_3 (by decide) (by omega) (fun h3 => ?_) (fun h3 => ?_)
                · skip
                  exact absurd h3 (by decide)
                · skip
                  refine r_ald0 (pc := 6) dX6_qPartTold_6 ?_
                  refine m_getI hS (pc := 7) dX6_qPartTold_7 fl_X6_237 ?_
                  refine Bd.eqI hR.2.1 ?_
                  first | refine r_if_neZ (pc := 10) (tgt := 186) dX6_qPartTold_10 (by decide) (fun h10 => ?_) (fun h10 => ?_) | refine r_if_neN (pc := 10) (tgt := 186) dX6_qPartTold_10 (by decide) (by omega) (fun h10 => ?_) (fun h10 => ?_) | refine r_if_ne (pc := 10) (tgt := 186) dX6_qPartTold_10 (by decide) (fun h10 => ?_) (fun h10 => ?_)
                  · skip
                    exact absurd rfl h10
                  · skip
                    refine r_ald0 (pc := 13) dX6_qPartTold_13 ?_
                    refine r_cV (pc := 14) dX6_qPartTold_14 cv_X6_249 hS.k hlk rfl rfl (Nat.le_of_ble_eq_true rfl) (by decide) ?_
                    rintro _ _ ⟨s2, rfl, rfl, hR2, hf2⟩
                    refine r_ist2 (pc := 17) dX6_qPartTold_17 ?_
                    refine r_ald0 (pc := 18) dX6_qPartTold_18 ?_
                    refine r_bipush (v := nI 11) (pc := 19) dX6_qPartTold_19 (by decide) ?_
                    refine r_bipush (v := nI 13) (pc := 21) dX6_qPartTold_21 (by decide) ?_
                    refine r_cV (pc := 23) dX6_qPartTold_23 cv_X6_614 hS.k (hwo hR2 hf2) rfl rfl (Nat.le_of_ble_eq_true rfl) (by decide) ?_
                    rintro _ _ ⟨s3, rfl, rfl, hR3, hf3⟩
                    refine r_ist3 (pc := 26) dX6_qPartTold_26 ?_
                    refine r_ild2 (pc := 27) dX6_qPartTold_27 ?_
                    refine r_bipush (v := nI 40) (pc := 28) dX6_qPartTold_28 (by decide) ?_
                    refine r_icmp_ne (pc := 30) (tgt := 56) dX6_qPartTold_30 (by decide) (fun h30 => ?_) (fun h30 => ?_)
                    · skip
                      refine r_ald0 (pc := 56) dX6_qPartTold_56 ?_
                      refine r_ald0 (pc := 57) dX6_qPartTold_57 ?_
                      refine m_getR hS (pc := 58) dX6_qPartTold_58 fl_X6_177 ar86 ?_
                      refine r_cV (pc := 61) dX6_qPartTold_61 cv_X6_260 hS.k (hereP hS hp hR3 ar86 (w := wMin) (by decide) (hf2.trans hf3)) rfl rfl (Nat.le_of_ble_eq_true rfl) (by decide) ?_
                      rintro _ _ ⟨s4, rfl, rfl, hR4, hf4⟩
                      first | refine r_if_neZ (pc := 64) (tgt := 78) dX6_qPartTold_64 (by decide) (fun h64 => ?_) (fun h64 => ?_) | refine r_if_neN (pc := 64) (tgt := 78) dX6_qPartTold_64 (by decide) (by omega) (fun h64 => ?_) (fun h64 => ?_) | refine r_if_ne (pc := 64) (tgt := 78) dX6_qPartTold_64 (by decide) (fun h64 => ?_) (fun h64 => ?_)
                      · skip
                        exact absurd h64 hmin
                      · skip
                        refine r_ald0 (pc := 67) dX6_qPartTold_67 ?_
                        refine r_ald0 (pc := 68) dX6_qPartTold_68 ?_
                        refine m_getR hS (pc := 69) dX6_qPartTold_69 fl_X6_180 ar87 ?_
                        refine r_cV (pc := 72) dX6_qPartTold_72 cv_X6_260 hS.k (hereP hS hp hR4 ar87 (w := wMax) (by decide) hf4) rfl rfl (Nat.le_of_ble_eq_true rfl) (by decide) ?_
                        rintro _ _ ⟨s6, rfl, rfl, hR6, hf6⟩
                        first | refine r_if_eqZ (pc := 75) (tgt := 153) dX6_qPartTold_75 (by decide) (fun h75 => ?_) (fun h75 => ?_) | refine r_if_eqN (pc := 75) (tgt := 153) dX6_qPartTold_75 (by decide) (by omega) (fun h75 => ?_) (fun h75 => ?_) | refine r_if_eq (pc := 75) (tgt := 153) dX6_qPartTold_75 (by decide) (fun h75 => ?_) (fun h75 => ?_)
                        · skip
                          refine r_ild3 (pc := 153) dX6_qPartTold_153 ?_
                          refine r_iconst (v := -1) (pc := 154) dX6_qPartTold_154 (by decide) ?_
                          refine r_icmp_eq (pc := 155) (tgt := 181) dX6_qPartTold_155 (by decide) (fun h155 => ?_) (fun h155 => ?_)
                          · skip
                            exact absurd h155 (nI_m1 (by omega))
                          · skip
                            refine r_ald0 (pc := 158) dX6_qPartTold_158 ?_
                            refine r_bipush (v := nI 60) (pc := 159) dX6_qPartTold_159 (by decide) ?_
                            refine r_ild3 (pc := 161) dX6_qPartTold_161 ?_
                            first | refine r_iaddN (pc := 162) dX6_qPartTold_162 ?_ | refine r_iaddJ (pc := 162) dX6_qPartTold_162 ?_ | refine r_iadd (pc := 162) dX6_qPartTold_162 ?_
                            refine r_bipush (v := nI 11) (pc := 163) dX6_qPartTold_163 (by decide) ?_
                            refine r_isubN (pc := 165) dX6_qPartTold_165 (by omega) ?_
                            rw [show 60 + kk - 11 = 60 + (kk - 11) by omega]
                            refine r_ald0 (pc := 166) dX6_qPartTold_166 ?_
                            refine m_getI hS (pc := 167) dX6_qPartTold_167 fl_X6_243 ?_
                            refine Bd.eqI hR6.1.2.1 ?_
                            refine r_cV (pc := 170) dX6_qPartTold_170 cv_X6_617 hS.k (ct_X6_qOpens hS hR6.2.1 (hQ.fr hf6 (by decide) (by decide)) (by omega) i4 (by omega) hl1) rfl rfl (Nat.le_of_ble_eq_true rfl) (by decide) ?_
                            rintro _ _ ⟨s7, rfl, rfl, hO, hf7⟩
                            rw [if_pos e6] at hO
                            refine r_ald0 (pc := 173) dX6_qPartTold_173 ?_
                            refine r_ild3 (pc := 174) dX6_qPartTold_174 ?_
                            refine r_cV (pc := 175) dX6_qPartTold_175 cv_X6_620 hS.k (ct_X6_qAsksWordB hS hO.1.ne (by omega)) rfl rfl (Nat.le_of_ble_eq_true rfl) (by decide) ?_
                            rintro _ _ ⟨rfl, rfl⟩
                            refine r_goto (pc := 178) (tgt := 183) dX6_qPartTold_178 (by decide) ?_
                            refine r_goto (pc := 183) (tgt := 2) dX6_qPartTold_183 (by decide) ?_
                            exact hihb _ _ _ _ _ _ rfl ⟨hO.1, cs.length, by omega, hO.2.1⟩ (hf.trans ((hf6.mono (by decide) (by decide) (by decide) (by decide)).trans (hf7.mono (by decide) (by decide) (by decide) (by decide))))
                        · skip
                          exact absurd h75 hmax
                    · skip
                      exact absurd (oI_inj (fun c hc => by have := (lookO_lt hR hc).1; omega) (by decide) h30) hl40
            · rw [if_neg e6] at hst
              have hiC := stpC_inv (e := B.length) hst hi0
              rw [hst] at hr2
              rcases hr2 with ⟨d, hd, hrun⟩ | hd
              · cases hd
                refine r_ild1 (pc := 2) dX6_qPartTold_2 ?_
                refine r_if_eqN (pc := 3) (tgt := 186) dX6_qPartTold_3 (by decide) (by omega) (fun h3 => ?_) (fun h3 => ?_)
                · skip
                  exact absurd h3 (by decide)
                · skip
                  refine r_ald0 (pc := 6) dX6_qPartTold_6 ?_
                  refine m_getI hS (pc := 7) dX6_qPartTold_7 fl_X6_237 ?_
                  refine Bd.eqI hR.2.1 ?_
                  first | refine r_if_neZ (pc := 10) (tgt := 186) dX6_qPartTold_10 (by decide) (fun h10 => ?_) (fun h10 => ?_) | refine r_if_neN (pc := 10) (tgt := 186) dX6_qPartTold_10 (by decide) (by omega) (fun h10 => ?_) (fun h10 => ?_) | refine r_if_ne (pc := 10) (tgt := 186) dX6_qPartTold_10 (by decide) (fun h10 => ?_) (fun h10 => ?_)
                  · skip
                    exact absurd rfl h10
                  · skip
                    refine r_ald0 (pc := 13) dX6_qPartTold_13 ?_
                    refine r_cV (pc := 14) dX6_qPartTold_14 cv_X6_249 hS.k hlk rfl rfl (Nat.le_of_ble_eq_true rfl) (by decide) ?_
                    rintro _ _ ⟨s2, rfl, rfl, hR2, hf2⟩
                    refine r_ist2 (pc := 17) dX6_qPartTold_17 ?_
                    refine r_ald0 (pc := 18) dX6_qPartTold_18 ?_
                    refine r_bipush (v := nI 11) (pc := 19) dX6_qPartTold_19 (by decide) ?_
                    refine r_bipush (v := nI 13) (pc := 21) dX6_qPartTold_21 (by decide) ?_
                    refine r_cV (pc := 23) dX6_qPartTold_23 cv_X6_614 hS.k (hwo hR2 hf2) rfl rfl (Nat.le_of_ble_eq_true rfl) (by decide) ?_
                    rintro _ _ ⟨s3, rfl, rfl, hR3, hf3⟩
                    refine r_ist3 (pc := 26) dX6_qPartTold_26 ?_
                    refine r_ild2 (pc := 27) dX6_qPartTold_27 ?_
                    refine r_bipush (v := nI 40) (pc := 28) dX6_qPartTold_28 (by decide) ?_
                    refine r_icmp_ne (pc := 30) (tgt := 56) dX6_qPartTold_30 (by decide) (fun h30 => ?_) (fun h30 => ?_)
                    · skip
                      refine r_ald0 (pc := 56) dX6_qPartTold_56 ?_
                      refine r_ald0 (pc := 57) dX6_qPartTold_57 ?_
                      refine m_getR hS (pc := 58) dX6_qPartTold_58 fl_X6_177 ar86 ?_
                      refine r_cV (pc := 61) dX6_qPartTold_61 cv_X6_260 hS.k (hereP hS hp hR3 ar86 (w := wMin) (by decide) (hf2.trans hf3)) rfl rfl (Nat.le_of_ble_eq_true rfl) (by decide) ?_
                      rintro _ _ ⟨s4, rfl, rfl, hR4, hf4⟩
                      first | refine r_if_neZ (pc := 64) (tgt := 78) dX6_qPartTold_64 (by decide) (fun h64 => ?_) (fun h64 => ?_) | refine r_if_neN (pc := 64) (tgt := 78) dX6_qPartTold_64 (by decide) (by omega) (fun h64 => ?_) (fun h64 => ?_) | refine r_if_ne (pc := 64) (tgt := 78) dX6_qPartTold_64 (by decide) (fun h64 => ?_) (fun h64 => ?_)
                      · skip
                        exact absurd h64 hmin
                      · skip
                        refine r_ald0 (pc := 67) dX6_qPartTold_67 ?_
                        refine r_ald0 (pc := 68) dX6_qPartTold_68 ?_
                        refine m_getR hS (pc := 69) dX6_qPartTold_69 fl_X6_180 ar87 ?_
                        refine r_cV (pc := 72) dX6_qPartTold_72 cv_X6_260 hS.k (hereP hS hp hR4 ar87 (w := wMax) (by decide) hf4) rfl rfl (Nat.le_of_ble_eq_true rfl) (by decide) ?_
                        rintro _ _ ⟨s6, rfl, rfl, hR6, hf6⟩
                        first | refine r_if_eqZ (pc := 75) (tgt := 153) dX6_qPartTold_75 (by decide) (fun h75 => ?_) (fun h75 => ?_) | refine r_if_eqN (pc := 75) (tgt := 153) dX6_qPartTold_75 (by decide) (by omega) (fun h75 => ?_) (fun h75 => ?_) | refine r_if_eq (pc := 75) (tgt := 153) dX6_qPartTold_75 (by decide) (fun h75 => ?_) (fun h75 => ?_)
                        · skip
                          refine r_ild3 (pc := 153) dX6_qPartTold_153 ?_
                          refine r_iconst (v := -1) (pc := 154) dX6_qPartTold_154 (by decide) ?_
                          refine r_icmp_eq (pc := 155) (tgt := 181) dX6_qPartTold_155 (by decide) (fun h155 => ?_) (fun h155 => ?_)
                          · skip
                            exact absurd h155 (nI_m1 (by omega))
                          · skip
                            refine r_ald0 (pc := 158) dX6_qPartTold_158 ?_
                            refine r_bipush (v := nI 60) (pc := 159) dX6_qPartTold_159 (by decide) ?_
                            refine r_ild3 (pc := 161) dX6_qPartTold_161 ?_
                            first | refine r_iaddN (pc := 162) dX6_qPartTold_162 ?_ | refine r_iaddJ (pc := 162) dX6_qPartTold_162 ?_ | refine r_iadd (pc := 162) dX6_qPartTold_162 ?_
                            refine r_bipush (v := nI 11) (pc := 163) dX6_qPartTold_163 (by decide) ?_
                            refine r_isubN (pc := 165) dX6_qPartTold_165 (by omega) ?_
                            rw [show 60 + kk - 11 = 60 + (kk - 11) by omega]
                            refine r_ald0 (pc := 166) dX6_qPartTold_166 ?_
                            refine m_getI hS (pc := 167) dX6_qPartTold_167 fl_X6_243 ?_
                            refine Bd.eqI hR6.1.2.1 ?_
                            refine r_cV (pc := 170) dX6_qPartTold_170 cv_X6_617 hS.k (ct_X6_qOpens hS hR6.2.1 (hQ.fr hf6 (by decide) (by decide)) (by omega) i4 (by omega) hl1) rfl rfl (Nat.le_of_ble_eq_true rfl) (by decide) ?_
                            rintro _ _ ⟨s7, rfl, rfl, hO, hf7⟩
                            rw [if_neg e6] at hO
                            have hR7 := hR6.fr5 hf7 hO.2 (by decide) (by decide)
                            refine r_ald0 (pc := 173) dX6_qPartTold_173 ?_
                            refine r_ild3 (pc := 174) dX6_qPartTold_174 ?_
                            refine r_cV (pc := 175) dX6_qPartTold_175 cv_X6_620 hS.k (ct_X6_qAsksWord hS hR7 hp (by omega) hww) rfl rfl (Nat.le_of_ble_eq_true rfl) (by decide) ?_
                            rintro _ _ ⟨s8, rfl, rfl, hR8, hf8⟩
                            refine r_goto (pc := 178) (tgt := 183) dX6_qPartTold_178 (by decide) ?_
                            refine r_goto (pc := 183) (tgt := 2) dX6_qPartTold_183 (by decide) ?_
                            exact hih _ _ _ _ _ _ _ _ _ ⟨by show RP s8 f n (skip f n a + wln f n (skip f n a)); rw [hlen2]; exact hR8, hO.1.fr hf8 (by decide) (by decide), (hf8.1 106 (by decide)).trans ((hf7.1 106 (by decide)).trans ((hf6.1 106 (by decide)).trans h106)), (hf8.1 54 (by decide)).trans ((hf7.1 54 (by decide)).trans ((hf6.1 54 (by decide)).trans h54)), hiC, hB, hx⟩ hrun (hf.trans ((hf6.mono (by decide) (by decide) (by decide) (by decide)).trans ((hf7.mono (by decide) (by decide) (by decide) (by decide)).trans (hf8.mono (by decide) (by decide) (by decide) (by decide)))))
                        · skip
                          exact absurd h75 hmax
                    · skip
                      exact absurd (oI_inj (fun c hc => by have := (lookO_lt hR hc).1; omega) (by decide) h30) hl40
              · cases hd
theorem ct_X6_qPartTold {B cs V : List Nat} {op k : Nat} {r : Ou} (hS : ShM g M o) (hC : CFG s f n x B (true, a, cs, V, op)) (hrun : runC f n x k (true, a, cs, V, op) = some r) :
    Ct g yX6_qPartTold cX6_qPartTold 6 none 5 0 0 [.ref o] (putM M o s) (QM M o (PtQ f n x B k r s)) noX := by
  refine Ct.of (by decide) (Nat.le_of_ble_eq_true rfl) rfl ?_
  refine r_iconst (v := nI 1) (pc := 0) dX6_qPartTold_0 (by decide) ?_
  refine r_ist1 (pc := 1) dX6_qPartTold_1 ?_
  exact partLoop hS k a cs V op s _ _ _ _ hC hrun Fr.rf
end M33
