set_option maxRecDepth 100000
/-! RETOUCHED: on -/
/-- people below p are as the tape tells -/
def OnR (f : Nat → Nat) (n : Nat) (t : St) (p : Nat) (t' : St) : Prop := yr t' = 256 * f 0 + f 1 ∧ (∀ r, r < n → hs t' r = if r < p then f (2 + (2 + n) * r) else hs t r) ∧ (∀ r, r < n → lk t' r = if r < p then f (2 + (2 + n) * r + 1) else lk t r) ∧ (∀ r, r < n → sp t' r = if r < p then f (2 + (2 + n) * r + 2) else sp t r) ∧ ∀ r, r < n → ∀ c, c < n → th t' r c = if r < p then (if c = r then th t r r else f (2 + (2 + n) * r + 3 + (if c < r then c else c - 1))) else th t r c
/-- one more, his thoughts below i -/
def OnI (f : Nat → Nat) (n : Nat) (t : St) (p i : Nat) (t' : St) : Prop := yr t' = 256 * f 0 + f 1 ∧ (∀ r, r < n → hs t' r = if r < p + 1 then f (2 + (2 + n) * r) else hs t r) ∧ (∀ r, r < n → lk t' r = if r < p + 1 then f (2 + (2 + n) * r + 1) else lk t r) ∧ (∀ r, r < n → sp t' r = if r < p + 1 then f (2 + (2 + n) * r + 2) else sp t r) ∧ (∀ r, r < n → r ≠ p → ∀ c, c < n → th t' r c = if r < p then (if c = r then th t r r else f (2 + (2 + n) * r + 3 + (if c < r then c else c - 1))) else th t r c) ∧ ∀ c, c < n → th t' p c = if c < i ∧ c ≠ p then f (2 + (2 + n) * p + 3 + (if c < p then c else c - 1)) else th t p c
theorem OnI.fin {f : Nat → Nat} {n p : Nat} {t t' : St} (h : OnI f n t p n t') : OnR f n t (p + 1) t' := by
  obtain ⟨h1, h2, h3, h4, h5, h6⟩ := h
  refine ⟨h1, h2, h3, h4, fun r hr c hc => ?_⟩
  by_cases e : r = p
  · subst e
    rw [h6 c hc, if_pos (show r < r + 1 by omega)]
    by_cases e2 : c = r
    · rw [if_pos e2, if_neg (by omega), e2]
    · rw [if_neg e2, if_pos ⟨hc, e2⟩]
  · rw [h5 r hr e c hc]
    by_cases e2 : r < p
    · rw [if_pos e2, if_pos (show r < p + 1 by omega)]
    · rw [if_neg e2, if_neg (show ¬ r < p + 1 by omega)]
theorem OnI.start {f : Nat → Nat} {n p : Nat} {t t' : St} (h : OnR f n t p t') (hp : p < n) : OnI f n t p 0 (sSp (sLk (sHs t' p (f (2 + (2 + n) * p))) p (f (2 + (2 + n) * p + 1))) p (f (2 + (2 + n) * p + 2))) := by
  obtain ⟨h1, h2, h3, h4, h5⟩ := h
  refine ⟨h1, fun r hr => ?_, fun r hr => ?_, fun r hr => ?_, fun r hr hne c hc => h5 r hr c hc, fun c hc => ?_⟩
  · show va_up (hs t') p (f (2 + (2 + n) * p)) r = _
    unfold va_up
    by_cases e : r = p
    · rw [if_pos e, if_pos (by omega), e]
    · rw [if_neg e, h2 r hr]
      by_cases e2 : r < p
      · rw [if_pos e2, if_pos (by omega)]
      · rw [if_neg e2, if_neg (by omega)]
  · show va_up (lk t') p (f (2 + (2 + n) * p + 1)) r = _
    unfold va_up
    by_cases e : r = p
    · rw [if_pos e, if_pos (by omega), e]
    · rw [if_neg e, h3 r hr]
      by_cases e2 : r < p
      · rw [if_pos e2, if_pos (by omega)]
      · rw [if_neg e2, if_neg (by omega)]
  · show va_up (sp t') p (f (2 + (2 + n) * p + 2)) r = _
    unfold va_up
    by_cases e : r = p
    · rw [if_pos e, if_pos (by omega), e]
    · rw [if_neg e, h4 r hr]
      by_cases e2 : r < p
      · rw [if_pos e2, if_pos (by omega)]
      · rw [if_neg e2, if_neg (by omega)]
  · show th t' p c = _
    rw [h5 p hp c hc, if_neg (by omega), if_neg (by omega)]
theorem OnI.step {f : Nat → Nat} {n p i v : Nat} {t t' : St} (h : OnI f n t p i t') (hp : p < n) (hi : i ≠ p) (hv : v = f (2 + (2 + n) * p + 3 + (if i < p then i else i - 1))) : OnI f n t p (i + 1) (sTh t' p i v) := by
  obtain ⟨h1, h2, h3, h4, h5, h6⟩ := h
  refine ⟨h1, h2, h3, h4, fun r hr hne c hc => ?_, fun c hc => ?_⟩
  · show va_up (th t') p (va_up (th t' p) i v) r c = _
    rw [show va_up (th t') p (va_up (th t' p) i v) r = th t' r by unfold va_up; rw [if_neg hne]]
    exact h5 r hr hne c hc
  · show va_up (th t') p (va_up (th t' p) i v) p c = _
    rw [show va_up (th t') p (va_up (th t' p) i v) p = va_up (th t' p) i v by unfold va_up; rw [if_pos rfl]]
    unfold va_up
    by_cases e : c = i
    · rw [if_pos e, if_pos (show c < i + 1 ∧ c ≠ p from ⟨by omega, by omega⟩), hv, e]
    · rw [if_neg e, h6 c hc]
      by_cases e2 : c < i ∧ c ≠ p
      · rw [if_pos e2, if_pos (show c < i + 1 ∧ c ≠ p from ⟨by omega, e2.2⟩)]
      · rw [if_neg e2, if_neg (show ¬ (c < i + 1 ∧ c ≠ p) from fun z => e2 ⟨by omega, z.2⟩)]
theorem OnI.skip {f : Nat → Nat} {n p : Nat} {t t' : St} (h : OnI f n t p p t') : OnI f n t p (p + 1) t' := by
  obtain ⟨h1, h2, h3, h4, h5, h6⟩ := h
  refine ⟨h1, h2, h3, h4, h5, fun c hc => ?_⟩
  rw [h6 c hc]
  by_cases e2 : c < p ∧ c ≠ p
  · rw [if_pos e2, if_pos (show c < p + 1 ∧ c ≠ p from ⟨by omega, e2.2⟩)]
  · rw [if_neg e2, if_neg (show ¬ (c < p + 1 ∧ c ≠ p) from fun z => e2 ⟨by omega, z.2⟩)]
theorem SX.cong {s : XS} {b n : Nat} {F K : Nat → Nat} {t t' : St} (h : SX s b n F K t) (h1 : yr t' = yr t) (h2 : ∀ p, p < n → hs t' p = hs t p ∧ lk t' p = lk t p ∧ sp t' p = sp t p) (h3 : ∀ p, p < n → ∀ c, c < n → th t' p c = th t p c) : SX s b n F K t' := by
  obtain ⟨a1, a2, a3, a4, a5, a6, a7, a8⟩ := h
  refine ⟨by rw [h1]; exact a1, a2, fun p hp => by rw [(h2 p hp).1]; exact a3 p hp, fun p hp => by rw [(h2 p hp).2.1]; exact a4 p hp, a5, a6, fun p hp => ?_, fun p hp c hc => by rw [h3 p hp c hc]; exact a8 p hp c hc⟩
  rw [a7 p hp]
  exact zI_congr (by rw [(h2 p hp).2.2])
theorem OnR.onT {s : XS} {b n : Nat} {F K : Nat → Nat} {f : Nat → Nat} {t t' : St} (h : OnR f n t n t') (hN : SX s b n F K t') : SX s b n F K (onT f n t) := by
  obtain ⟨h1, h2, h3, h4, h5⟩ := h
  refine hN.cong h1.symm (fun p hp => ⟨?_, ?_, ?_⟩) (fun p hp c hc => ?_)
  · rw [h2 p hp, if_pos hp]; rfl
  · rw [h3 p hp, if_pos hp]; rfl
  · rw [h4 p hp, if_pos hp]; rfl
  · rw [h5 p hp c hc, if_pos hp]; rfl
section X32
variable {g : GC} {M : MM} {o ta : Nat} {P : Nat → Prop} {s : XS} {q : Sg}
/-- where tried stands while an image comes on -/
def OnX (g : GC) (M : MM) (o : Nat) (P : Nat → Prop) (ta : Nat) (q : Sg) (R : St → Prop) (s : XS) : Prop := IX g M o P ta s q ∧ RX s o 68 [] ∧ ∃ t', SX s 68 (tn (gT q)) (fa (gT q)) (ki (gT q)) t' ∧ R t'
theorem IX.try68 {c j : Nat} {v : Int32} (hI : IX g M o P ta s q) (hG : GI q) (h1 : 68 ≤ c) (h2 : c < 124) : IX g M o P ta (uI s c j v) q := hI.scr hG (FrX.uI FrX.rf (Or.inl (Or.inl ⟨by omega, by omega⟩))) hI.W.X (hI.pm 68 isS_68) hI.W.m
theorem xonTh {p b : Nat} (hG : GI q) (hp : p < tn (gT q)) (hb : b = 2 + (2 + tn (gT q)) * p) : ∀ k i s1, i + k = tn (gT q) → OnX g M o P ta q (OnI (gTp q) (tn (gT q)) (gS q) p i) s1 → (∀ j, j < (if i ≤ p then i else i - 1) → gTp q (b + 3 + j) ≤ 9) →
    Bd g yX0_personOn cX0_personOn 5 (some Jvm.ClassFile.FieldType.boolean) [] 4 0 0 (putX M o s1) 131 [some (.ref o), some (.int (nI p)), some (.int (nI b)), some (.int (nI (b + 3 + (if i ≤ p then i else i - 1)))), some (.int (nI i))] [] (QX M o (fun v s' => ∃ r : Bool, v = some (.int (zI (r = true))) ∧ IX g M o P ta s' q ∧ (r = true ↔ ∀ j, j < tn (gT q) - 1 → gTp q (b + 3 + j) ≤ 9) ∧ (r = true → OnX g M o P ta q (OnR (gTp q) (tn (gT q)) (gS q) (p + 1)) s'))) noX := by
  have hby := hG.2.1
  intro k
  induction k with
  | zero =>
    intro i s1 hi hO hpre
    obtain ⟨hI, hR68, t', hN', hOn⟩ := hO
    have W := hI.W
    have S := hI.So
    have hg := W.gx
    have hS := W.S
    have hX := W.X
    have hTB := W.B
    have hn8 := hTB.1
    have hH9 := hTB.2.1
    have hN := hI.nw.1
    have hR := hI.nw.2
    have hB : SB (tn (gT q)) (gS q) := hG.2.2.2.2.2.1.1
    obtain rfl : i = tn (gT q) := by omega
    have hmul : (2 + tn (gT q)) * p ≤ 10 * 7 := Nat.mul_le_mul (by omega) (by omega)
    refine r_ild4 (pc := 131) dX0_personOn_131 ?_
    refine r_ald0 (pc := 133) dX0_personOn_133 ?_
    refine r_cV (pc := 134) dX0_personOn_134 cv_X0_158 (hS.k (c := 0) ow_0 kd_0) (ct_X0_people W S) rfl rfl (Nat.le_of_ble_eq_true rfl) (by first | decide | omega) ?_
    rintro _ _ ⟨rfl, rfl⟩
    first | refine r_icmp_geN (pc := 137) (tgt := 187) dX0_personOn_137 (by decide) (by omega) (by omega) (fun h137 => ?_) (fun h137 => ?_) | refine r_icmp_ge (pc := 137) (tgt := 187) dX0_personOn_137 (by decide) (fun h137 => ?_) (fun h137 => ?_)
    · skip
      refine r_iconst (v := nI 1) (pc := 187) dX0_personOn_187 (by decide) ?_
      refine r_zret (pc := 188) dX0_personOn_188 (by first | rfl | exact zI_nar | assumption) ?_
      exact ⟨s1, rfl, true, rfl, hI, ⟨fun _ j hj => hpre j (by rw [if_neg (by omega)]; exact hj), fun _ => rfl⟩, fun _ => ⟨hI, hR68, t', hN', hOn.fin⟩⟩
    · skip
      exact absurd h137 (by omega)
  | succ k ih =>
    intro i s1 hi hO hpre
    obtain ⟨hI, hR68, t', hN', hOn⟩ := hO
    have W := hI.W
    have S := hI.So
    have hg := W.gx
    have hS := W.S
    have hX := W.X
    have hTB := W.B
    have hn8 := hTB.1
    have hH9 := hTB.2.1
    have hN := hI.nw.1
    have hR := hI.nw.2
    have hB : SB (tn (gT q)) (gS q) := hG.2.2.2.2.2.1.1
    have hmul : (2 + tn (gT q)) * p ≤ 10 * 7 := Nat.mul_le_mul (by omega) (by omega)
    by_cases e : i = p
    · subst e
      refine r_ild4 (pc := 131) dX0_personOn_131 ?_
      refine r_ald0 (pc := 133) dX0_personOn_133 ?_
      refine r_cV (pc := 134) dX0_personOn_134 cv_X0_158 (hS.k (c := 0) ow_0 kd_0) (ct_X0_people W S) rfl rfl (Nat.le_of_ble_eq_true rfl) (by first | decide | omega) ?_
      rintro _ _ ⟨rfl, rfl⟩
      first | refine r_icmp_geN (pc := 137) (tgt := 187) dX0_personOn_137 (by decide) (by omega) (by omega) (fun h137 => ?_) (fun h137 => ?_) | refine r_icmp_ge (pc := 137) (tgt := 187) dX0_personOn_137 (by decide) (fun h137 => ?_) (fun h137 => ?_)
      · skip
        exact absurd h137 (by omega)
      · skip
        refine r_ild4 (pc := 140) dX0_personOn_140 ?_
        refine r_ild1 (pc := 142) dX0_personOn_142 ?_
        first | refine r_icmp_neN (pc := 143) (tgt := 149) dX0_personOn_143 (by decide) (by omega) (by omega) (fun h143 => ?_) (fun h143 => ?_) | refine r_icmp_ne (pc := 143) (tgt := 149) dX0_personOn_143 (by decide) (fun h143 => ?_) (fun h143 => ?_)
        · skip
          exact absurd rfl h143
        · skip
          refine r_goto (pc := 146) (tgt := 181) dX0_personOn_146 (by decide) ?_
          first | refine r_iinc4N (j := 1) (pc := 181) dX0_personOn_181 rfl ?_ | refine r_iinc4 (pc := 181) dX0_personOn_181 ?_
          refine r_goto (pc := 184) (tgt := 131) dX0_personOn_184 (by decide) ?_
          have := ih (i + 1) s1 (by omega) ⟨hI, hR68, t', hN', hOn.skip⟩ (fun j hj => hpre j (by rw [if_neg (by omega)] at hj; rw [if_pos (Nat.le_refl i)]; omega))
          rw [if_neg (by omega)] at this
          rw [if_pos (Nat.le_refl i)]
          exact this
    · have hidx : (if i ≤ p then i else i - 1) = (if i < p then i else i - 1) := by
        by_cases h1 : i < p
        · rw [if_pos h1, if_pos (by omega)]
        · rw [if_neg h1, if_neg (by omega)]
      rw [hidx] at hpre ⊢
      generalize hz : (if i < p then i else i - 1) = z at hpre ⊢
      have hzn : z < tn (gT q) - 1 := by rw [← hz]; split <;> omega
      have hz1 : (if i + 1 ≤ p then i + 1 else i + 1 - 1) = z + 1 := by
        rw [← hz]
        by_cases h1 : i < p
        · rw [if_pos h1, if_pos (by omega)]
        · rw [if_neg h1, if_neg (by omega)]; omega
      have hv := hby (b + 3 + z)
      have hI2 := hI.try68 (c := 68 + (7 + p)) (j := i) (v := nI (gTp q (b + 3 + z))) hG (by omega) (by omega)
      have hN2 := hN'.think (p := p) (w := i) (v := gTp q (b + 3 + z))
      have hR2 := hR68.uI (c := 68 + (7 + p)) (j := i) (v := nI (gTp q (b + 3 + z))) (by omega)
      have hOn2 := hOn.step (v := gTp q (b + 3 + z)) hp e (by rw [hz, hb])
      refine r_ild4 (pc := 131) dX0_personOn_131 ?_
      refine r_ald0 (pc := 133) dX0_personOn_133 ?_
      refine r_cV (pc := 134) dX0_personOn_134 cv_X0_158 (hS.k (c := 0) ow_0 kd_0) (ct_X0_people W S) rfl rfl (Nat.le_of_ble_eq_true rfl) (by first | decide | omega) ?_
      rintro _ _ ⟨rfl, rfl⟩
      first | refine r_icmp_geN (pc := 137) (tgt := 187) dX0_personOn_137 (by decide) (by omega) (by omega) (fun h137 => ?_) (fun h137 => ?_) | refine r_icmp_ge (pc := 137) (tgt := 187) dX0_personOn_137 (by decide) (fun h137 => ?_) (fun h137 => ?_)
      · skip
        exact absurd h137 (by omega)
      · skip
        refine r_ild4 (pc := 140) dX0_personOn_140 ?_
        refine r_ild1 (pc := 142) dX0_personOn_142 ?_
        first | refine r_icmp_neN (pc := 143) (tgt := 149) dX0_personOn_143 (by decide) (by omega) (by omega) (fun h143 => ?_) (fun h143 => ?_) | refine r_icmp_ne (pc := 143) (tgt := 149) dX0_personOn_143 (by decide) (fun h143 => ?_) (fun h143 => ?_)
        · skip
          refine r_ald0 (pc := 149) dX0_personOn_149 ?_
          refine x_getR (c := 0) hS ow_0 kd_0 (pc := 150) dX0_personOn_150 fl_X0_73 (fx_0_10 hX) ?_
          refine x_getRN (c := 68) hS (st_ow isS_68) (st_kd isS_68) (pc := 153) dX0_personOn_153 (fn_X0_223 hg) (fs_8 hX isS_68) ?_
          refine r_ild1 (pc := 156) dX0_personOn_156 ?_
          refine x_aald (c := (68 + 6)) (j := p) hS (st_ow6 isS_68) (st_kd6 isS_68) (by decide) (st_ln6 isS_68) (pc := 157) dX0_personOn_157 (by omega) (by omega) (fs_th hX isS_68 (by omega)) ?_
          refine r_ild4 (pc := 158) dX0_personOn_158 ?_
          refine r_ald0 (pc := 160) dX0_personOn_160 ?_
          refine r_ild3 (pc := 161) dX0_personOn_161 ?_
          refine r_cV (pc := 162) dX0_personOn_162 cv_X0_275 (hS.k (c := 0) ow_0 kd_0) (hI.byte (k := b + 3 + z) (by omega)) rfl rfl (Nat.le_of_ble_eq_true rfl) (by first | decide | omega) ?_
          rintro _ _ ⟨rfl, rfl⟩
          refine x_iast (c := (68 + (7 + p))) hS (th_ow isS_68 (by omega)) (th_kd isS_68 (by omega)) (th_ln isS_68 (by omega)) (pc := 165) dX0_personOn_165 (by omega) (by omega) ?_
          refine r_ald0 (pc := 166) dX0_personOn_166 ?_
          refine r_ild3 (pc := 167) dX0_personOn_167 ?_
          refine r_cV (pc := 168) dX0_personOn_168 cv_X0_275 (hS.k (c := 0) ow_0 kd_0) (hI2.byte (k := b + 3 + z) (by omega)) rfl rfl (Nat.le_of_ble_eq_true rfl) (by first | decide | omega) ?_
          rintro _ _ ⟨rfl, rfl⟩
          refine r_bipush (v := nI 9) (pc := 171) dX0_personOn_171 (by decide) ?_
          first | refine r_icmp_leN (pc := 173) (tgt := 178) dX0_personOn_173 (by decide) (by omega) (by omega) (fun h173 => ?_) (fun h173 => ?_) | refine r_icmp_le (pc := 173) (tgt := 178) dX0_personOn_173 (by decide) (fun h173 => ?_) (fun h173 => ?_)
          · skip
            first | refine r_iinc3N (j := 1) (pc := 178) dX0_personOn_178 rfl ?_ | refine r_iinc3 (pc := 178) dX0_personOn_178 ?_
            first | refine r_iinc4N (j := 1) (pc := 181) dX0_personOn_181 rfl ?_ | refine r_iinc4 (pc := 181) dX0_personOn_181 ?_
            refine r_goto (pc := 184) (tgt := 131) dX0_personOn_184 (by decide) ?_
            have := ih (i + 1) _ (by omega) ⟨hI2, hR2, _, hN2, hOn2⟩ (fun j hj => by rw [hz1] at hj; by_cases e2 : j = z; (subst e2; omega); exact hpre j (by omega))
            rw [hz1] at this
            exact this
          · skip
            refine r_iconst (v := nI 0) (pc := 176) dX0_personOn_176 (by decide) ?_
            refine r_zret (pc := 177) dX0_personOn_177 (by first | rfl | exact zI_nar | assumption) ?_
            exact ⟨_, rfl, false, by rw [zI_f (by decide)]; rfl, hI2, ⟨fun h => Bool.noConfusion h, fun h => absurd (h z hzn) (by omega)⟩, fun h => Bool.noConfusion h⟩
        · skip
          exact absurd h143 e
theorem xonHs {p b : Nat} (hG : GI q) (hp : p < tn (gT q)) (hb : b = 2 + (2 + tn (gT q)) * p) {Q : Option Value → MM → Prop} {t' : St} (hI : IX g M o P ta s q) (hN' : SX s 68 (tn (gT q)) (fa (gT q)) (ki (gT q)) t') (hOn : OnR (gTp q) (tn (gT q)) (gS q) p t') (K : allR (fun r => gTp q (2 + (2 + tn (gT q)) * r) != gTp q b) p 0 = true → ∀ x3, Bd g yX0_personOn cX0_personOn 5 (some Jvm.ClassFile.FieldType.boolean) [] 4 0 0 (putX M o s) 69 [some (.ref o), some (.int (nI p)), some (.int (nI b)), x3, none] [] Q noX) (Kf : allR (fun r => gTp q (2 + (2 + tn (gT q)) * r) != gTp q b) p 0 = false → Q (some (.int (nI 0))) (putX M o s)) : ∀ k i, i + k = p → allR (fun r => gTp q (2 + (2 + tn (gT q)) * r) != gTp q b) i 0 = true →
    Bd g yX0_personOn cX0_personOn 5 (some Jvm.ClassFile.FieldType.boolean) [] 4 0 0 (putX M o s) 39 [some (.ref o), some (.int (nI p)), some (.int (nI b)), some (.int (nI i)), none] [] Q noX := by
  have W := hI.W
  have S := hI.So
  have hg := W.gx
  have hS := W.S
  have hX := W.X
  have hTB := W.B
  have hn8 := hTB.1
  have hH9 := hTB.2.1
  have hN := hI.nw.1
  have hR := hI.nw.2
  have hB : SB (tn (gT q)) (gS q) := hG.2.2.2.2.2.1.1
  have hby := hG.2.1
  have hmul : (2 + tn (gT q)) * p ≤ 10 * 7 := Nat.mul_le_mul (by omega) (by omega)
  intro k
  induction k with
  | zero =>
    intro i hi ha
    obtain rfl : i = p := by omega
    refine r_ild3 (pc := 39) dX0_personOn_39 ?_
    refine r_ild1 (pc := 40) dX0_personOn_40 ?_
    first | refine r_icmp_geN (pc := 41) (tgt := 69) dX0_personOn_41 (by decide) (by omega) (by omega) (fun h41 => ?_) (fun h41 => ?_) | refine r_icmp_ge (pc := 41) (tgt := 69) dX0_personOn_41 (by decide) (fun h41 => ?_) (fun h41 => ?_)
    · skip
      exact K ha _
    · skip
      exact absurd h41 (by omega)
  | succ k ih =>
    intro i hi ha
    have hmi : (2 + tn (gT q)) * i ≤ 10 * 7 := Nat.mul_le_mul (by omega) (by omega)
    have b1 := hby (2 + (2 + tn (gT q)) * i)
    have b2 := hby b
    have hh : hs t' i = gTp q (2 + (2 + tn (gT q)) * i) := by rw [hOn.2.1 i (by omega), if_pos (by omega)]
    refine r_ild3 (pc := 39) dX0_personOn_39 ?_
    refine r_ild1 (pc := 40) dX0_personOn_40 ?_
    first | refine r_icmp_geN (pc := 41) (tgt := 69) dX0_personOn_41 (by decide) (by omega) (by omega) (fun h41 => ?_) (fun h41 => ?_) | refine r_icmp_ge (pc := 41) (tgt := 69) dX0_personOn_41 (by decide) (fun h41 => ?_) (fun h41 => ?_)
    · skip
      exact absurd h41 (by omega)
    · skip
      refine r_ald0 (pc := 44) dX0_personOn_44 ?_
      refine x_getR (c := 0) hS ow_0 kd_0 (pc := 45) dX0_personOn_45 fl_X0_73 (fx_0_10 hX) ?_
      refine x_getRN (c := 68) hS (st_ow isS_68) (st_kd isS_68) (pc := 48) dX0_personOn_48 (fn_X0_207 hg) (fs_3 hX isS_68) ?_
      refine r_ild3 (pc := 51) dX0_personOn_51 ?_
      refine x_iald (c := (68 + 1)) hS (st_ow1 isS_68) (st_kd1 isS_68) (st_ln1 isS_68) (pc := 52) dX0_personOn_52 (by omega) (by omega) ?_
      refine Bd.eqI (hN'.2.2.1 i (by omega)) ?_
      rw [hh]
      refine r_ald0 (pc := 53) dX0_personOn_53 ?_
      refine r_ild2 (pc := 54) dX0_personOn_54 ?_
      refine r_cV (pc := 55) dX0_personOn_55 cv_X0_275 (hS.k (c := 0) ow_0 kd_0) (hI.byte (k := b) (by omega)) rfl rfl (Nat.le_of_ble_eq_true rfl) (by first | decide | omega) ?_
      rintro _ _ ⟨rfl, rfl⟩
      first | refine r_icmp_neN (pc := 58) (tgt := 63) dX0_personOn_58 (by decide) (by omega) (by omega) (fun h58 => ?_) (fun h58 => ?_) | refine r_icmp_ne (pc := 58) (tgt := 63) dX0_personOn_58 (by decide) (fun h58 => ?_) (fun h58 => ?_)
      · skip
        first | refine r_iinc3N (j := 1) (pc := 63) dX0_personOn_63 rfl ?_ | refine r_iinc3 (pc := 63) dX0_personOn_63 ?_
        refine r_goto (pc := 66) (tgt := 39) dX0_personOn_66 (by decide) ?_
        exact ih (i + 1) (by omega) (by rw [allR_snoc, ha, Nat.zero_add, Bool.true_and]; exact bne_iff_ne.mpr h58)
      · skip
        refine r_iconst (v := nI 0) (pc := 61) dX0_personOn_61 (by decide) ?_
        refine r_zret (pc := 62) dX0_personOn_62 (by first | rfl | exact zI_nar | assumption) ?_
        refine Kf (Bool.eq_false_iff.mpr (fun z => ?_))
        have := allR_iff.mp z i (Nat.zero_le i) (by omega)
        rw [bne_iff_ne] at this
        exact this h58
theorem xonPut {p b : Nat} {x3 : Option Value} {Q : Option Value → MM → Prop} (hI : IX g M o P ta s q) (hI1 : IX g M o P ta (uI s (68 + 1) p (nI (gTp q b))) q) (hI2 : IX g M o P ta (uI (uI s (68 + 1) p (nI (gTp q b))) (68 + 2) p (nI (gTp q (b + 1)))) q) (hfin : ∀ z x4, z = nI (gTp q (b + 2)) → Bd g yX0_personOn cX0_personOn 5 (some Jvm.ClassFile.FieldType.boolean) [] 4 0 0 (putX M o (uI (uI (uI s (68 + 1) p (nI (gTp q b))) (68 + 2) p (nI (gTp q (b + 1)))) (68 + 5) p z)) 124 [some (.ref o), some (.int (nI p)), some (.int (nI b)), x3, x4] [] Q noX) (hp : p < 8) (hb : b + 2 < 1600) (h1 : gTp q (b + 2) ≤ 1) :
    Bd g yX0_personOn cX0_personOn 5 (some Jvm.ClassFile.FieldType.boolean) [] 4 0 0 (putX M o s) 69 [some (.ref o), some (.int (nI p)), some (.int (nI b)), x3, none] [] Q noX := by
  have hg := hI.W.gx
  have hS := hI.W.S
  have hX := hI.W.X
  refine r_ald0 (pc := 69) dX0_personOn_69 ?_
  refine x_getR (c := 0) hS ow_0 kd_0 (pc := 70) dX0_personOn_70 fl_X0_73 (fx_0_10 hX) ?_
  refine x_getRN (c := 68) hS (st_ow isS_68) (st_kd isS_68) (pc := 73) dX0_personOn_73 (fn_X0_207 hg) (fs_3 hX isS_68) ?_
  refine r_ild1 (pc := 76) dX0_personOn_76 ?_
  refine r_ald0 (pc := 77) dX0_personOn_77 ?_
  refine r_ild2 (pc := 78) dX0_personOn_78 ?_
  refine r_cV (pc := 79) dX0_personOn_79 cv_X0_275 (hS.k (c := 0) ow_0 kd_0) (hI.byte (k := b) (by omega)) rfl rfl (Nat.le_of_ble_eq_true rfl) (by first | decide | omega) ?_
  rintro _ _ ⟨rfl, rfl⟩
  refine x_iast (c := (68 + 1)) hS (st_ow1 isS_68) (st_kd1 isS_68) (st_ln1 isS_68) (pc := 82) dX0_personOn_82 (by omega) (by omega) ?_
  refine r_ald0 (pc := 83) dX0_personOn_83 ?_
  refine x_getR (c := 0) hS ow_0 kd_0 (pc := 84) dX0_personOn_84 fl_X0_73 (fx_0_10 hX) ?_
  refine x_getRN (c := 68) hS (st_ow isS_68) (st_kd isS_68) (pc := 87) dX0_personOn_87 (fn_X0_174 hg) (fs_4 hX isS_68) ?_
  refine r_ild1 (pc := 90) dX0_personOn_90 ?_
  refine r_ald0 (pc := 91) dX0_personOn_91 ?_
  refine r_ild2 (pc := 92) dX0_personOn_92 ?_
  refine r_iconst (v := nI 1) (pc := 93) dX0_personOn_93 (by decide) ?_
  first | refine r_iaddN (pc := 94) dX0_personOn_94 ?_ | refine r_iaddJ (pc := 94) dX0_personOn_94 ?_ | refine r_iadd (pc := 94) dX0_personOn_94 ?_
  refine r_cV (pc := 95) dX0_personOn_95 cv_X0_275 (hS.k (c := 0) ow_0 kd_0) (hI1.byte (k := b + 1) (by omega)) rfl rfl (Nat.le_of_ble_eq_true rfl) (by first | decide | omega) ?_
  rintro _ _ ⟨rfl, rfl⟩
  refine x_iast (c := (68 + 2)) hS (st_ow2 isS_68) (st_kd2 isS_68) (st_ln2 isS_68) (pc := 98) dX0_personOn_98 (by omega) (by omega) ?_
  refine r_ald0 (pc := 99) dX0_personOn_99 ?_
  refine x_getR (c := 0) hS ow_0 kd_0 (pc := 100) dX0_personOn_100 fl_X0_73 (fx_0_10 hX) ?_
  refine x_getRN (c := 68) hS (st_ow isS_68) (st_kd isS_68) (pc := 103) dX0_personOn_103 (fn_X0_177 hg) (fs_7 hX isS_68) ?_
  refine r_ild1 (pc := 106) dX0_personOn_106 ?_
  refine r_ald0 (pc := 107) dX0_personOn_107 ?_
  refine r_ild2 (pc := 108) dX0_personOn_108 ?_
  refine r_iconst (v := nI 2) (pc := 109) dX0_personOn_109 (by decide) ?_
  first | refine r_iaddN (pc := 110) dX0_personOn_110 ?_ | refine r_iaddJ (pc := 110) dX0_personOn_110 ?_ | refine r_iadd (pc := 110) dX0_personOn_110 ?_
  refine r_cV (pc := 111) dX0_personOn_111 cv_X0_275 (hS.k (c := 0) ow_0 kd_0) (hI2.byte (k := b + 2) (by omega)) rfl rfl (Nat.le_of_ble_eq_true rfl) (by first | decide | omega) ?_
  rintro _ _ ⟨rfl, rfl⟩
  refine r_iconst (v := nI 1) (pc := 114) dX0_personOn_114 (by decide) ?_
  first | refine r_icmp_neN (pc := 115) (tgt := 122) dX0_personOn_115 (by decide) (by omega) (by omega) (fun h115 => ?_) (fun h115 => ?_) | refine r_icmp_ne (pc := 115) (tgt := 122) dX0_personOn_115 (by decide) (fun h115 => ?_) (fun h115 => ?_)
  · skip
    refine r_iconst (v := nI 0) (pc := 122) dX0_personOn_122 (by decide) ?_
    refine x_zast (c := (68 + 5)) hS (st_ow5 isS_68) (st_kd5 isS_68) (st_ln5 isS_68) (pc := 123) dX0_personOn_123 (by omega) (by omega) ?_
    have hnb : ∀ v' : Nat, v' < 2 → vp_nar .boolean (nI v') = nI v' := by decide
    rw [hnb _ (by decide)]
    exact hfin _ _ (by congr 1; omega)
  · skip
    refine r_iconst (v := nI 1) (pc := 118) dX0_personOn_118 (by decide) ?_
    refine r_goto (pc := 119) (tgt := 123) dX0_personOn_119 (by decide) ?_
    refine x_zast (c := (68 + 5)) hS (st_ow5 isS_68) (st_kd5 isS_68) (st_ln5 isS_68) (pc := 123) dX0_personOn_123 (by omega) (by omega) ?_
    have hnb : ∀ v' : Nat, v' < 2 → vp_nar .boolean (nI v') = nI v' := by decide
    rw [hnb _ (by decide)]
    exact hfin _ _ (by congr 1; omega)
theorem ct_X0_personOn {p b : Nat} (hG : GI q) (hp : p < tn (gT q)) (hb : b = 2 + (2 + tn (gT q)) * p) (hO : OnX g M o P ta q (OnR (gTp q) (tn (gT q)) (gS q) p) s) :
    Ct g yX0_personOn cX0_personOn 5 (some Jvm.ClassFile.FieldType.boolean) 4 0 0 [.ref o, .int (nI p), .int (nI b)] (putX M o s) (QX M o (fun v s' => v = some (.int (zI (pTold (gTp q) (tn (gT q)) (tH (gT q)) p = true))) ∧ IX g M o P ta s' q ∧ (pTold (gTp q) (tn (gT q)) (tH (gT q)) p = true → OnX g M o P ta q (OnR (gTp q) (tn (gT q)) (gS q) (p + 1)) s'))) noX := by
  obtain ⟨hI, hR68, t', hN', hOn⟩ := hO
  have W := hI.W
  have S := hI.So
  have hg := W.gx
  have hS := W.S
  have hX := W.X
  have hTB := W.B
  have hn8 := hTB.1
  have hH9 := hTB.2.1
  have hN := hI.nw.1
  have hR := hI.nw.2
  have hB : SB (tn (gT q)) (gS q) := hG.2.2.2.2.2.1.1
  have hby := hG.2.1
  have hmul : (2 + tn (gT q)) * p ≤ 10 * 7 := Nat.mul_le_mul (by omega) (by omega)
  have b0 := hby b
  have b1 := hby (b + 1)
  have b2 := hby (b + 2)
  have hpt : pTold (gTp q) (tn (gT q)) (tH (gT q)) p = (decide (gTp q b < tH (gT q)) && decide (gTp q (b + 1) ≤ 99) && decide (gTp q (b + 2) ≤ 1) && allR (fun i => decide (gTp q (b + i) ≤ 9)) (tn (gT q) - 1) 3 && allR (fun r => gTp q (2 + (2 + tn (gT q)) * r) != gTp q b) p 0) := by rw [hb]; rfl
  have hno : ∀ v, v = some (Value.int (nI 0)) → pTold (gTp q) (tn (gT q)) (tH (gT q)) p = false → QX M o (fun v s' => v = some (.int (zI (pTold (gTp q) (tn (gT q)) (tH (gT q)) p = true))) ∧ IX g M o P ta s' q ∧ (pTold (gTp q) (tn (gT q)) (tH (gT q)) p = true → OnX g M o P ta q (OnR (gTp q) (tn (gT q)) (gS q) (p + 1)) s')) v (putX M o s) := by
    intro v hv hf
    refine ⟨s, rfl, ?_, hI, fun z => by rw [hf] at z; cases z⟩
    rw [hv, zI_f (by rw [hf]; decide)]; rfl
  refine Ct.of (by decide) (Nat.le_of_ble_eq_true rfl) rfl ?_
  refine r_ald0 (pc := 0) dX0_personOn_0 ?_
  refine r_ald0 (pc := 1) dX0_personOn_1 ?_
  refine r_ild2 (pc := 2) dX0_personOn_2 ?_
  refine r_cV (pc := 3) dX0_personOn_3 cv_X0_275 (hS.k (c := 0) ow_0 kd_0) (hI.byte (k := b) (by omega)) rfl rfl (Nat.le_of_ble_eq_true rfl) (by first | decide | omega) ?_
  rintro _ _ ⟨rfl, rfl⟩
  refine r_cV (pc := 6) dX0_personOn_6 cv_X0_201 (hS.k (c := 0) ow_0 kd_0) (ct_X0_isHouse W) rfl rfl (Nat.le_of_ble_eq_true rfl) (by first | decide | omega) ?_
  rintro _ _ ⟨rfl, rfl⟩
  rw [nI_toInt (by omega)]
  first | refine r_if_eqZ (pc := 9) (tgt := 35) dX0_personOn_9 (by decide) (fun h9 => ?_) (fun h9 => ?_) | refine r_if_eqN (pc := 9) (tgt := 35) dX0_personOn_9 (by decide) (by omega) (fun h9 => ?_) (fun h9 => ?_) | refine r_if_eq (pc := 9) (tgt := 35) dX0_personOn_9 (by decide) (fun h9 => ?_) (fun h9 => ?_)
  · skip
    refine r_iconst (v := nI 0) (pc := 35) dX0_personOn_35 (by decide) ?_
    refine r_zret (pc := 36) dX0_personOn_36 (by first | rfl | exact zI_nar | assumption) ?_
    first | exact hno _ rfl (by rw [hpt, decide_eq_false (show ¬ gTp q b < tH (gT q) by omega)]; rfl) | exact hno _ rfl (by rw [hpt, decide_eq_false (show ¬ gTp q (b + 1) ≤ 99 by omega), Bool.and_false]; rfl) | exact hno _ rfl (by rw [hpt, decide_eq_false (show ¬ gTp q (b + 2) ≤ 1 by omega), Bool.and_false]; rfl)
  · skip
    refine r_ald0 (pc := 12) dX0_personOn_12 ?_
    refine r_ild2 (pc := 13) dX0_personOn_13 ?_
    refine r_iconst (v := nI 1) (pc := 14) dX0_personOn_14 (by decide) ?_
    first | refine r_iaddN (pc := 15) dX0_personOn_15 ?_ | refine r_iaddJ (pc := 15) dX0_personOn_15 ?_ | refine r_iadd (pc := 15) dX0_personOn_15 ?_
    refine r_cV (pc := 16) dX0_personOn_16 cv_X0_275 (hS.k (c := 0) ow_0 kd_0) (hI.byte (k := b + 1) (by omega)) rfl rfl (Nat.le_of_ble_eq_true rfl) (by first | decide | omega) ?_
    rintro _ _ ⟨rfl, rfl⟩
    refine r_bipush (v := nI 99) (pc := 19) dX0_personOn_19 (by decide) ?_
    first | refine r_icmp_gtN (pc := 21) (tgt := 35) dX0_personOn_21 (by decide) (by omega) (by omega) (fun h21 => ?_) (fun h21 => ?_) | refine r_icmp_gt (pc := 21) (tgt := 35) dX0_personOn_21 (by decide) (fun h21 => ?_) (fun h21 => ?_)
    · skip
      refine r_iconst (v := nI 0) (pc := 35) dX0_personOn_35 (by decide) ?_
      refine r_zret (pc := 36) dX0_personOn_36 (by first | rfl | exact zI_nar | assumption) ?_
      first | exact hno _ rfl (by rw [hpt, decide_eq_false (show ¬ gTp q b < tH (gT q) by omega)]; rfl) | exact hno _ rfl (by rw [hpt, decide_eq_false (show ¬ gTp q (b + 1) ≤ 99 by omega), Bool.and_false]; rfl) | exact hno _ rfl (by rw [hpt, decide_eq_false (show ¬ gTp q (b + 2) ≤ 1 by omega), Bool.and_false]; rfl)
    · skip
      refine r_ald0 (pc := 24) dX0_personOn_24 ?_
      refine r_ild2 (pc := 25) dX0_personOn_25 ?_
      refine r_iconst (v := nI 2) (pc := 26) dX0_personOn_26 (by decide) ?_
      first | refine r_iaddN (pc := 27) dX0_personOn_27 ?_ | refine r_iaddJ (pc := 27) dX0_personOn_27 ?_ | refine r_iadd (pc := 27) dX0_personOn_27 ?_
      refine r_cV (pc := 28) dX0_personOn_28 cv_X0_275 (hS.k (c := 0) ow_0 kd_0) (hI.byte (k := b + 2) (by omega)) rfl rfl (Nat.le_of_ble_eq_true rfl) (by first | decide | omega) ?_
      rintro _ _ ⟨rfl, rfl⟩
      refine r_iconst (v := nI 1) (pc := 31) dX0_personOn_31 (by decide) ?_
      first | refine r_icmp_leN (pc := 32) (tgt := 37) dX0_personOn_32 (by decide) (by omega) (by omega) (fun h32 => ?_) (fun h32 => ?_) | refine r_icmp_le (pc := 32) (tgt := 37) dX0_personOn_32 (by decide) (fun h32 => ?_) (fun h32 => ?_)
      · skip
        refine r_iconst (v := nI 0) (pc := 37) dX0_personOn_37 (by decide) ?_
        refine r_ist3 (pc := 38) dX0_personOn_38 ?_
        refine xonHs hG hp hb hI hN' hOn (fun ha x3 => ?_) (fun ha => hno _ rfl (by rw [hpt, ha, Bool.and_false])) p 0 (by omega) rfl
        rw [decide_eq_true (show gTp q b < tH (gT q) by omega), decide_eq_true (show gTp q (b + 1) ≤ 99 by omega), decide_eq_true (show gTp q (b + 2) ≤ 1 by omega), ha, Bool.and_true, Bool.true_and, Bool.true_and, Bool.true_and] at hpt
        have hI1 := hI.try68 (c := 68 + 1) (j := p) (v := nI (gTp q b)) hG (by omega) (by omega)
        have hI2 := hI1.try68 (c := 68 + 2) (j := p) (v := nI (gTp q (b + 1))) hG (by omega) (by omega)
        have hI3 := hI2.try68 (c := 68 + 5) (j := p) (v := nI (gTp q (b + 2))) hG (by omega) (by omega)
        have hN3 := SX.spare (p := p) (v := gTp q (b + 2)) (by omega) (SX.look (p := p) (v := gTp q (b + 1)) (SX.house (p := p) (v := gTp q b) hN'))
        have hR3 := ((hR68.uI (c := 68 + 1) (j := p) (v := nI (gTp q b)) (by omega)).uI (c := 68 + 2) (j := p) (v := nI (gTp q (b + 1))) (by omega)).uI (c := 68 + 5) (j := p) (v := nI (gTp q (b + 2))) (by omega)
        have hOn3 := OnI.start hOn hp
        rw [← hb] at hOn3
        have hfin : ∀ z x4, z = nI (gTp q (b + 2)) → Bd g yX0_personOn cX0_personOn 5 (some Jvm.ClassFile.FieldType.boolean) [] 4 0 0 (putX M o (uI (uI (uI s (68 + 1) p (nI (gTp q b))) (68 + 2) p (nI (gTp q (b + 1)))) (68 + 5) p z)) 124 [some (.ref o), some (.int (nI p)), some (.int (nI b)), x3, x4] [] (QX M o (fun v s' => v = some (.int (zI (pTold (gTp q) (tn (gT q)) (tH (gT q)) p = true))) ∧ IX g M o P ta s' q ∧ (pTold (gTp q) (tn (gT q)) (tH (gT q)) p = true → OnX g M o P ta q (OnR (gTp q) (tn (gT q)) (gS q) (p + 1)) s'))) noX := by
          intro z x4 hz
          rw [hz]
          refine r_ild2 (pc := 124) dX0_personOn_124 ?_
          refine r_iconst (v := nI 3) (pc := 125) dX0_personOn_125 (by decide) ?_
          refine r_iaddN (pc := 126) dX0_personOn_126 ?_
          refine r_ist3 (pc := 127) dX0_personOn_127 ?_
          refine r_iconst (v := nI 0) (pc := 128) dX0_personOn_128 (by decide) ?_
          refine r_ist4 (pc := 129) dX0_personOn_129 ?_
          have := xonTh hG hp hb (tn (gT q)) 0 _ (by omega) ⟨hI3, hR3, _, hN3, hOn3⟩ (fun j hj => by rw [if_pos (Nat.zero_le p)] at hj; exact absurd hj (Nat.not_lt_zero j))
          rw [if_pos (Nat.zero_le p), Nat.add_zero] at this
          refine Bd.post ?_ (fun _ _ h => h) this
          rintro _ _ ⟨s', rfl, r, rfl, hI', hr, hO'⟩
          have hre : pTold (gTp q) (tn (gT q)) (tH (gT q)) p = r := by
            rw [hpt]
            apply Bool.eq_iff_iff.mpr
            rw [hr, allR_iff]
            constructor
            · intro h j hj; have := of_decide_eq_true (h (3 + j) (by omega) (by omega)); rw [← Nat.add_assoc] at this; exact this
            · intro h j h3 hj; exact decide_eq_true (by have := h (j - 3) (by omega); rw [show b + 3 + (j - 3) = b + j by omega] at this; exact this)
          exact ⟨s', rfl, by rw [hre], hI', by rw [hre]; exact hO'⟩
        clear hno
        exact xonPut hI hI1 hI2 hfin (by omega) (by omega) (by omega)
      · skip
        refine r_iconst (v := nI 0) (pc := 35) dX0_personOn_35 (by decide) ?_
        refine r_zret (pc := 36) dX0_personOn_36 (by first | rfl | exact zI_nar | assumption) ?_
        first | exact hno _ rfl (by rw [hpt, decide_eq_false (show ¬ gTp q b < tH (gT q) by omega)]; rfl) | exact hno _ rfl (by rw [hpt, decide_eq_false (show ¬ gTp q (b + 1) ≤ 99 by omega), Bool.and_false]; rfl) | exact hno _ rfl (by rw [hpt, decide_eq_false (show ¬ gTp q (b + 2) ≤ 1 by omega), Bool.and_false]; rfl)
end X32
