set_option maxRecDepth 100000
/-! THE OTHER SIDE: ask (2) -/
section X97
variable {g : GC} {M M2 G : MM} {o ta zq k : Nat} {P Pq : Nat → Prop} {s s3 : XS} {q : Sg} {T : Te} {t : St} {cs : List Nat}
/-- while persons are asked: what has changed since the start -/
def AC (M2 G : MM) (zq : Nat) (s2 s : XS) : Prop := mZ G = mZ M2 ∧ (∀ c, c ≠ zq → Sm M2 G c) ∧ rX s = rX s2 ∧ (∀ c j, ¬ (c = 0 ∧ j = 20) → iX s c j = iX s2 c j) ∧ ∀ c, c ≠ 10 → lX s c = lX s2 c
theorem QSF.put {F : Int} {h : Bool} (hn : ¬ owA o zq) (hq : QSF G zq k F h) : QSF (putX G o s) zq k F h := by
  obtain ⟨q1, q2, q3, q4, q5, q6⟩ := hq
  exact ⟨q1, (mI_putXn hn).trans q2, q3, (mL_putXn hn).trans q4, (mI_putXn hn).trans q5, q6⟩
/-- a moment is met, the next person -/
theorem ask_226 {i : Nat} {E : Nat → Int} {F : Int} {hh0 : Bool} {s2 : XS} {Q : Option Value → MM → Prop} (h : AK g G o P ta T t Pq zq k cs s) (hc : AC M2 G zq s2 s) (hA : iX s 0 20 = nI i) (hi : i < tn T) (hE : ∀ j, j < 11 → lX s 10 j = lI (E j) ∧ b31 (E j)) (he : ∀ j, alwQ 3 j = true → j < 11 → E j = envA T t i j) (hq : QSF G zq k F hh0) (hF : FH k (ansF k (evA T t cs) i) i F hh0) (hb : -((i : Int) * 1000000) - 1 ≤ ansF k (evA T t cs) i ∧ ansF k (evA T t cs) i ≤ (i : Int) * 1000000 + 10)
    (K : ∀ G' s' F' h', AK g G' o P ta T t Pq zq k cs s' → AC M2 G' zq s2 s' → iX s' 0 20 = nI (i + 1) → QSF G' zq k F' h' → FH k (ansF k (evA T t cs) (i + 1)) (i + 1) F' h' → (-(((i + 1 : Nat) : Int) * 1000000) - 1 ≤ ansF k (evA T t cs) (i + 1) ∧ ansF k (evA T t cs) (i + 1) ≤ ((i + 1 : Nat) : Int) * 1000000 + 10) → Bd g yX0_ask cX0_ask 4 (some .long) [(26, 35, 38, 126)] 431 0 0 (putX G' o s') 64 [some (.ref o), none, some (.ref zq), none] [] Q noX) :
    Bd g yX0_ask cX0_ask 4 (some .long) [(26, 35, 38, 126)] 431 0 0 (putX G o s) 226 [some (.ref o), none, some (.ref zq), none] [] Q noX := by
  have hg := h.1.gx
  have hS := h.1.S
  have hX := h.1.X
  have hn8 := h.1.B.1
  obtain ⟨z1, z2, z3, z4, z5⟩ := h.2.2.2.2.1
  have hk6 := hq.2.2.1
  have hat := ak_at h hA hi hE he
  have hqp : QSF (putX G o s) zq k F hh0 := hq.put z1
  have hm10 := h.2.2.2.2.2.2.2
  have ea : ansF k (evA T t cs) (i + 1) = stpA1 k (ansF k (evA T t cs) i) (evA T t cs i) i := rfl
  -- behind the call: the person counted on
  have go : ∀ (G' : MM) (F' : Int) (h' : Bool), AK g G' o P ta T t Pq zq k cs s → AC M2 G' zq s2 s → QSF G' zq k F' h' → FH k (ansF k (evA T t cs) (i + 1)) (i + 1) F' h' → b6 (evA T t cs i) → Bd g yX0_ask cX0_ask 4 (some .long) [(26, 35, 38, 126)] 431 0 0 (putX G' o s) 238 [some (.ref o), none, some (.ref zq), none] [] Q noX := by
    intro G' F' h' hA' hC' hQ' hF' hv6
    have hS := hA'.1.S
    have hX := hA'.1.X
    refine r_ald0 (pc := 238) dX0_ask_238 ?_
    refine r_dup (pc := 239) dX0_ask_239 rfl ?_
    refine x_getI (c := 0) hS ow_0 kd_0 (pc := 240) dX0_ask_240 fl_X0_303 ?_
    refine Bd.eqI hA ?_
    refine r_iconst (v := nI 1) (pc := 243) dX0_ask_243 (by decide) ?_
    first | refine r_iaddN (pc := 244) dX0_ask_244 ?_ | refine r_iaddJ (pc := 244) dX0_ask_244 ?_ | refine r_iadd (pc := 244) dX0_ask_244 ?_
    refine x_putI (c := 0) hS ow_0 kd_0 (pc := 245) dX0_ask_245 fl_X0_303 fw_X0_20 rfl rfl ?_
    refine r_goto (pc := 248) (tgt := 64) dX0_ask_248 (by decide) ?_
    refine K G' (uI s 0 20 (nI (i + 1))) F' h' (hA'.toS rfl (fun c j hc => iX_c hc) rfl hm10) ⟨hC'.1, hC'.2.1, hC'.2.2.1, fun c j hcj => by rw [iX_uI, if_neg hcj]; exact hC'.2.2.2.1 c j hcj, hC'.2.2.2.2⟩ (by rw [iX_uI, if_pos ⟨rfl, rfl⟩]) hQ' hF' ?_
    rw [ea]
    exact stpA1_b hb hv6 (by omega)
  have kz : mK (putX G o s) zq = 39 := hqp.1
  by_cases hk : k < 3
  · obtain ⟨tt, t1, t2, t3⟩ := hat.1 hk
    have hme := meetsT (i := i) hg z2 hqp hk t1 t3 t2 (by omega) rfl
    have hv6 : b6 (evA T t cs i) := by rcases t2 with e | e <;> rw [e] <;> (constructor <;> decide)
    have hFs := hF.step hk6 (fun _ => t2)
    rw [← ea] at hFs
    have hFb := hFs.b (by omega) (by rw [ea]; exact stpA1_b hb hv6 (by omega))
    refine r_ald2 (pc := 226) dX0_ask_226 ?_
    refine r_ald0 (pc := 227) dX0_ask_227 ?_
    refine x_getI (c := 0) hS ow_0 kd_0 (pc := 228) dX0_ask_228 fl_X0_303 ?_
    refine Bd.eqI hA ?_
    refine r_ald0 (pc := 231) dX0_ask_231 ?_
    refine x_getR (c := 0) hS ow_0 kd_0 (pc := 232) dX0_ask_232 fl_X0_59 (fx_0_7 hX) ?_
    refine r_cV (ci := 19) (pc := 235) dX0_ask_235 cv_X0_316 kz hme rfl rfl (Nat.le_of_ble_eq_true rfl) (by decide) ?_
    rintro _ M9 ⟨rfl, hM⟩
    rcases hM with ⟨e1, rfl⟩ | ⟨e1, rfl⟩
    · rw [putX_sL z1, putX_sI z1]
      have eH : mtH k hh0 (evA T t cs i) = true := by unfold mtH; rw [if_pos hk, if_pos e1]
      rw [eH] at hFs
      exact go _ _ true h.toQ ⟨hc.1, fun c hcz => (hc.2.1 c hcz).trans ((Sm.sL hcz).trans (Sm.sI hcz)), hc.2.2⟩ ⟨hq.1, (mI_sIj (by decide)).trans hq.2.1, hk6, mL_sLs _ _ _ _, (mI_sIs _ _ _ _).trans (zI_t rfl).symm, hFb.1, hFb.2⟩ hFs hv6
    · have eF : mtF k F hh0 (evA T t cs i) i = F := by unfold mtF; rw [if_pos hk, e1, if_neg (by decide)]
      have eH : mtH k hh0 (evA T t cs i) = hh0 := by unfold mtH; rw [if_pos hk, e1, if_neg (by decide)]
      rw [eF, eH] at hFs
      exact go G F hh0 h hc hq hFs hv6
  · obtain ⟨tt, t1, t2, t3⟩ := hat.2 (by omega)
    have hme := meetsV (i := i) hg z2 hqp (by omega) t1 t3 t2 (by omega) rfl
    have hFs := hF.step hk6 (v := evA T t cs i) (fun q => absurd q hk)
    rw [← ea] at hFs
    have hFb := hFs.b (by omega) (by rw [ea]; exact stpA1_b hb t2 (by omega))
    have eH : mtH k hh0 (evA T t cs i) = true := by unfold mtH; rw [if_neg hk]
    rw [eH] at hFs
    refine r_ald2 (pc := 226) dX0_ask_226 ?_
    refine r_ald0 (pc := 227) dX0_ask_227 ?_
    refine x_getI (c := 0) hS ow_0 kd_0 (pc := 228) dX0_ask_228 fl_X0_303 ?_
    refine Bd.eqI hA ?_
    refine r_ald0 (pc := 231) dX0_ask_231 ?_
    refine x_getR (c := 0) hS ow_0 kd_0 (pc := 232) dX0_ask_232 fl_X0_59 (fx_0_7 hX) ?_
    refine r_cV (ci := 19) (pc := 235) dX0_ask_235 cv_X0_316 kz hme rfl rfl (Nat.le_of_ble_eq_true rfl) (by decide) ?_
    rintro _ M9 ⟨rfl, hM⟩
    rw [hM, putX_sL z1, putX_sI z1]
    exact go _ _ true h.toQ ⟨hc.1, fun c hcz => (hc.2.1 c hcz).trans ((Sm.sL hcz).trans (Sm.sI hcz)), hc.2.2⟩ ⟨hq.1, (mI_sIj (by decide)).trans hq.2.1, hk6, mL_sLs _ _ _ _, (mI_sIs _ _ _ _).trans (zI_t rfl).symm, hFb.1, hFb.2⟩ hFs t2
theorem ask_loop {s2 : XS} {Q : Option Value → MM → Prop} (hend : ∀ G' s', AK g G' o P ta T t Pq zq k cs s' → AC M2 G' zq s2 s' → Q (some (.long (lI (ansF k (evA T t cs) (tn T))))) (putX G' o s')) : ∀ n i G s F h0, i + n = tn T → AK g G o P ta T t Pq zq k cs s → AC M2 G zq s2 s → iX s 0 20 = nI i → QSF G zq k F h0 → FH k (ansF k (evA T t cs) i) i F h0 → (-((i : Int) * 1000000) - 1 ≤ ansF k (evA T t cs) i ∧ ansF k (evA T t cs) i ≤ (i : Int) * 1000000 + 10) → Bd g yX0_ask cX0_ask 4 (some .long) [(26, 35, 38, 126)] 431 0 0 (putX G o s) 64 [some (.ref o), none, some (.ref zq), none] [] Q noX := by
  intro n
  induction n with
  | zero =>
    intro i G s F h0 hin h hc hA hq hF hb
    have hS := h.1.S
    have hX := h.1.X
    have hn8 := h.1.B.1
    obtain ⟨z1, -⟩ := h.2.2.2.2.1
    have hqp : QSF (putX G o s) zq k F h0 := hq.put z1
    have han := ct_X19_answer (g := g) hqp
    rw [hF.ans] at han
    obtain rfl : i = tn T := by omega
    refine r_ald0 (pc := 64) dX0_ask_64 ?_
    refine x_getI (c := 0) hS ow_0 kd_0 (pc := 65) dX0_ask_65 fl_X0_303 ?_
    refine Bd.eqI hA ?_
    refine r_ald0 (pc := 68) dX0_ask_68 ?_
    refine r_cV (pc := 69) dX0_ask_69 cv_X0_158 (hS.k (c := 0) ow_0 kd_0) (ct_X0_people h.1 h.2.1) rfl rfl (Nat.le_of_ble_eq_true rfl) (by first | decide | omega) ?_
    rintro _ _ ⟨rfl, rfl⟩
    first | refine r_icmp_geN (pc := 72) (tgt := 251) dX0_ask_72 (by decide) (by omega) (by omega) (fun h72 => ?_) (fun h72 => ?_) | refine r_icmp_ge (pc := 72) (tgt := 251) dX0_ask_72 (by decide) (fun h72 => ?_) (fun h72 => ?_)
    · skip
      refine r_ald2 (pc := 251) dX0_ask_251 ?_
      refine r_cV (ci := 19) (pc := 252) dX0_ask_252 cv_X0_322 hqp.1 han rfl rfl (Nat.le_of_ble_eq_true rfl) (by decide) ?_
      rintro _ _ ⟨rfl, rfl⟩
      refine r_lret (pc := 255) dX0_ask_255 ?_
      exact hend G s h hc
    · skip
      exact absurd h72 (by omega)
  | succ n ih =>
    intro i G s F h0 hin h hc hA hq hF hb
    have hg := h.1.gx
    have hS := h.1.S
    have hX := h.1.X
    have hn8 := h.1.B.1
    have hi : i < tn T := by omega
    obtain ⟨n1, n2, n3, n4, n5, n6, n7, -⟩ := h.2.2.1
    obtain ⟨y0, hB⟩ := h.2.2.2.1
    obtain ⟨b1, b2, b3, -⟩ := hB i hi
    have hfk := h.1.B.2.2.1 i hi
    obtain ⟨E, hE⟩ := MmX.ch h.2.2.2.2.2.2.2
    have moE := fun (g10 : Int) (hg10 : b31 g10) => moU (j := 10) (moU (j := 9) (moU (j := 8) (moU (j := 4) (moU (j := 3) (moU (j := 1) (moU (j := 0) hE (b31N (a := fa T i) (by omega))) (b31N (a := ki T i) (by omega))) (b31N (a := yr t) (by omega))) (b31N (a := lk t i) (by omega))) (b31N (a := i) (by omega))) (b31N (a := hs t i) (by omega))) hg10
    have hak : ∀ s', rX s' = rX s → iX s' = iX s → lX s' 8 = lX s 8 → (∃ E' : Nat → Int, ∀ j, j < 11 → lX s' 10 j = lI (E' j) ∧ b31 (E' j)) → AK g G o P ta T t Pq zq k cs s' := fun s' h1 h2 h3 h4 => h.toS h1 (fun c j _ => by rw [h2]) h3 (fun j hj => by obtain ⟨E', hE'⟩ := h4; exact ⟨E' j, hE' j hj⟩)
    refine r_ald0 (pc := 64) dX0_ask_64 ?_
    refine x_getI (c := 0) hS ow_0 kd_0 (pc := 65) dX0_ask_65 fl_X0_303 ?_
    refine Bd.eqI hA ?_
    refine r_ald0 (pc := 68) dX0_ask_68 ?_
    refine r_cV (pc := 69) dX0_ask_69 cv_X0_158 (hS.k (c := 0) ow_0 kd_0) (ct_X0_people h.1 h.2.1) rfl rfl (Nat.le_of_ble_eq_true rfl) (by first | decide | omega) ?_
    rintro _ _ ⟨rfl, rfl⟩
    first | refine r_icmp_geN (pc := 72) (tgt := 251) dX0_ask_72 (by decide) (by omega) (by omega) (fun h72 => ?_) (fun h72 => ?_) | refine r_icmp_ge (pc := 72) (tgt := 251) dX0_ask_72 (by decide) (fun h72 => ?_) (fun h72 => ?_)
    · skip
      exact absurd h72 (by omega)
    · skip
      refine r_ald0 (pc := 75) dX0_ask_75 ?_
      refine x_getR (c := 0) hS ow_0 kd_0 (pc := 76) dX0_ask_76 fl_X0_59 (fx_0_7 hX) ?_
      refine x_getRN (c := 9) hS ow_9 kd_9 (pc := 79) dX0_ask_79 (fn_X0_312 hg) (fx_9_0 hX) ?_
      refine r_iconst (v := nI 0) (pc := 82) dX0_ask_82 (by decide) ?_
      refine r_ald0 (pc := 83) dX0_ask_83 ?_
      refine x_getR (c := 0) hS ow_0 kd_0 (pc := 84) dX0_ask_84 fl_X0_69 (fx_0_9 hX) ?_
      refine x_getRN (c := 12) hS (st_ow isS_12) (st_kd isS_12) (pc := 87) dX0_ask_87 (fn_X0_210 hg) (fs_5 hX isS_12) ?_
      refine r_ald0 (pc := 90) dX0_ask_90 ?_
      refine x_getI (c := 0) hS ow_0 kd_0 (pc := 91) dX0_ask_91 fl_X0_303 ?_
      refine Bd.eqI hA ?_
      refine x_iald (c := (12 + 3)) hS (st_ow3 isS_12) (st_kd3 isS_12) (st_ln3 isS_12) (pc := 94) dX0_ask_94 (by omega) (by omega) ?_
      refine Bd.eqI (n5 i hi) ?_
      first | refine r_i2lM (pc := 95) dX0_ask_95 (by omega) ?_ | refine r_i2lI (pc := 95) dX0_ask_95 (by constructor <;> omega) ?_ | refine r_i2lT (pc := 95) dX0_ask_95 ?_
      refine x_last (c := 10) hS ow_10 kd_10 ln_10 (pc := 96) dX0_ask_96 (by omega) (by omega) ?_
      refine r_ald0 (pc := 97) dX0_ask_97 ?_
      refine x_getR (c := 0) hS ow_0 kd_0 (pc := 98) dX0_ask_98 fl_X0_59 (fx_0_7 hX) ?_
      refine x_getRN (c := 9) hS ow_9 kd_9 (pc := 101) dX0_ask_101 (fn_X0_312 hg) (fx_9_0 hX) ?_
      refine r_iconst (v := nI 1) (pc := 104) dX0_ask_104 (by decide) ?_
      refine r_ald0 (pc := 105) dX0_ask_105 ?_
      refine x_getR (c := 0) hS ow_0 kd_0 (pc := 106) dX0_ask_106 fl_X0_69 (fx_0_9 hX) ?_
      refine x_getRN (c := 12) hS (st_ow isS_12) (st_kd isS_12) (pc := 109) dX0_ask_109 (fn_X0_213 hg) (fs_6 hX isS_12) ?_
      refine r_ald0 (pc := 112) dX0_ask_112 ?_
      refine x_getI (c := 0) hS ow_0 kd_0 (pc := 113) dX0_ask_113 fl_X0_303 ?_
      refine Bd.eqI hA ?_
      refine x_iald (c := (12 + 4)) hS (st_ow4 isS_12) (st_kd4 isS_12) (st_ln4 isS_12) (pc := 116) dX0_ask_116 (by omega) (by omega) ?_
      refine Bd.eqI (n6 i hi) ?_
      first | refine r_i2lM (pc := 117) dX0_ask_117 (by omega) ?_ | refine r_i2lI (pc := 117) dX0_ask_117 (by constructor <;> omega) ?_ | refine r_i2lT (pc := 117) dX0_ask_117 ?_
      refine x_last (c := 10) hS ow_10 kd_10 ln_10 (pc := 118) dX0_ask_118 (by omega) (by omega) ?_
      refine r_ald0 (pc := 119) dX0_ask_119 ?_
      refine x_getR (c := 0) hS ow_0 kd_0 (pc := 120) dX0_ask_120 fl_X0_59 (fx_0_7 hX) ?_
      refine x_getRN (c := 9) hS ow_9 kd_9 (pc := 123) dX0_ask_123 (fn_X0_312 hg) (fx_9_0 hX) ?_
      refine r_iconst (v := nI 3) (pc := 126) dX0_ask_126 (by decide) ?_
      refine r_ald0 (pc := 127) dX0_ask_127 ?_
      refine x_getR (c := 0) hS ow_0 kd_0 (pc := 128) dX0_ask_128 fl_X0_69 (fx_0_9 hX) ?_
      refine x_getIN (c := 12) hS (st_ow isS_12) (st_kd isS_12) (pc := 131) dX0_ask_131 (fn_X0_171 hg) ?_
      refine Bd.eqI n1 ?_
      first | refine r_i2lM (pc := 134) dX0_ask_134 (by omega) ?_ | refine r_i2lI (pc := 134) dX0_ask_134 (by constructor <;> omega) ?_ | refine r_i2lT (pc := 134) dX0_ask_134 ?_
      refine x_last (c := 10) hS ow_10 kd_10 ln_10 (pc := 135) dX0_ask_135 (by omega) (by omega) ?_
      refine r_ald0 (pc := 136) dX0_ask_136 ?_
      refine x_getR (c := 0) hS ow_0 kd_0 (pc := 137) dX0_ask_137 fl_X0_59 (fx_0_7 hX) ?_
      refine x_getRN (c := 9) hS ow_9 kd_9 (pc := 140) dX0_ask_140 (fn_X0_312 hg) (fx_9_0 hX) ?_
      refine r_iconst (v := nI 4) (pc := 143) dX0_ask_143 (by decide) ?_
      refine r_ald0 (pc := 144) dX0_ask_144 ?_
      refine x_getR (c := 0) hS ow_0 kd_0 (pc := 145) dX0_ask_145 fl_X0_69 (fx_0_9 hX) ?_
      refine x_getRN (c := 12) hS (st_ow isS_12) (st_kd isS_12) (pc := 148) dX0_ask_148 (fn_X0_174 hg) (fs_4 hX isS_12) ?_
      refine r_ald0 (pc := 151) dX0_ask_151 ?_
      refine x_getI (c := 0) hS ow_0 kd_0 (pc := 152) dX0_ask_152 fl_X0_303 ?_
      refine Bd.eqI hA ?_
      refine x_iald (c := (12 + 2)) hS (st_ow2 isS_12) (st_kd2 isS_12) (st_ln2 isS_12) (pc := 155) dX0_ask_155 (by omega) (by omega) ?_
      refine Bd.eqI (n4 i hi) ?_
      first | refine r_i2lM (pc := 156) dX0_ask_156 (by omega) ?_ | refine r_i2lI (pc := 156) dX0_ask_156 (by constructor <;> omega) ?_ | refine r_i2lT (pc := 156) dX0_ask_156 ?_
      refine x_last (c := 10) hS ow_10 kd_10 ln_10 (pc := 157) dX0_ask_157 (by omega) (by omega) ?_
      refine r_ald0 (pc := 158) dX0_ask_158 ?_
      refine x_getR (c := 0) hS ow_0 kd_0 (pc := 159) dX0_ask_159 fl_X0_59 (fx_0_7 hX) ?_
      refine x_getRN (c := 9) hS ow_9 kd_9 (pc := 162) dX0_ask_162 (fn_X0_312 hg) (fx_9_0 hX) ?_
      refine r_bipush (v := nI 8) (pc := 165) dX0_ask_165 (by decide) ?_
      refine r_ald0 (pc := 167) dX0_ask_167 ?_
      refine x_getI (c := 0) hS ow_0 kd_0 (pc := 168) dX0_ask_168 fl_X0_303 ?_
      refine Bd.eqI hA ?_
      first | refine r_i2lM (pc := 171) dX0_ask_171 (by omega) ?_ | refine r_i2lI (pc := 171) dX0_ask_171 (by constructor <;> omega) ?_ | refine r_i2lT (pc := 171) dX0_ask_171 ?_
      refine x_last (c := 10) hS ow_10 kd_10 ln_10 (pc := 172) dX0_ask_172 (by omega) (by omega) ?_
      refine r_ald0 (pc := 173) dX0_ask_173 ?_
      refine x_getR (c := 0) hS ow_0 kd_0 (pc := 174) dX0_ask_174 fl_X0_59 (fx_0_7 hX) ?_
      refine x_getRN (c := 9) hS ow_9 kd_9 (pc := 177) dX0_ask_177 (fn_X0_312 hg) (fx_9_0 hX) ?_
      refine r_bipush (v := nI 9) (pc := 180) dX0_ask_180 (by decide) ?_
      refine r_ald0 (pc := 182) dX0_ask_182 ?_
      refine x_getR (c := 0) hS ow_0 kd_0 (pc := 183) dX0_ask_183 fl_X0_69 (fx_0_9 hX) ?_
      refine x_getRN (c := 12) hS (st_ow isS_12) (st_kd isS_12) (pc := 186) dX0_ask_186 (fn_X0_207 hg) (fs_3 hX isS_12) ?_
      refine r_ald0 (pc := 189) dX0_ask_189 ?_
      refine x_getI (c := 0) hS ow_0 kd_0 (pc := 190) dX0_ask_190 fl_X0_303 ?_
      refine Bd.eqI hA ?_
      refine x_iald (c := (12 + 1)) hS (st_ow1 isS_12) (st_kd1 isS_12) (st_ln1 isS_12) (pc := 193) dX0_ask_193 (by omega) (by omega) ?_
      refine Bd.eqI (n3 i hi) ?_
      first | refine r_i2lM (pc := 194) dX0_ask_194 (by omega) ?_ | refine r_i2lI (pc := 194) dX0_ask_194 (by constructor <;> omega) ?_ | refine r_i2lT (pc := 194) dX0_ask_194 ?_
      refine x_last (c := 10) hS ow_10 kd_10 ln_10 (pc := 195) dX0_ask_195 (by omega) (by omega) ?_
      refine r_ald0 (pc := 196) dX0_ask_196 ?_
      refine x_getR (c := 0) hS ow_0 kd_0 (pc := 197) dX0_ask_197 fl_X0_59 (fx_0_7 hX) ?_
      refine x_getRN (c := 9) hS ow_9 kd_9 (pc := 200) dX0_ask_200 (fn_X0_312 hg) (fx_9_0 hX) ?_
      refine r_bipush (v := nI 10) (pc := 203) dX0_ask_203 (by decide) ?_
      refine r_ald0 (pc := 205) dX0_ask_205 ?_
      refine x_getR (c := 0) hS ow_0 kd_0 (pc := 206) dX0_ask_206 fl_X0_69 (fx_0_9 hX) ?_
      refine x_getRN (c := 12) hS (st_ow isS_12) (st_kd isS_12) (pc := 209) dX0_ask_209 (fn_X0_177 hg) (fs_7 hX isS_12) ?_
      refine r_ald0 (pc := 212) dX0_ask_212 ?_
      refine x_getI (c := 0) hS ow_0 kd_0 (pc := 213) dX0_ask_213 fl_X0_303 ?_
      refine Bd.eqI hA ?_
      refine x_zald (c := (12 + 5)) hS (st_ow5 isS_12) (st_kd5 isS_12) (st_ln5 isS_12) (pc := 216) dX0_ask_216 (by omega) (by omega) ?_
      refine Bd.eqI (n7 i hi) ?_
      first | refine r_if_eqZ (pc := 217) (tgt := 224) dX0_ask_217 (by decide) (fun h217 => ?_) (fun h217 => ?_) | refine r_if_eqN (pc := 217) (tgt := 224) dX0_ask_217 (by decide) (by omega) (fun h217 => ?_) (fun h217 => ?_) | refine r_if_eq (pc := 217) (tgt := 224) dX0_ask_217 (by decide) (fun h217 => ?_) (fun h217 => ?_)
      · skip
        have e9 : (if sp t i = 1 then (1 : Int) else 0) = 0 := if_neg h217
        refine r_lconst (v := lI 0) (pc := 224) dX0_ask_224 rfl ?_
        refine x_last (c := 10) hS ow_10 kd_10 ln_10 (pc := 225) dX0_ask_225 (by omega) (by omega) ?_
        have hE9 := moE _ (show b31 (if sp t i = 1 then (1 : Int) else 0) by rw [e9]; constructor <;> decide)
        rw [e9] at hE9
        refine ask_226 (i := i) (s2 := s2) (hak _ rfl rfl ?_ ⟨_, hE9⟩) ⟨hc.1, hc.2.1, hc.2.2.1, hc.2.2.2.1, fun c hcc => ?_⟩ hA hi hE9 (fun j hj hj11 => ?_) hq hF hb (fun G' s' F' h' a1 a2 a3 a4 a5 a6 => ih (i + 1) G' s' F' h' (by omega) a1 a2 a3 a4 a5 a6)
        · funext jj; rw [lX_uLc (by decide), lX_uLc (by decide), lX_uLc (by decide), lX_uLc (by decide), lX_uLc (by decide), lX_uLc (by decide), lX_uLc (by decide)]
        · rw [← hc.2.2.2.2 c hcc]; funext jj; rw [lX_uLc hcc, lX_uLc hcc, lX_uLc hcc, lX_uLc hcc, lX_uLc hcc, lX_uLc hcc, lX_uLc hcc]
        · unfold envA
          have hjs : j = 0 ∨ j = 1 ∨ j = 3 ∨ j = 4 ∨ j = 8 ∨ j = 9 ∨ j = 10 := by unfold alwQ at hj; simp at hj; omega
          rcases hjs with rfl | rfl | rfl | rfl | rfl | rfl | rfl
          · rfl
          · rfl
          · rfl
          · rfl
          · rfl
          · rfl
          · exact e9.symm
      · skip
        have e9 : (if sp t i = 1 then (1 : Int) else 0) = 1 := if_pos h217
        refine r_lconst (v := lI 1) (pc := 220) dX0_ask_220 rfl ?_
        refine r_goto (pc := 221) (tgt := 225) dX0_ask_221 (by decide) ?_
        refine x_last (c := 10) hS ow_10 kd_10 ln_10 (pc := 225) dX0_ask_225 (by omega) (by omega) ?_
        have hE9 := moE _ (show b31 (if sp t i = 1 then (1 : Int) else 0) by rw [e9]; constructor <;> decide)
        rw [e9] at hE9
        refine ask_226 (i := i) (s2 := s2) (hak _ rfl rfl ?_ ⟨_, hE9⟩) ⟨hc.1, hc.2.1, hc.2.2.1, hc.2.2.2.1, fun c hcc => ?_⟩ hA hi hE9 (fun j hj hj11 => ?_) hq hF hb (fun G' s' F' h' a1 a2 a3 a4 a5 a6 => ih (i + 1) G' s' F' h' (by omega) a1 a2 a3 a4 a5 a6)
        · funext jj; rw [lX_uLc (by decide), lX_uLc (by decide), lX_uLc (by decide), lX_uLc (by decide), lX_uLc (by decide), lX_uLc (by decide), lX_uLc (by decide)]
        · rw [← hc.2.2.2.2 c hcc]; funext jj; rw [lX_uLc hcc, lX_uLc hcc, lX_uLc hcc, lX_uLc hcc, lX_uLc hcc, lX_uLc hcc, lX_uLc hcc]
        · unfold envA
          have hjs : j = 0 ∨ j = 1 ∨ j = 3 ∨ j = 4 ∨ j = 8 ∨ j = 9 ∨ j = 10 := by unfold alwQ at hj; simp at hj; omega
          rcases hjs with rfl | rfl | rfl | rfl | rfl | rfl | rfl
          · rfl
          · rfl
          · rfl
          · rfl
          · rfl
          · rfl
          · exact e9.symm
end X97
