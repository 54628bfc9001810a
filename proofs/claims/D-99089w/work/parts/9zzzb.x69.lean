set_option maxRecDepth 100000
/-! THE READER: within brackets and behind a looked word, whether more may come or not -/
def wiR (f : Nat → Nat) (n : Nat) (r : Option (Nat → Rz)) (two a : Nat) : Rz := if lookO f n a = some 40 then (match r with
    | none => .error (4, skip f n a)
    | some it => thn (sumP f n it (skip f n a + 1)) (fun cs c => if two = 0 then fin cs (sgP f n 41 c) else secP f n it (two - 1) cs (sgP f n 44 c))) else .error (1, skip f n a)
def lkR (r : Option (Nat → Rz)) (k p a : Nat) : Rz := match r with
  | none => .error (4, p)
  | some it => thn (it a) (fun cs c => .ok (cs ++ [60 + k], c))
theorem Ct.dear {g : GC} {y : MethodName} {cc : ByteArray} {nL : Nat} {rt : Option FieldType} {d mc ms : Nat} {as : List Value} {M : MM} {Q Q' : Option Value → MM → Prop} {X X' : Nat → MM → Prop} (h : Ct g y cc nL rt d 0 0 as M Q' X') (hy : ∀ v M', Q' v M' → Q v M') (hx : ∀ q M', X' q M' → X q M') (h1 : mc = 0) (h2 : ms = 0) : Ct g y cc nL rt d mc ms as M Q X := by
  subst h1; subst h2
  exact h.post hy hx
section X69
variable {g : GC} {M : MM} {o n x oo a D d : Nat} {f : Nat → Nat} {it : Nat → Rz}
def WiC (g : GC) (d o n : Nat) (f : Nat → Nat) (x oo D : Nat) (r : Option (Nat → Rz)) : Prop := ∀ two, two ≤ 2 → ∀ M a, RWA g M o n f x oo a → ∃ mc ms, mc ≤ cst 60 0 0 n a (wiR f n r two a) ∧ ms ≤ cst 4000 0 0 n a (wiR f n r two a) ∧ Ct g yX2_within cX2_within 4 (some (.object "Retouched$Value")) d mc ms [.ref (o + 5), .int (nI two)] M (RVQ M o D (wiR f n r two a)) (RVX M o (wiR f n r two a))
def LkC (g : GC) (d o n : Nat) (f : Nat → Nat) (x oo D : Nat) (r : Option (Nat → Rz)) : Prop := ∀ k, k < 2 → ∀ M a p, RWA g M o n f x oo a → mI M (o + 5) 3 = nI p → ∃ mc ms, mc ≤ cst 60 11 11 n a (lkR r k p a) ∧ ms ≤ cst 4000 203 203 n a (lkR r k p a) ∧ Ct g yX2_looked cX2_looked 3 (some (.object "Retouched$Value")) d mc ms [.ref (o + 5), .int (nI k)] M (RVQ M o D (lkR r k p a)) (RVX M o (lkR r k p a))
theorem wic_none (hd : 20 ≤ d) : WiC g d o n f x 0 D none := by
  intro two h2 M a W
  by_cases e : lookO f n a = some 40
  · have er : wiR f n none two a = .error (4, skip f n a) := if_pos e
    rw [er]
    exact ⟨0, 0, Nat.zero_le _, Nat.zero_le _, (ct_within_no W e hd).post (fun _ _ q => q.elim) (fun q M' hx => ⟨4, skip f n a, rfl, hx⟩)⟩
  · have er : wiR f n none two a = .error (1, skip f n a) := if_neg e
    rw [er]
    exact ⟨0, 0, Nat.zero_le _, Nat.zero_le _, (ct_within_er W e hd).post (fun _ _ q => q.elim) (fun q M' hx => ⟨1, skip f n a, rfl, hx⟩)⟩
theorem RVQ.up {D D' : Nat} {r : Rz} {v : Option Value} {M' : MM} (h : RVQ M o D r v M') (hD : D ≤ D') : RVQ M o D' r v M' := by
  obtain ⟨y, z, h1, h2, h3, h4⟩ := h
  exact ⟨y, z, h1, h2, VAL.fr (fun _ _ => Sm.rf) (fun _ q => q) D D' z y.1 hD h3, h4⟩
theorem wic_some (hpr : prg n (sumP f n it)) (hsum : CtV g yX2_sum cX2_sum d 30 30 400 400 o n f x oo D (sumP f n it)) (hd : 20 ≤ d) : WiC g (d + 1) o n f x (oo + 1) (D + 1) (some it) := by
  intro two h2 M a W
  by_cases e : lookO f n a = some 40
  · have er : wiR f n (some it) two a = thn (sumP f n it (skip f n a + 1)) (fun cs c => if two = 0 then fin cs (sgP f n 41 c) else secP f n it (two - 1) cs (sgP f n 44 c)) := if_pos e
    rw [er]
    match two, h2 with
    | 0, _ => exact ⟨_, _, Nat.le_refl _, Nat.le_refl _, (ct_within_0 hpr hsum W e hd).post (fun v M' q => q.up (Nat.le_succ D)) (fun _ _ q => q)⟩
    | 1, _ => exact ⟨_, _, Nat.le_refl _, Nat.le_refl _, ct_within_1 hpr hsum W e hd⟩
    | 2, _ => exact ⟨_, _, Nat.le_refl _, Nat.le_refl _, ct_within_2 hpr hsum W e hd⟩
  · have er : wiR f n (some it) two a = .error (1, skip f n a) := if_neg e
    rw [er]
    exact ⟨0, 0, Nat.zero_le _, Nat.zero_le _, (ct_within_er W e (by omega)).post (fun _ _ q => q.elim) (fun q M' hx => ⟨1, skip f n a, rfl, hx⟩)⟩
theorem lkc_none (hd : 20 ≤ d) : LkC g d o n f x 0 D none := by
  intro k hk M a p W h3
  have hrd := W.rd
  have r7 := hrd.2.2.2.2.2.2.2.1.1
  refine ⟨0, 0, Nat.zero_le _, Nat.zero_le _, ?_⟩
  show Ct g yX2_looked cX2_looked 3 (some (.object "Retouched$Value")) d 0 0 [.ref (o + 5), .int (nI k)] M (RVQ M o D (.error (4, p))) (RVX M o (.error (4, p)))
  refine Ct.of (by decide) (Nat.le_of_ble_eq_true rfl) rfl ?_
  refine r_ald0 (pc := 0) dX2_looked_0 ?_
  refine r_ald0 (pc := 1) dX2_looked_1 ?_
  refine r_getI' (pc := 2) dX2_looked_2 fl_X2_61 r7 h3 ?_
  refine r_cVx (ci := 2) (pc := 5) (kc' := 0) (ks' := 0) dX2_looked_5 cv_X2_231 r7 (ct_X2_opens (k := 6) hrd W.2.2.2.1 (Nat.le_refl _)) rfl rfl (Nat.le_of_ble_eq_true rfl) (by omega) (by omega) (by omega) (fun q M' hx => ⟨4, p, rfl, hx.2⟩) ?_
  rintro _ M2 ⟨rfl, e2, -⟩
  exact absurd e2 (by decide)
/-- a looked value is made -/
theorem look_mk {M6 M8 : MM} {pr z lo k : Nat} {cs : List Nat} (hV : VAL M6 o (fun c => lo ≤ c ∧ c < mZ M6) D z cs) (hK : mK M6 pr = 33) (hk : k < 2) (hp : pr < lo) (hpz : pr < mZ M6) (e8 : M8 = sR (sI (sR M6 pr 2 (some o)) pr 0 (nI k)) pr 1 (some z)) : VAL M8 o (fun c => pr ≤ c ∧ c < mZ M8) (D + 1) pr (cs ++ [60 + k]) ∧ FM (fun c => c = pr) M6 M8 := by
  have hS : ∀ c, c ≠ pr → Sm M6 M8 c := fun c hc => by rw [e8]; exact ((Sm.sR hc).trans (Sm.sI hc)).trans (Sm.sR hc)
  have hz : mZ M8 = mZ M6 := by rw [e8]; rfl
  refine ⟨Or.inr (Or.inr (Or.inl ⟨⟨Nat.le_refl _, by omega⟩, by rw [e8]; exact hK, ?_, k, z, cs, hk, ?_, ?_, ?_, rfl⟩)), by omega, fun c _ hc => hS c hc⟩
  · rw [e8, mR_sRj (by decide), mR_sI, mR_sRs]
  · rw [e8, mI_sR, mI_sIs]
  · rw [e8, mR_sRs]
  · exact VAL.fr (fun c hc => hS c (by omega)) (fun c hc => ⟨by omega, by omega⟩) D D z cs (Nat.le_refl _) hV
theorem lkc_some {dd : Nat} (hpr : prg n it) (hit : CtV g yX2_atom cX2_atom d 10 10 200 200 o n f x oo D it) (hd : 20 ≤ d) (hdd : d + 1 ≤ dd) : LkC g dd o n f x (oo + 1) (D + 1) (some it) := by
  intro k hk M a p W h3
  have hrd := W.rd
  have ho := hrd.oz
  have hg := hrd.1
  have hgb := hrd.2.1
  have r7 := hrd.2.2.2.2.2.2.2.1.1
  have ho6 := W.2.2.2.2.1
  have c1 : cst 60 10 10 n a (it a) + 1 = cst 60 11 11 n a (lkR (some it) k p a) := by
    show _ = cst 60 11 11 n a (thn (it a) (fun cs c => .ok (cs ++ [60 + k], c)))
    cases it a with
    | ok y => rfl
    | error e => rfl
  have c2 : cst 4000 200 200 n a (it a) + 3 = cst 4000 203 203 n a (lkR (some it) k p a) := by
    show _ = cst 4000 203 203 n a (thn (it a) (fun cs c => .ok (cs ++ [60 + k], c)))
    cases it a with
    | ok y => rfl
    | error e => rfl
  refine ⟨cst 60 10 10 n a (it a) + 1, cst 4000 200 200 n a (it a) + 3, Nat.le_of_eq c1, Nat.le_of_eq c2, ?_⟩
  clear c1 c2
  show Ct g yX2_looked cX2_looked 3 (some (.object "Retouched$Value")) dd _ _ [.ref (o + 5), .int (nI k)] M (RVQ M o (D + 1) (thn (it a) (fun cs c => .ok (cs ++ [60 + k], c)))) (RVX M o (thn (it a) (fun cs c => .ok (cs ++ [60 + k], c))))
  refine Ct.of (by decide) (Nat.le_of_ble_eq_true rfl) rfl ?_
  refine r_ald0 (pc := 0) dX2_looked_0 ?_
  refine r_ald0 (pc := 1) dX2_looked_1 ?_
  refine r_getI' (pc := 2) dX2_looked_2 fl_X2_61 r7 h3 ?_
  refine r_cVx (ci := 2) (pc := 5) (kc' := cst 60 10 10 n a (it a) + 1) (ks' := cst 4000 200 200 n a (it a) + 3) dX2_looked_5 cv_X2_231 r7 (ct_X2_opens (k := 6 - (oo + 1)) hrd W.2.2.2.1 (by omega)) rfl rfl (Nat.le_of_ble_eq_true rfl) (by omega) (by omega) (by omega) (fun q M' hx => absurd hx.1 (by omega)) ?_
  rintro _ M9 ⟨rfl, -, e9⟩
  have f9 : RFr o M M9 := by rw [e9]; exact RFr.at (by decide) (by decide)
  have W9 : RWA g M9 o n f x oo a := ⟨W.1.fr f9, W.le, by rw [e9, mI_sIj (by decide)]; exact W.at, by rw [e9, mI_sIs, show 6 - (oo + 1) + 1 = 6 - oo by omega], by omega, f9.2.2.2.2.2.trans W.2.2.2.2.2.1, W.2.2.2.2.2.2⟩
  have hz9 : mZ M9 = mZ M := by rw [e9]; rfl
  clear e9
  refine r_new (pc := 8) (ci := 13) (kc' := cst 60 10 10 n a (it a)) (ks' := cst 4000 200 200 n a (it a)) dX2_looked_8 q1019 q1020 q175 (by decide) (by omega) (by omega) ?_
  generalize hM5 : nw M9 (20 + 13) 0 = M5
  have m1 : mZ M5 = mZ M9 + 1 := by rw [← hM5]; rfl
  have m3 : mK M5 (mZ M9) = 33 := by rw [← hM5]; exact if_pos rfl
  have m4 : FM (fun _ => False) M9 M5 := by rw [← hM5]; exact FM.nw
  clear hM5
  have R5 : RO M9 o a M5 := (RO.rf W9.at).more ⟨m4.1, fun c hc _ => m4.2 c hc (fun q => q)⟩ (by omega)
  have W5 := W9.to R5 W.le
  have r75 := W5.rd.2.2.2.2.2.2.2.1
  refine r_dup (pc := 11) dX2_looked_11 rfl ?_
  refine r_ald0 (pc := 12) dX2_looked_12 ?_
  refine r_getR (pc := 13) dX2_looked_13 fl_X2_3 r75.1 r75.2.2.1 ?_
  refine r_ild1 (pc := 16) dX2_looked_16 ?_
  refine r_ald0 (pc := 17) dX2_looked_17 ?_
  refine r_cVx (ci := 2) (pc := 18) (kc' := 0) (ks' := 0) dX2_looked_18 cv_X2_228 r75.1 (hit M5 _ W5) rfl rfl (Nat.le_of_ble_eq_true rfl) (by omega) (by omega) (by omega) (fun q M' hx => ?_) ?_
  · obtain ⟨kx, px, x1, x2⟩ := hx
    exact ⟨kx, px, by rw [x1]; rfl, XE.pre (f9.trans R5.1) x2⟩
  rintro _ M6 ⟨y2, z2, hy2, rfl, hV2, hRO2⟩
  obtain ⟨u1, u2, -⟩ := hpr a y2 hy2
  have hz6 := hRO2.1.1.1
  have s6 := hRO2.1.sm (c := mZ M9) (by omega) (by omega)
  refine r_cI (pc := 21) dX2_looked_21 ci_X2_310 (ct_X13_init (M := M6) (a := mZ M9) hg (by omega) (s6.1.trans m3)) rfl rfl (Nat.le_of_ble_eq_true rfl) (by omega) ?_
  rintro _ M8 ⟨rfl, e8⟩
  obtain ⟨G1, G2⟩ := look_mk hV2 (s6.1.trans m3) hk (by omega) (by omega) e8
  have R8 : RO M9 o y2.2 M8 := (R5.trans hRO2).more ⟨G2.1, fun c hc hn => G2.2 c hc (fun q => by omega)⟩ (by omega)
  have W8 := W9.to R8 u2
  have r78 := W8.rd.2.2.2.2.2.2.2.1.1
  clear e8
  refine r_ast2 (pc := 24) dX2_looked_24 ?_
  refine r_ald0 (pc := 25) dX2_looked_25 ?_
  refine r_dup (pc := 26) dX2_looked_26 rfl ?_
  refine r_getI' (pc := 27) dX2_looked_27 fl_X2_113 r78 W8.2.2.2.1 ?_
  refine r_iconst (v := nI 1) (pc := 30) dX2_looked_30 (by decide) ?_
  refine r_isubN (pc := 31) dX2_looked_31 (by omega) ?_
  refine r_putI (pc := 32) (ty := .int) dX2_looked_32 fl_X2_113 ⟨rfl, rfl⟩ rfl rfl r78 (by omega) ?_
  generalize hM11 : sI M8 (o + 5) 4 (nI (6 - oo - 1)) = M11
  obtain ⟨g1, g2⟩ := W.close f9 R8 W8.2.2.2.1 hM11
  refine r_ald2 (pc := 35) dX2_looked_35 ?_
  refine r_aretR (pc := 36) dX2_looked_36 ?_
  refine ⟨(y2.1 ++ [60 + k], y2.2), mZ M9, by rw [hy2]; rfl, rfl, ?_, g1⟩
  exact G1.rd g2 (by omega) (by omega) (Nat.le_refl _)
end X69
