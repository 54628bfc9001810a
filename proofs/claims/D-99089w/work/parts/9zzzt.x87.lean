set_option maxRecDepth 100000
/-! THE READER: all statements -/
section X87
variable {g : GC} {M0 M : MM} {o n ta : Nat} {f : Nat → Nat}
/-- what all answers: the terrace told -/
def AQ (g : GC) (M0 : MM) (o n : Nat) (f : Nat → Nat) (ta : Nat) (R : Pz (To × Nat)) : Option Value → MM → Prop := fun r M' => ∃ T m b l v tA, R = .ok (T, m) ∧ r = some (.ref ta) ∧ TW g M0 M' o n f ta l v tA T m b
theorem bI_end {p : Nat} (hf : ∀ j, f j < 256) : bI f n p = (-1 : Int32) ↔ ¬ p < n := by
  unfold bI
  by_cases e : p < n
  · rw [if_pos e]
    exact ⟨fun q => absurd q (nI_n1 (by have := hf p; omega)), fun q => absurd e q⟩
  · rw [if_neg e]
    exact ⟨fun _ => e, fun _ => iI_n1⟩
theorem look_end {a : Nat} : lookO f n a = none ↔ ¬ skip f n a < n := by
  unfold lookO
  by_cases e : skip f n a < n
  · rw [if_pos e]; exact ⟨fun q => (by cases q), fun q => absurd e q⟩
  · rw [if_neg e]; exact ⟨fun _ => e, fun _ => rfl⟩
theorem lp_all : ∀ k b T m M l v tA, n + 1 ≤ b + k → TW g M0 M o n f ta l v tA T m b → m ≤ 80 → Bd g yX2_all cX2_all 3 (some (.object "Retouched$Terrace")) [] 61 (60 * (n - b) + 100) (4000 * (n - b) + 13000) M 60 [some (.ref (o + 5)), none, none] [] (AQ g M0 o n f ta (stmtsP f n k T m b)) (TX g M0 o n f (stmtsP f n k T m b)) := by
  intro k
  induction k with
  | zero =>
    intro b T m M l v tA j1 W
    have := W.le
    omega
  | succ k ih =>
    intro b T m M l v tA j1 W hm
    have h := W.w.1
    have hg := h.1
    have hf := h.2.2.2.2.2.2.1.1
    have hc := W.w.c
    have h1280 := W.w.2.1
    have hbn := W.le
    have r7 := h.2.2.2.2.2.2.2.1.1
    have hsl := skip_le (f := f) W.le
    have hsg := skip_ge f n b
    have h0 := W.t.2.2.2.2.1.1
    have hgt := W.t.2.2.2.1.1
    have hct := ct_X2_here h W.le W.at
    by_cases e : lookO f n b = none
    · have er : stmtsP f n (k + 1) T m b = .ok (T, m) := if_pos e
      rw [er]
      rw [(bI_end hf).2 (look_end.1 e)] at hct
      refine r_ald0 (pc := 60) dX2_all_60 ?_
      refine r_cV (ci := 2) (pc := 61) dX2_all_61 cv_X2_43 r7 hct rfl rfl (Nat.le_of_ble_eq_true rfl) (by decide) ?_
      rintro _ M1 ⟨rfl, k1⟩
      have W1 := W.ro k1 hsl
      have r71 := W1.w.1.2.2.2.2.2.2.2.1.1
      refine r_iconst (v := -1) (pc := 64) dX2_all_64 (by decide) ?_
      refine r_icmp_eq (pc := 65) (tgt := 129) dX2_all_65 (by decide) (fun h65 => ?_) (fun h65 => ?_)
      · skip
        refine r_ald0 (pc := 129) dX2_all_129 ?_
        refine r_getR (pc := 130) dX2_all_130 fl_X2_100 r71 W1.to ?_
        refine r_aretR (pc := 133) dX2_all_133 ?_
        exact ⟨T, m, _, l, v, tA, rfl, rfl, W1⟩
      · skip
        exact absurd rfl h65
    · have hlt : skip f n b < n := Classical.byContradiction fun q => e (look_end.2 q)
      have hv : bI f n (skip f n b) ≠ (-1 : Int32) := fun q => (bI_end hf).1 q hlt
      generalize hv0 : bI f n (skip f n b) = v0 at hct hv
      have er : stmtsP f n (k + 1) T m b = bnd (stmtP f n T m (skip f n b)) (fun y => stmtsP f n k y.1 (m + 1) y.2) := if_neg e
      rw [er]
      by_cases e80 : m = 80
      · have es : stmtP f n T m (skip f n b) = .error (5, skip f n b) := if_pos e80
        rw [es]
        refine r_ald0 (pc := 60) dX2_all_60 ?_
        refine r_cV (ci := 2) (pc := 61) dX2_all_61 cv_X2_43 r7 hct rfl rfl (Nat.le_of_ble_eq_true rfl) (by decide) ?_
        rintro _ M1 ⟨rfl, k1⟩
        have W1 := W.ro k1 hsl
        have r71 := W1.w.1.2.2.2.2.2.2.2.1.1
        refine r_iconst (v := -1) (pc := 64) dX2_all_64 (by decide) ?_
        refine r_icmp_eq (pc := 65) (tgt := 129) dX2_all_65 (by decide) (fun h65 => ?_) (fun h65 => ?_)
        · skip
          exact absurd h65 hv
        · skip
          refine r_ald0 (pc := 68) dX2_all_68 ?_
          refine r_ald0 (pc := 69) dX2_all_69 ?_
          refine r_getR (pc := 70) dX2_all_70 fl_X2_100 r71 W1.to ?_
          refine r_getIN (pc := 73) dX2_all_73 (fn_X2_125 hg) W1.t.1.1 ?_
          rw [W1.t.1.2.1]
          refine r_bipush (v := nI 80) (pc := 76) dX2_all_76 (by decide) ?_
          first | refine r_icmp_neN (pc := 78) (tgt := 85) dX2_all_78 (by decide) (by omega) (by omega) (fun h78 => ?_) (fun h78 => ?_) | refine r_icmp_ne (pc := 78) (tgt := 85) dX2_all_78 (by decide) (fun h78 => ?_) (fun h78 => ?_)
          · skip
            exact absurd h78 (by omega)
          · skip
            refine r_iconst (v := nI 1) (pc := 81) dX2_all_81 (by decide) ?_
            refine r_goto (pc := 82) (tgt := 86) dX2_all_82 (by decide) ?_
            refine r_ald0 (pc := 86) dX2_all_86 ?_
            refine r_getI' (pc := 87) dX2_all_87 fl_X2_36 r71 W1.at ?_
            refine r_cVx (ci := 2) (pc := 90) (kc' := 0) (ks' := 0) dX2_all_90 cv_X2_128 r71 (ct_most1 W1.w.1) rfl rfl (Nat.le_of_ble_eq_true rfl) (by decide) (by omega) (by omega) (fun q M' hx => ⟨5, _, rfl, XT.of W1 hx⟩) ?_
            rintro _ M9 hF
            exact hF.elim
      · have es : stmtP f n T m (skip f n b) = match word f n (skip f n b) with
            | none => .error (1, skip f n b)
            | some w => endP f n (bodyP f n T w (skip f n b) (skip f n b + w.length)) := if_neg e80
        refine r_ald0 (pc := 60) dX2_all_60 ?_
        refine r_cV (ci := 2) (pc := 61) dX2_all_61 cv_X2_43 r7 hct rfl rfl (Nat.le_of_ble_eq_true rfl) (by decide) ?_
        rintro _ M1 ⟨rfl, k1⟩
        have W1 := W.ro k1 hsl
        have r71 := W1.w.1.2.2.2.2.2.2.2.1.1
        refine r_iconst (v := -1) (pc := 64) dX2_all_64 (by decide) ?_
        refine r_icmp_eq (pc := 65) (tgt := 129) dX2_all_65 (by decide) (fun h65 => ?_) (fun h65 => ?_)
        · skip
          exact absurd h65 hv
        · skip
          refine r_ald0 (pc := 68) dX2_all_68 ?_
          refine r_ald0 (pc := 69) dX2_all_69 ?_
          refine r_getR (pc := 70) dX2_all_70 fl_X2_100 r71 W1.to ?_
          refine r_getIN (pc := 73) dX2_all_73 (fn_X2_125 hg) W1.t.1.1 ?_
          rw [W1.t.1.2.1]
          refine r_bipush (v := nI 80) (pc := 76) dX2_all_76 (by decide) ?_
          first | refine r_icmp_neN (pc := 78) (tgt := 85) dX2_all_78 (by decide) (by omega) (by omega) (fun h78 => ?_) (fun h78 => ?_) | refine r_icmp_ne (pc := 78) (tgt := 85) dX2_all_78 (by decide) (fun h78 => ?_) (fun h78 => ?_)
          · skip
            refine r_iconst (v := nI 0) (pc := 85) dX2_all_85 (by decide) ?_
            refine r_ald0 (pc := 86) dX2_all_86 ?_
            refine r_getI' (pc := 87) dX2_all_87 fl_X2_36 r71 W1.at ?_
            refine r_cV (ci := 2) (pc := 90) dX2_all_90 cv_X2_128 r71 (ct_most0 W1.w.1) rfl rfl (Nat.le_of_ble_eq_true rfl) (by decide) ?_
            rintro _ M9 ⟨rfl, e9⟩
            rw [e9]
            refine r_ald0 (pc := 93) dX2_all_93 ?_
            refine r_getR (pc := 94) dX2_all_94 fl_X2_100 r71 W1.to ?_
            refine r_dup (pc := 97) dX2_all_97 rfl ?_
            refine r_getIN (pc := 98) dX2_all_98 (fn_X2_125 hg) W1.t.1.1 ?_
            rw [W1.t.1.2.1]
            refine r_iconst (v := nI 1) (pc := 101) dX2_all_101 (by decide) ?_
            first | refine r_iaddN (pc := 102) dX2_all_102 ?_ | refine r_iaddJ (pc := 102) dX2_all_102 ?_ | refine r_iadd (pc := 102) dX2_all_102 ?_
            refine r_putIN (pc := 103) (ty := .int) dX2_all_103 (fn_X2_125 hg) fw_X1_0 rfl rfl W1.t.1.1 hgt ?_
            have T2 : TLD g M0 (sI M1 ta 0 (nI (m + 1))) o ta l v tA T (m + 1) := W1.t.stI (by decide) (mI_sIs _ _ _ _) ((mI_sIj (by decide)).trans W1.t.1.2.2.1) ((mI_sIj (by decide)).trans W1.t.1.2.2.2.1) rfl rfl rfl
            have W2 := W1.sm (FM.sI fun _ => h0) T2 W.V
            generalize sI M1 ta 0 (nI (m + 1)) = M2 at *
            have r72 := W2.w.1.2.2.2.2.2.2.2.1.1
            have hwd := ct_X2_word_2 W2.w.1 hc hsl W2.at
            rw [skip_idem] at hwd
            have hlw := lts_le f (n - skip f n b) (skip f n b)
            refine r_ald0 (pc := 106) dX2_all_106 ?_
            refine r_cVx (ci := 2) (pc := 107) (kc' := 60 * (n - b) + 97) (ks' := 4000 * (n - b) + 10436) dX2_all_107 cv_X2_70 r72 hwd rfl rfl (Nat.le_of_ble_eq_true rfl) (by decide) (by omega) (by omega) (fun q M' hx => ⟨1, _, by rw [es, hx.1]; rfl, XT.of W2 hx.2⟩) ?_
            rintro _ M3 ⟨w, z, hw, rfl, q1, q2, q3, q4, q5, q6⟩
            have hwe := word_end hw
            have W3 := W2.ro q5 hwe.1
            have r73 := W3.w.1.2.2.2.2.2.2.2.1.1
            have es2 : bnd (stmtP f n T m (skip f n b)) (fun y => stmtsP f n k y.1 (m + 1) y.2) = bnd (endP f n (bodyP f n T w (skip f n b) (skip f n b + w.length))) (fun y => stmtsP f n k y.1 (m + 1) y.2) := by rw [es, hw]
            rw [es2]
            have hz2 := W2.2.1.1
            have hz0 := W.z0
            have hgz := W.gz
            have hWZ : WZ g M3 (fun c => mZ M2 ≤ c ∧ c < mZ M3) z w := ⟨q2, by omega, q3, q4, hwe.2.1⟩
            have hT3 : ∀ j x, TLD g M0 (sI M3 z j x) o ta l v tA T (m + 1) := fun j x => W2.t.mv q5.1.1.1 (fun c h1 h2 => (q5.1.sm h2 (by omega)).trans (Sm.sI (by omega))) (fun c hc => q5.1.k hc)
            have hto := ct_X2_told (p := skip f n b) W3 hWZ (by omega) hT3
            have hbo : ∀ y, bodyP f n T w (skip f n b) (skip f n b + w.length) = .ok y → skip f n b + w.length < y.2 ∧ y.2 ≤ n := fun y hy => (bodyP_ok W.w.1.2.2.2.2.1 W.V hy).2
            have cB : cstB 60 0 80 n (skip f n b + w.length) (bodyP f n T w (skip f n b) (skip f n b + w.length)) ≤ 60 * (n - b) + 97 ∧ cstB 4000 1200 12000 n (skip f n b + w.length) (bodyP f n T w (skip f n b) (skip f n b + w.length)) ≤ 4000 * (n - b) + 10436 := by
              cases hb : bodyP f n T w (skip f n b) (skip f n b + w.length) with
              | error e => rw [cstB_er, cstB_er]; omega
              | ok y => have := hbo y hb; rw [cstB_ok, cstB_ok]; omega
            refine r_ast2 (pc := 110) dX2_all_110 ?_
            refine r_ald0 (pc := 111) dX2_all_111 ?_
            refine r_ald2 (pc := 112) dX2_all_112 ?_
            refine r_ald0 (pc := 113) dX2_all_113 ?_
            refine r_getI' (pc := 114) dX2_all_114 fl_X2_61 r73 q6 ?_
            refine r_cVx (ci := 2) (pc := 117) (kc' := 60 * (n - b) + 97 - cstB 60 0 80 n (skip f n b + w.length) (bodyP f n T w (skip f n b) (skip f n b + w.length))) (ks' := 4000 * (n - b) + 10436 - cstB 4000 1200 12000 n (skip f n b + w.length) (bodyP f n T w (skip f n b) (skip f n b + w.length))) dX2_all_117 cv_X2_132 r73 hto rfl rfl (Nat.le_of_ble_eq_true rfl) (by decide) (by omega) (by omega) (fun q M' hx => ?_) ?_
            · obtain ⟨kx, px, x1, x2⟩ := hx
              exact ⟨kx, px, by rw [x1]; rfl, x2⟩
            rintro _ M4 ⟨rfl, T', b', b4, l', v', tA', hB, W4, ksk⟩
            have r74 := W4.w.1.2.2.2.2.2.2.2.1.1
            have hbb := hbo _ hB
            have hbb1 : skip f n b + w.length < b' := hbb.1
            have esg : sgP f n 59 b4 = sgP f n 59 b' := by unfold sgP; rw [lookO_eq ksk, ksk]
            rw [hB, cstB_ok, cstB_ok]
            refine r_ald0 (pc := 120) dX2_all_120 ?_
            refine r_bipush (v := nI 59) (pc := 121) dX2_all_121 (by decide) ?_
            refine r_cVx (ci := 2) (pc := 123) (kc' := 60 * (n - b) + 97 - (60 * (b' - (skip f n b + w.length)) + 0)) (ks' := 4000 * (n - b) + 10436 - (4000 * (b' - (skip f n b + w.length)) + 1200)) dX2_all_123 cv_X2_121 r74 (ct_X2_must (c := 59) W4.w.1 W4.le W4.at (by decide)) rfl rfl (Nat.le_of_ble_eq_true rfl) (by decide) (by omega) (by omega) (fun q M' hx => ?_) ?_
            · obtain ⟨kx, px, x1, x2⟩ := hx
              rw [esg] at x1
              exact ⟨kx, px, by show bnd (bnd (sgP f n 59 b') (fun c => .ok (T', c))) _ = _; rw [x1]; rfl, XT.of W4 x2⟩
            rintro _ M5 ⟨rfl, c, hcc, k5⟩
            have hcn := (sgP_ok hcc).2.1
            rw [esg] at hcc
            have hc1 := (sgP_ok hcc).1
            have W5 := W4.ro k5 hcn
            refine r_goto (pc := 126) (tgt := 60) dX2_all_126 (by decide) ?_
            have e9 : bnd (endP f n (.ok (T', b'))) (fun y => stmtsP f n k y.1 (m + 1) y.2) = stmtsP f n k T' (m + 1) c := by show bnd (bnd (sgP f n 59 b') (fun c => .ok (T', c))) _ = _; rw [hcc]; rfl
            rw [e9]
            refine Bd.kill 2 (Bd.spend ?_ ?_ (ih c T' (m + 1) M5 l' v' tA' (by omega) W5 (by omega)))
            · omega
            · omega
          · skip
            exact absurd h78 (by omega)
end X87
