set_option maxRecDepth 100000
/-! THE MODEL: questions -/
section M45
variable {g : GC} {M : MM} {o : Nat} {s s' s1 s2 : MS} {M1 : MM} {T : Te} {t : St} {i : Nat} {q : Sg} {f : Nat → Nat} {n a : Nat}
theorem ct_X6_qClip0 {v : Int} (hv : b62 v) : Ct g yX6_qClip cX6_qClip 2 (some Jvm.ClassFile.FieldType.long) 0 0 0 [.long (lI v)] M1 (PQ M1 (.long (lI (clip v)))) noX := ct_X6_qClip hv
theorem env_b (hTB : TB T) (hB : SB (tn T) t) (hi : i < tn T) (k : Nat) : b6 (envA T t i k) := by
  have h8 := hTB.1
  have hfk := hTB.2.2.1 i hi
  have hyr := hB.1
  obtain ⟨b1, b2, b3, -⟩ := hB.2 i hi
  unfold envA
  repeat' split
  all_goals (constructor <;> omega)
theorem ofn_b (hTB : TB T) (hB : SB (tn T) t) (hi : i < tn T) (w : Nat) (v : Int) : b6 (ofnA T t i w v) := by
  unfold ofnA
  split
  · next hc =>
    have hm : v.toNat < tn T := by omega
    have hb1 := (hB.2 i hi).2.2.2 _ hm
    have hb2 := (hB.2 _ hm).2.2.2 i hi
    split <;> (constructor <;> omega)
  · constructor <;> decide
theorem tyS_of {c : Nat} {ts ts' : List Bool} {vs : List Int} (hc : 60 ≤ c ∧ c < 1000) (h : tyS c ts = some ts') (hv : okl ts vs) : ∃ a r, vs = a :: r ∧ b6 a := by
  unfold tyS at h
  rw [if_neg (by omega), if_pos hc.1] at h
  match ts, vs, h, hv with
  | true :: r, v :: vs, h, hv => exact ⟨v, vs, rfl, hv.1⟩
theorem okX_tl {x c : Nat} {cs : List Nat} (h : okX x (c :: cs)) : okX x cs := fun d hd => h d (List.mem_cons_of_mem _ hd)
theorem toldLoop {e : Nat} {v : Int} (hS : ShM g M o) (hTB : TB T) (hB : SB (tn T) t) (hi : i < tn T) :
    ∀ (cs : List Nat) (ts : List Bool) (vs : List Int) (s : MS) (k : Nat) (x3 : Option Value), k + cs.length = e → hol (mA s 101) k cs → okX 3 cs → (∃ b, tyC cs ts = some [b]) → okl ts vs → pil (mB s 107) vs → mF s 108 = nI vs.length → vs.length + cs.length ≤ 1690 → e ≤ 1690 → mF s 54 = nI 3 → RT s T → RN s (tn T) t → mF s 102 = nI e → rpn (envA T t i) (ofnA T t i) cs vs = [v] →
    Bd g yX6_qTold cX6_qTold 4 (some Jvm.ClassFile.FieldType.long) [] 4 0 0 (putM M o s) 7 [some (.ref o), some (.int (nI i)), some (.int (nI k)), x3] [] (QM M o (fun r s' => r = some (.long (lI v)) ∧ Fr [108] [] [] [107] s s')) noX := by
  have h8 := hTB.1
  intro cs
  induction cs with
  | nil =>
    intro ts vs s k x3 hk hh hc ht hv hp h108 hlen he h54 hT hN h102 hr
    have hr : vs = [v] := hr
    subst hr
    have hk : k = e := hk
    refine r_ild2 (pc := 7) dX6_qTold_7 ?_
    refine r_ald0 (pc := 8) dX6_qTold_8 ?_
    refine m_getI hS (pc := 9) dX6_qTold_9 fl_X6_327 ?_
    refine Bd.eqI h102 ?_
    first | refine r_icmp_geN (pc := 12) (tgt := 168) dX6_qTold_12 (by decide) (by omega) (by omega) (fun h12 => ?_) (fun h12 => ?_) | refine r_icmp_ge (pc := 12) (tgt := 168) dX6_qTold_12 (by decide) (fun h12 => ?_) (fun h12 => ?_)
    · skip
      refine r_ald0 (pc := 168) dX6_qTold_168 ?_
      refine m_getR hS (pc := 169) dX6_qTold_169 fl_X6_228 ar107 ?_
      refine r_iconst (v := nI 0) (pc := 172) dX6_qTold_172 (by decide) ?_
      refine m_lald hS (pc := 173) dX6_qTold_173 ar107 (by omega) (by omega) ?_
      refine Bd.eqL hp.1 ?_
      refine r_lret (pc := 174) dX6_qTold_174 ?_
      exact ⟨s, rfl, rfl, Fr.rf⟩
    · skip
      exact absurd h12 (by omega)
  | cons c cs ih =>
    intro ts vs s k x3 hk hh hc ht hv hp h108 hlen he h54 hT hN h102 hr
    obtain ⟨b0, ht⟩ := ht
    have hk' : k + 1 + cs.length = e := by simp at hk; omega
    have hlen' : vs.length + 1 + cs.length ≤ 1690 := by simp at hlen; omega
    have hcc := hc c List.mem_cons_self
    have ht' : (tyS c ts).bind (tyC cs) = some [b0] := ht
    have hr' : rpn (envA T t i) (ofnA T t i) cs (stp (envA T t i) (ofnA T t i) c vs) = [v] := hr
    cases e1 : tyS c ts with
    | none => rw [e1] at ht'; cases ht'
    | some ts1 =>
    rw [e1] at ht'
    have ht' : tyC cs ts1 = some [b0] := ht'
    have hv1 := tyS_ok (env := envA T t i) (ofn := ofnA T t i) e1 hv
    have hpush : ∀ z : Int, pil (mB (tF (tB s 107 vs.length (lI z)) 108 (nI (vs.length + 1))) 107) (z :: vs) := fun z => by
      refine ⟨?_, pil_congr (fun i hi => ?_) hp⟩
      · show (if (107 : Nat) = 107 ∧ vs.length = vs.length then lI z else _) = lI z
        rw [if_pos ⟨rfl, rfl⟩]
      · show (if (107 : Nat) = 107 ∧ i = vs.length then lI z else mB s 107 i) = mB s 107 i
        rw [if_neg (by omega)]
    have hc11 : c < 11000 := by omega
    have hec := env_b hTB hB hi (c - 40)
    have hTF : ∀ {z : Int} {m : Nat} {v : Int32}, RT (tF (tB s 107 m (lI z)) 108 v) T := fun {z m v} => hT.fr (fs := [108]) (gs := []) (as := []) (bs := [107]) (Fr.tF (Fr.tB Fr.rf (by decide)) (by decide)) (by decide) (by decide)
    refine r_ild2 (pc := 7) dX6_qTold_7 ?_
    refine r_ald0 (pc := 8) dX6_qTold_8 ?_
    refine m_getI hS (pc := 9) dX6_qTold_9 fl_X6_327 ?_
    refine Bd.eqI h102 ?_
    first | refine r_icmp_geN (pc := 12) (tgt := 168) dX6_qTold_12 (by decide) (by omega) (by omega) (fun h12 => ?_) (fun h12 => ?_) | refine r_icmp_ge (pc := 12) (tgt := 168) dX6_qTold_12 (by decide) (fun h12 => ?_) (fun h12 => ?_)
    · skip
      exact absurd h12 (by omega)
    · skip
      refine r_ald0 (pc := 15) dX6_qTold_15 ?_
      refine m_getR hS (pc := 16) dX6_qTold_16 fl_X6_222 ar101 ?_
      refine r_ild2 (pc := 19) dX6_qTold_19 ?_
      refine m_iald hS (pc := 20) dX6_qTold_20 ar101 (by omega) (by omega) ?_
      refine Bd.eqI hh.1 ?_
      refine r_ist3 (pc := 21) dX6_qTold_21 ?_
      refine r_ild3 (pc := 22) dX6_qTold_22 ?_
      refine r_sipush (v := nI 1000) (pc := 23) dX6_qTold_23 (by decide) ?_
      first | refine r_icmp_ltN (pc := 26) (tgt := 42) dX6_qTold_26 (by decide) (by omega) (by omega) (fun h26 => ?_) (fun h26 => ?_) | refine r_icmp_lt (pc := 26) (tgt := 42) dX6_qTold_26 (by decide) (fun h26 => ?_) (fun h26 => ?_)
      · skip
        refine r_ild3 (pc := 42) dX6_qTold_42 ?_
        refine r_bipush (v := nI 60) (pc := 43) dX6_qTold_43 (by decide) ?_
        first | refine r_icmp_ltN (pc := 45) (tgt := 85) dX6_qTold_45 (by decide) (by omega) (by omega) (fun h45 => ?_) (fun h45 => ?_) | refine r_icmp_lt (pc := 45) (tgt := 85) dX6_qTold_45 (by decide) (fun h45 => ?_) (fun h45 => ?_)
        · skip
          refine r_ild3 (pc := 85) dX6_qTold_85 ?_
          refine r_bipush (v := nI 40) (pc := 86) dX6_qTold_86 (by decide) ?_
          first | refine r_icmp_ltN (pc := 88) (tgt := 110) dX6_qTold_88 (by decide) (by omega) (by omega) (fun h88 => ?_) (fun h88 => ?_) | refine r_icmp_lt (pc := 88) (tgt := 110) dX6_qTold_88 (by decide) (fun h88 => ?_) (fun h88 => ?_)
          · skip
            refine r_ild3 (pc := 110) dX6_qTold_110 ?_
            refine r_bipush (v := nI 13) (pc := 111) dX6_qTold_111 (by decide) ?_
            first | refine r_icmp_neN (pc := 113) (tgt := 124) dX6_qTold_113 (by decide) (by omega) (by omega) (fun h113 => ?_) (fun h113 => ?_) | refine r_icmp_ne (pc := 113) (tgt := 124) dX6_qTold_113 (by decide) (fun h113 => ?_) (fun h113 => ?_)
            · skip
              refine r_ild3 (pc := 124) dX6_qTold_124 ?_
              refine r_bipush (v := nI 12) (pc := 125) dX6_qTold_125 (by decide) ?_
              first | refine r_icmp_neN (pc := 127) (tgt := 157) dX6_qTold_127 (by decide) (by omega) (by omega) (fun h127 => ?_) (fun h127 => ?_) | refine r_icmp_ne (pc := 127) (tgt := 157) dX6_qTold_127 (by decide) (fun h127 => ?_) (fun h127 => ?_)
              · skip
                have hjn : ∃ b a r, vs = b :: a :: r ∧ b6 a ∧ b6 b ∧ (1 ≤ c ∧ c ≤ 11) := tyS_jn ⟨by omega, by omega⟩ (by omega) e1 hv
                obtain ⟨b, a, r, rfl, ha6, hb6, hop⟩ := hjn
                have h108 : mF s 108 = nI (r.length + 2) := h108
                have hlen' : r.length + 2 + 1 + cs.length ≤ 1690 := hlen'
                have hs : stp (envA T t i) (ofnA T t i) c (b :: a :: r) = jn c a b :: r := by unfold stp; rw [if_neg (by omega), if_neg (by omega), if_neg (by omega), if_neg (by omega), if_neg (by omega)]
                rw [hs] at hv1 hr'
                have hp1 : pil (mB (tF (tB (tF s 108 (nI r.length)) 107 r.length (lI (jn c a b))) 108 (nI (r.length + 1))) 107) (jn c a b :: r) := pil_top hp.2.2
                have hN2 := ih ts1 _ (tF (tB (tF s 108 (nI r.length)) 107 r.length (lI (jn c a b))) 108 (nI (r.length + 1))) (k + 1) (some (.int (nI c))) hk' hh.2 (okX_tl hc) ⟨b0, ht'⟩ hv1 hp1 rfl (by simp at hlen ⊢; omega) he h54 (hT.fr (fs := [108]) (gs := []) (as := []) (bs := [107]) (Fr.tF (Fr.tB (Fr.tF Fr.rf (by decide)) (by decide)) (by decide)) (by decide) (by decide)) hN h102 hr'
                have hfr : Fr [108] [] [] [107] s (tF (tB (tF s 108 (nI r.length)) 107 r.length (lI (jn c a b))) 108 (nI (r.length + 1))) := Fr.tF (Fr.tB (Fr.tF Fr.rf (by decide)) (by decide)) (by decide)
                refine r_ald0 (pc := 157) dX6_qTold_157 ?_
                refine r_ild3 (pc := 158) dX6_qTold_158 ?_
                refine r_cV (pc := 159) dX6_qTold_159 cv_X6_420 hS.k (ct_X6_qJoins hS hop (k := r.length) h108 (by simp at hlen ⊢; omega) hp.1 hp.2.1 ha6 hb6) rfl rfl (Nat.le_of_ble_eq_true rfl) (by decide) ?_
                rintro _ _ ⟨rfl, rfl⟩
                first | refine r_iinc2N (j := 1) (pc := 162) dX6_qTold_162 rfl ?_ | refine r_iinc2 (pc := 162) dX6_qTold_162 ?_
                refine r_goto (pc := 165) (tgt := 7) dX6_qTold_165 (by decide) ?_
                exact Bd.post (fun r M' ⟨s', e1, e2, e3⟩ => ⟨s', e1, e2, Fr.trans hfr e3⟩) (fun _ _ h => h) hN2
              · skip
                have hnot : ∃ a r, vs = a :: r ∧ b6 a := tyS_not (by omega) e1 hv
                obtain ⟨a, r, rfl, ha6⟩ := hnot
                obtain ⟨ha1, ha2⟩ := ha6
                have h108 : mF s 108 = nI (r.length + 1) := h108
                have hlen' : r.length + 1 + 1 + cs.length ≤ 1690 := hlen'
                have hs : stp (envA T t i) (ofnA T t i) c (a :: r) = (1 - a) :: r := by unfold stp; rw [if_neg (by omega), if_neg (by omega), if_neg (by omega), if_neg (by omega), if_pos (by omega)]
                rw [hs] at hv1 hr'
                have hp1 : pil (mB (tB s 107 r.length (lI (1 - a))) 107) ((1 - a) :: r) := pil_top hp.2
                have hN2 := ih ts1 _ (tB s 107 r.length (lI (1 - a))) (k + 1) (some (.int (nI c))) hk' hh.2 (okX_tl hc) ⟨b0, ht'⟩ hv1 hp1 h108 (by simp at hlen ⊢; omega) he h54 (hT.fr (fs := []) (gs := []) (as := []) (bs := [107]) (Fr.tB Fr.rf (by decide)) (by decide) (by decide)) hN h102 hr'
                have hfr : Fr [108] [] [] [107] s (tB s 107 r.length (lI (1 - a))) := Fr.tB Fr.rf (by decide)
                refine r_ald0 (pc := 130) dX6_qTold_130 ?_
                refine m_getR hS (pc := 131) dX6_qTold_131 fl_X6_228 ar107 ?_
                refine r_ald0 (pc := 134) dX6_qTold_134 ?_
                refine m_getI hS (pc := 135) dX6_qTold_135 fl_X6_409 ?_
                refine Bd.eqI h108 ?_
                refine r_iconst (v := nI 1) (pc := 138) dX6_qTold_138 (by decide) ?_
                first | refine r_isubN (pc := 139) dX6_qTold_139 (by omega) ?_ | refine r_isubM (pc := 139) dX6_qTold_139 ?_ | refine r_isubJ (pc := 139) dX6_qTold_139 ?_ | refine r_isub (pc := 139) dX6_qTold_139 ?_
                refine r_lconst (v := lI 1) (pc := 140) dX6_qTold_140 rfl ?_
                refine r_ald0 (pc := 141) dX6_qTold_141 ?_
                refine m_getR hS (pc := 142) dX6_qTold_142 fl_X6_228 ar107 ?_
                refine r_ald0 (pc := 145) dX6_qTold_145 ?_
                refine m_getI hS (pc := 146) dX6_qTold_146 fl_X6_409 ?_
                refine Bd.eqI h108 ?_
                refine r_iconst (v := nI 1) (pc := 149) dX6_qTold_149 (by decide) ?_
                first | refine r_isubN (pc := 150) dX6_qTold_150 (by omega) ?_ | refine r_isubM (pc := 150) dX6_qTold_150 ?_ | refine r_isubJ (pc := 150) dX6_qTold_150 ?_ | refine r_isub (pc := 150) dX6_qTold_150 ?_
                refine m_lald hS (pc := 151) dX6_qTold_151 ar107 (by omega) (by omega) ?_
                refine Bd.eqL hp.1 ?_
                first | refine r_lsubI (pc := 152) dX6_qTold_152 ?_ | refine r_lsub (pc := 152) dX6_qTold_152 ?_
                refine m_last hS (pc := 153) dX6_qTold_153 ar107 (by omega) (by omega) ?_
                refine r_goto (pc := 154) (tgt := 162) dX6_qTold_154 (by decide) ?_
                first | refine r_iinc2N (j := 1) (pc := 162) dX6_qTold_162 rfl ?_ | refine r_iinc2 (pc := 162) dX6_qTold_162 ?_
                refine r_goto (pc := 165) (tgt := 7) dX6_qTold_165 (by decide) ?_
                exact Bd.post (fun r M' ⟨s', e1, e2, e3⟩ => ⟨s', e1, e2, Fr.trans hfr e3⟩) (fun _ _ h => h) hN2
            · skip
              have hs : stp (envA T t i) (ofnA T t i) c vs = 1 :: vs := by unfold stp; rw [if_neg (by omega), if_neg (by omega), if_neg (by omega), if_pos (by omega)]
              rw [hs] at hv1 hr'
              have hN2 := ih ts1 _ (tF (tB s 107 vs.length (lI 1)) 108 (nI (vs.length + 1))) (k + 1) (some (.int (nI c))) hk' hh.2 (okX_tl hc) ⟨b0, ht'⟩ hv1 (hpush _) rfl (by simp; omega) he h54 hTF hN h102 hr'
              have hfr : Fr [108] [] [] [107] s (tF (tB s 107 vs.length (lI 1)) 108 (nI (vs.length + 1))) := Fr.tF (Fr.tB Fr.rf (by decide)) (by decide)
              refine r_ald0 (pc := 116) dX6_qTold_116 ?_
              refine r_lconst (v := lI 1) (pc := 117) dX6_qTold_117 rfl ?_
              refine r_cV (pc := 118) dX6_qTold_118 cv_X6_412 hS.k (ct_X6_qPuts hS (k := vs.length) h108 (by omega)) rfl rfl (Nat.le_of_ble_eq_true rfl) (by decide) ?_
              rintro _ _ ⟨rfl, rfl⟩
              refine r_goto (pc := 121) (tgt := 162) dX6_qTold_121 (by decide) ?_
              first | refine r_iinc2N (j := 1) (pc := 162) dX6_qTold_162 rfl ?_ | refine r_iinc2 (pc := 162) dX6_qTold_162 ?_
              refine r_goto (pc := 165) (tgt := 7) dX6_qTold_165 (by decide) ?_
              exact Bd.post (fun r M' ⟨s', e1, e2, e3⟩ => ⟨s', e1, e2, Fr.trans hfr e3⟩) (fun _ _ h => h) hN2
          · skip
            have hs : stp (envA T t i) (ofnA T t i) c vs = clip (envA T t i (c - 40)) :: vs := by unfold stp; rw [if_neg (by omega), if_neg (by omega), if_pos (by omega)]
            rw [hs] at hv1 hr'
            have hN2 := ih ts1 _ (tF (tB s 107 vs.length (lI (clip (envA T t i (c - 40))))) 108 (nI (vs.length + 1))) (k + 1) (some (.int (nI c))) hk' hh.2 (okX_tl hc) ⟨b0, ht'⟩ hv1 (hpush _) rfl (by simp; omega) he h54 hTF hN h102 hr'
            have hfr : Fr [108] [] [] [107] s (tF (tB s 107 vs.length (lI (clip (envA T t i (c - 40))))) 108 (nI (vs.length + 1))) := Fr.tF (Fr.tB Fr.rf (by decide)) (by decide)
            refine r_ald0 (pc := 91) dX6_qTold_91 ?_
            refine r_ald0 (pc := 92) dX6_qTold_92 ?_
            refine r_ild3 (pc := 93) dX6_qTold_93 ?_
            refine r_bipush (v := nI 40) (pc := 94) dX6_qTold_94 (by decide) ?_
            first | refine r_isubN (pc := 96) dX6_qTold_96 (by omega) ?_ | refine r_isubM (pc := 96) dX6_qTold_96 ?_ | refine r_isubJ (pc := 96) dX6_qTold_96 ?_ | refine r_isub (pc := 96) dX6_qTold_96 ?_
            refine r_ild1 (pc := 97) dX6_qTold_97 ?_
            refine r_cV (pc := 98) dX6_qTold_98 cv_X6_416 hS.k (ct_X6_qPartOf3 hS h54 hT hTB hN hB hi (by rcases hcc with z | z | z; exact absurd z (by omega); exact z.2.2; exact absurd z (by omega)) (by omega)) rfl rfl (Nat.le_of_ble_eq_true rfl) (by decide) ?_
            rintro _ _ ⟨rfl, rfl⟩
            refine r_cS (pc := 101) dX6_qTold_101 cs_X6_657 (ct_X6_qClip (by obtain ⟨z1, z2⟩ := hec; constructor <;> omega)) rfl rfl (Nat.le_of_ble_eq_true rfl) (by decide) ?_
            rintro _ _ ⟨rfl, rfl⟩
            refine r_cV (pc := 104) dX6_qTold_104 cv_X6_412 hS.k (ct_X6_qPuts hS (k := vs.length) h108 (by omega)) rfl rfl (Nat.le_of_ble_eq_true rfl) (by decide) ?_
            rintro _ _ ⟨rfl, rfl⟩
            refine r_goto (pc := 107) (tgt := 162) dX6_qTold_107 (by decide) ?_
            first | refine r_iinc2N (j := 1) (pc := 162) dX6_qTold_162 rfl ?_ | refine r_iinc2 (pc := 162) dX6_qTold_162 ?_
            refine r_goto (pc := 165) (tgt := 7) dX6_qTold_165 (by decide) ?_
            exact Bd.post (fun r M' ⟨s', e1, e2, e3⟩ => ⟨s', e1, e2, Fr.trans hfr e3⟩) (fun _ _ h => h) hN2
        · skip
          have hof : ∃ a r, vs = a :: r ∧ b6 a := tyS_of ⟨by omega, by omega⟩ e1 hv
          obtain ⟨a, r, rfl, ha6⟩ := hof
          have h108 : mF s 108 = nI (r.length + 1) := h108
          have hlen' : r.length + 1 + 1 + cs.length ≤ 1690 := hlen'
          have hob := ofn_b hTB hB hi (c - 60) a
          have hs : stp (envA T t i) (ofnA T t i) c (a :: r) = clip (ofnA T t i (c - 60) a) :: r := by unfold stp; rw [if_neg (by omega), if_pos (by omega)]
          rw [hs] at hv1 hr'
          have hp1 : pil (mB (tB s 107 r.length (lI (clip (ofnA T t i (c - 60) a)))) 107) (clip (ofnA T t i (c - 60) a) :: r) := pil_top hp.2
          have hN2 := ih ts1 _ (tB s 107 r.length (lI (clip (ofnA T t i (c - 60) a)))) (k + 1) (some (.int (nI c))) hk' hh.2 (okX_tl hc) ⟨b0, ht'⟩ hv1 hp1 h108 (by simp at hlen ⊢; omega) he h54 (hT.fr (fs := []) (gs := []) (as := []) (bs := [107]) (Fr.tB Fr.rf (by decide)) (by decide) (by decide)) hN h102 hr'
          have hfr : Fr [108] [] [] [107] s (tB s 107 r.length (lI (clip (ofnA T t i (c - 60) a)))) := Fr.tB Fr.rf (by decide)
          refine r_ald0 (pc := 48) dX6_qTold_48 ?_
          refine m_getR hS (pc := 49) dX6_qTold_49 fl_X6_228 ar107 ?_
          refine r_ald0 (pc := 52) dX6_qTold_52 ?_
          refine m_getI hS (pc := 53) dX6_qTold_53 fl_X6_409 ?_
          refine Bd.eqI h108 ?_
          refine r_iconst (v := nI 1) (pc := 56) dX6_qTold_56 (by decide) ?_
          first | refine r_isubN (pc := 57) dX6_qTold_57 (by omega) ?_ | refine r_isubM (pc := 57) dX6_qTold_57 ?_ | refine r_isubJ (pc := 57) dX6_qTold_57 ?_ | refine r_isub (pc := 57) dX6_qTold_57 ?_
          refine r_ald0 (pc := 58) dX6_qTold_58 ?_
          refine r_ild3 (pc := 59) dX6_qTold_59 ?_
          refine r_bipush (v := nI 60) (pc := 60) dX6_qTold_60 (by decide) ?_
          first | refine r_isubN (pc := 62) dX6_qTold_62 (by omega) ?_ | refine r_isubM (pc := 62) dX6_qTold_62 ?_ | refine r_isubJ (pc := 62) dX6_qTold_62 ?_ | refine r_isub (pc := 62) dX6_qTold_62 ?_
          refine r_ald0 (pc := 63) dX6_qTold_63 ?_
          refine m_getR hS (pc := 64) dX6_qTold_64 fl_X6_228 ar107 ?_
          refine r_ald0 (pc := 67) dX6_qTold_67 ?_
          refine m_getI hS (pc := 68) dX6_qTold_68 fl_X6_409 ?_
          refine Bd.eqI h108 ?_
          refine r_iconst (v := nI 1) (pc := 71) dX6_qTold_71 (by decide) ?_
          first | refine r_isubN (pc := 72) dX6_qTold_72 (by omega) ?_ | refine r_isubM (pc := 72) dX6_qTold_72 ?_ | refine r_isubJ (pc := 72) dX6_qTold_72 ?_ | refine r_isub (pc := 72) dX6_qTold_72 ?_
          refine m_lald hS (pc := 73) dX6_qTold_73 ar107 (by omega) (by omega) ?_
          refine Bd.eqL hp.1 ?_
          refine r_ild1 (pc := 74) dX6_qTold_74 ?_
          refine r_cV (pc := 75) dX6_qTold_75 cv_X6_665 hS.k (ct_X6_qOf hS hT.2.1 h8 hN hB hi (by omega) ha6) rfl rfl (Nat.le_of_ble_eq_true rfl) (by decide) ?_
          rintro _ _ ⟨rfl, rfl⟩
          refine r_cS (pc := 78) dX6_qTold_78 cs_X6_657 (ct_X6_qClip (by obtain ⟨z1, z2⟩ := hob; constructor <;> omega)) rfl rfl (Nat.le_of_ble_eq_true rfl) (by decide) ?_
          rintro _ _ ⟨rfl, rfl⟩
          refine m_last hS (pc := 81) dX6_qTold_81 ar107 (by omega) (by omega) ?_
          refine r_goto (pc := 82) (tgt := 162) dX6_qTold_82 (by decide) ?_
          first | refine r_iinc2N (j := 1) (pc := 162) dX6_qTold_162 rfl ?_ | refine r_iinc2 (pc := 162) dX6_qTold_162 ?_
          refine r_goto (pc := 165) (tgt := 7) dX6_qTold_165 (by decide) ?_
          exact Bd.post (fun r M' ⟨s', e1, e2, e3⟩ => ⟨s', e1, e2, Fr.trans hfr e3⟩) (fun _ _ h => h) hN2
      · skip
        have hs : stp (envA T t i) (ofnA T t i) c vs = ((c : Int) - 1000) :: vs := if_pos (by omega)
        rw [hs] at hv1 hr'
        have hN2 := ih ts1 _ (tF (tB s 107 vs.length (lI ((c : Int) - 1000))) 108 (nI (vs.length + 1))) (k + 1) (some (.int (nI c))) hk' hh.2 (okX_tl hc) ⟨b0, ht'⟩ hv1 (hpush _) rfl (by simp; omega) he h54 hTF hN h102 hr'
        have hfr : Fr [108] [] [] [107] s (tF (tB s 107 vs.length (lI ((c : Int) - 1000))) 108 (nI (vs.length + 1))) := Fr.tF (Fr.tB Fr.rf (by decide)) (by decide)
        refine r_ald0 (pc := 29) dX6_qTold_29 ?_
        refine r_ild3 (pc := 30) dX6_qTold_30 ?_
        refine r_sipush (v := nI 1000) (pc := 31) dX6_qTold_31 (by decide) ?_
        first | refine r_isubN (pc := 34) dX6_qTold_34 (by omega) ?_ | refine r_isubM (pc := 34) dX6_qTold_34 ?_ | refine r_isubJ (pc := 34) dX6_qTold_34 ?_ | refine r_isub (pc := 34) dX6_qTold_34 ?_
        first | refine r_i2lM (pc := 35) dX6_qTold_35 (by omega) ?_ | refine r_i2lI (pc := 35) dX6_qTold_35 (by constructor <;> omega) ?_ | refine r_i2lT (pc := 35) dX6_qTold_35 ?_
        refine Bd.eqL (x' := lI ((c : Int) - 1000)) (by congr 1; omega) ?_
        refine r_cV (pc := 36) dX6_qTold_36 cv_X6_412 hS.k (ct_X6_qPuts hS (k := vs.length) h108 (by omega)) rfl rfl (Nat.le_of_ble_eq_true rfl) (by decide) ?_
        rintro _ _ ⟨rfl, rfl⟩
        refine r_goto (pc := 39) (tgt := 162) dX6_qTold_39 (by decide) ?_
        first | refine r_iinc2N (j := 1) (pc := 162) dX6_qTold_162 rfl ?_ | refine r_iinc2 (pc := 162) dX6_qTold_162 ?_
        refine r_goto (pc := 165) (tgt := 7) dX6_qTold_165 (by decide) ?_
        exact Bd.post (fun r M' ⟨s', e1, e2, e3⟩ => ⟨s', e1, e2, Fr.trans hfr e3⟩) (fun _ _ h => h) hN2
theorem ct_X6_qTold {cs : List Nat} {b0 : Bool} (hS : ShM g M o) (hTB : TB T) (hB : SB (tn T) t) (hi : i < tn T) (hh : hol (mA s 101) 0 cs) (h102 : mF s 102 = nI cs.length) (hl : cs.length ≤ 1690) (hc : okX 3 cs) (ht : tyC cs [] = some [b0]) (h54 : mF s 54 = nI 3) (hT : RT s T) (hN : RN s (tn T) t) :
    Ct g yX6_qTold cX6_qTold 4 (some Jvm.ClassFile.FieldType.long) 4 0 0 [.ref o, .int (nI i)] (putM M o s) (QM M o (fun r s' => r = some (.long (lI (evA T t cs i))) ∧ Fr [108] [] [] [107] s s')) noX := by
  obtain ⟨v, hv, -⟩ := rpn_one (env := envA T t i) (ofn := ofnA T t i) ht
  have hev : evA T t cs i = v := by unfold evA; rw [hv]; rfl
  rw [hev]
  have hlp := toldLoop (e := cs.length) (v := v) hS hTB hB hi cs [] [] (tF s 108 (nI 0)) 0 none (by omega) hh hc ⟨b0, ht⟩ trivial trivial rfl (by simp; omega) hl h54 (hT.fr (fs := [108]) (gs := []) (as := []) (bs := []) (Fr.tF Fr.rf (by decide)) (by decide) (by decide)) hN h102 hv
  refine Ct.of (by decide) (Nat.le_of_ble_eq_true rfl) rfl ?_
  refine r_ald0 (pc := 0) dX6_qTold_0 ?_
  refine r_iconst (v := nI 0) (pc := 1) dX6_qTold_1 (by decide) ?_
  refine m_putI hS (pc := 2) dX6_qTold_2 fl_X6_409 fw_X6_108 rfl rfl ?_
  refine r_iconst (v := nI 0) (pc := 5) dX6_qTold_5 (by decide) ?_
  refine r_ist2 (pc := 6) dX6_qTold_6 ?_
  refine Bd.post ?_ (fun _ _ h => h) hlp
  rintro r M' ⟨s9, e1, e2, e3⟩; exact ⟨s9, e1, e2, (Fr.tF Fr.rf (by decide)).trans e3⟩
def KdZ (f : Nat → Nat) (n : Nat) (r : Option Value) (s' : MS) : Pz (Nat × Nat) → Prop
  | .ok y => r = some (.int (nI y.1)) ∧ RP s' f n y.2
  | .error e => r = some (.int (nI 5)) ∧ BD s' e
theorem takes0 {p j d : Nat} {wd : List Nat} (hS : ShM g M o) (hp : skip f n a = p) (hR : RP s1 f n a) (h2 : AR j d 5 wd.length) (h3 : (j, wd) ∈ wdT) (h4 : Fr [2, 4] [] [] [] s s1) :
    Ct g yX6_takes cX6_takes 2 (some Jvm.ClassFile.FieldType.boolean) 2 0 0 [.ref o, .ref (o + d)] (putM M o s1) (QM M o (fun r s' => r = some (.int (zI (word f n p = some wd))) ∧ RP s' f n (if word f n p = some wd then p + wd.length else p) ∧ Fr [2, 4] [] [] [] s s')) noX := by
  have := ct_X6_takes hS hR h2 h3
  rw [hp] at this
  refine Ct.post ?_ (fun _ _ h => h) this
  rintro _ _ ⟨s2, rfl, h5, h6, h7⟩
  exact ⟨s2, rfl, h5, h6, h4.trans h7⟩
theorem ct_X6_qKind (hS : ShM g M o) (hR : RP s f n 0) :
    Ct g yX6_qKind cX6_qKind 2 (some Jvm.ClassFile.FieldType.int) 4 0 0 [.ref o] (putM M o s) (QM M o (fun r s' => KdZ f n r s' (kndP f n) ∧ Fr [2, 4, 5, 6] [] [] [] s s')) noX := by
  have hp := skip_idem f n 0
  refine Ct.of (by decide) (Nat.le_of_ble_eq_true rfl) rfl ?_
  unfold kndP
  generalize hpp : skip f n 0 = p at hp ⊢
  have tk : ∀ {j d : Nat} {wd : List Nat} {s2 : MS} {a : Nat}, (a = 0 ∨ a = p) → RP s2 f n a → AR j d 5 wd.length → (j, wd) ∈ wdT → Fr [2, 4] [] [] [] s s2 → _ := fun {j d wd s2 a} ha hR2 h2 h3 h4 => takes0 (g := g) (M := M) (o := o) (s := s) (s1 := s2) (f := f) (n := n) (a := a) (p := p) (wd := wd) hS (by rcases ha with e | e <;> rw [e]; exact hpp; exact hp) hR2 h2 h3 h4
  by_cases w0 : word f n p = some wFirst
  · rw [if_pos w0]
    refine r_ald0 (pc := 0) dX6_qKind_0 ?_
    refine r_ald0 (pc := 1) dX6_qKind_1 ?_
    refine m_getR hS (pc := 2) dX6_qKind_2 fl_X6_147 ar76 ?_
    refine r_cV (pc := 5) dX6_qKind_5 cv_X6_264 hS.k (tk (Or.inl rfl) hR ar76 (wd := wFirst) (by decide) Fr.rf) rfl rfl (Nat.le_of_ble_eq_true rfl) (by decide) ?_
    rintro _ _ ⟨s1, rfl, rfl, hR1, hf1⟩
    rw [if_pos w0] at hR1
    first | refine r_if_eqZ (pc := 8) (tgt := 15) dX6_qKind_8 (by decide) (fun h8 => ?_) (fun h8 => ?_) | refine r_if_eqN (pc := 8) (tgt := 15) dX6_qKind_8 (by decide) (by omega) (fun h8 => ?_) (fun h8 => ?_) | refine r_if_eq (pc := 8) (tgt := 15) dX6_qKind_8 (by decide) (fun h8 => ?_) (fun h8 => ?_)
    · skip
      exact absurd w0 h8
    · skip
      refine r_iconst (v := nI 0) (pc := 11) dX6_qKind_11 (by decide) ?_
      refine r_goto (pc := 12) (tgt := 76) dX6_qKind_12 (by decide) ?_
      refine r_ist1 (pc := 76) dX6_qKind_76 ?_
      refine r_ild1 (pc := 77) dX6_qKind_77 ?_
      refine r_iconst (v := nI 5) (pc := 78) dX6_qKind_78 (by decide) ?_
      refine r_icmp_neN (pc := 79) (tgt := 90) dX6_qKind_79 (by decide) (by omega) (by omega) (fun h79 => ?_) (fun h79 => ?_)
      · skip
        refine r_ild1 (pc := 90) dX6_qKind_90 ?_
        refine r_iret (pc := 91) dX6_qKind_91 ?_
        exact ⟨_, rfl, ⟨rfl, hR1⟩, hf1.mono (by decide) (by decide) (by decide) (by decide)⟩
      · skip
        exact absurd h79 (by decide)
  · skip
    by_cases w1 : word f n p = some wLast
    · rw [if_neg w0, if_pos w1]
      refine r_ald0 (pc := 0) dX6_qKind_0 ?_
      refine r_ald0 (pc := 1) dX6_qKind_1 ?_
      refine m_getR hS (pc := 2) dX6_qKind_2 fl_X6_147 ar76 ?_
      refine r_cV (pc := 5) dX6_qKind_5 cv_X6_264 hS.k (tk (Or.inl rfl) hR ar76 (wd := wFirst) (by decide) Fr.rf) rfl rfl (Nat.le_of_ble_eq_true rfl) (by decide) ?_
      rintro _ _ ⟨s1, rfl, rfl, hR1, hf1⟩
      rw [if_neg w0] at hR1
      first | refine r_if_eqZ (pc := 8) (tgt := 15) dX6_qKind_8 (by decide) (fun h8 => ?_) (fun h8 => ?_) | refine r_if_eqN (pc := 8) (tgt := 15) dX6_qKind_8 (by decide) (by omega) (fun h8 => ?_) (fun h8 => ?_) | refine r_if_eq (pc := 8) (tgt := 15) dX6_qKind_8 (by decide) (fun h8 => ?_) (fun h8 => ?_)
      · skip
        refine r_ald0 (pc := 15) dX6_qKind_15 ?_
        refine r_ald0 (pc := 16) dX6_qKind_16 ?_
        refine m_getR hS (pc := 17) dX6_qKind_17 fl_X6_150 ar77 ?_
        refine r_cV (pc := 20) dX6_qKind_20 cv_X6_264 hS.k (tk (Or.inr rfl) hR1 ar77 (wd := wLast) (by decide) hf1) rfl rfl (Nat.le_of_ble_eq_true rfl) (by decide) ?_
        rintro _ _ ⟨s2, rfl, rfl, hR2, hf2⟩
        rw [if_pos w1] at hR2
        first | refine r_if_eqZ (pc := 23) (tgt := 30) dX6_qKind_23 (by decide) (fun h23 => ?_) (fun h23 => ?_) | refine r_if_eqN (pc := 23) (tgt := 30) dX6_qKind_23 (by decide) (by omega) (fun h23 => ?_) (fun h23 => ?_) | refine r_if_eq (pc := 23) (tgt := 30) dX6_qKind_23 (by decide) (fun h23 => ?_) (fun h23 => ?_)
        · skip
          exact absurd w1 h23
        · skip
          refine r_iconst (v := nI 1) (pc := 26) dX6_qKind_26 (by decide) ?_
          refine r_goto (pc := 27) (tgt := 76) dX6_qKind_27 (by decide) ?_
          refine r_ist1 (pc := 76) dX6_qKind_76 ?_
          refine r_ild1 (pc := 77) dX6_qKind_77 ?_
          refine r_iconst (v := nI 5) (pc := 78) dX6_qKind_78 (by decide) ?_
          refine r_icmp_neN (pc := 79) (tgt := 90) dX6_qKind_79 (by decide) (by omega) (by omega) (fun h79 => ?_) (fun h79 => ?_)
          · skip
            refine r_ild1 (pc := 90) dX6_qKind_90 ?_
            refine r_iret (pc := 91) dX6_qKind_91 ?_
            exact ⟨_, rfl, ⟨rfl, hR2⟩, hf2.mono (by decide) (by decide) (by decide) (by decide)⟩
          · skip
            exact absurd h79 (by decide)
      · skip
        exact absurd h8 w0
    · skip
      by_cases w2 : word f n p = some wOften
      · rw [if_neg w0, if_neg w1, if_pos w2]
        refine r_ald0 (pc := 0) dX6_qKind_0 ?_
        refine r_ald0 (pc := 1) dX6_qKind_1 ?_
        refine m_getR hS (pc := 2) dX6_qKind_2 fl_X6_147 ar76 ?_
        refine r_cV (pc := 5) dX6_qKind_5 cv_X6_264 hS.k (tk (Or.inl rfl) hR ar76 (wd := wFirst) (by decide) Fr.rf) rfl rfl (Nat.le_of_ble_eq_true rfl) (by decide) ?_
        rintro _ _ ⟨s1, rfl, rfl, hR1, hf1⟩
        rw [if_neg w0] at hR1
        first | refine r_if_eqZ (pc := 8) (tgt := 15) dX6_qKind_8 (by decide) (fun h8 => ?_) (fun h8 => ?_) | refine r_if_eqN (pc := 8) (tgt := 15) dX6_qKind_8 (by decide) (by omega) (fun h8 => ?_) (fun h8 => ?_) | refine r_if_eq (pc := 8) (tgt := 15) dX6_qKind_8 (by decide) (fun h8 => ?_) (fun h8 => ?_)
        · skip
          refine r_ald0 (pc := 15) dX6_qKind_15 ?_
          refine r_ald0 (pc := 16) dX6_qKind_16 ?_
          refine m_getR hS (pc := 17) dX6_qKind_17 fl_X6_150 ar77 ?_
          refine r_cV (pc := 20) dX6_qKind_20 cv_X6_264 hS.k (tk (Or.inr rfl) hR1 ar77 (wd := wLast) (by decide) hf1) rfl rfl (Nat.le_of_ble_eq_true rfl) (by decide) ?_
          rintro _ _ ⟨s2, rfl, rfl, hR2, hf2⟩
          rw [if_neg w1] at hR2
          first | refine r_if_eqZ (pc := 23) (tgt := 30) dX6_qKind_23 (by decide) (fun h23 => ?_) (fun h23 => ?_) | refine r_if_eqN (pc := 23) (tgt := 30) dX6_qKind_23 (by decide) (by omega) (fun h23 => ?_) (fun h23 => ?_) | refine r_if_eq (pc := 23) (tgt := 30) dX6_qKind_23 (by decide) (fun h23 => ?_) (fun h23 => ?_)
          · skip
            refine r_ald0 (pc := 30) dX6_qKind_30 ?_
            refine r_ald0 (pc := 31) dX6_qKind_31 ?_
            refine m_getR hS (pc := 32) dX6_qKind_32 fl_X6_153 ar78 ?_
            refine r_cV (pc := 35) dX6_qKind_35 cv_X6_264 hS.k (tk (Or.inr rfl) hR2 ar78 (wd := wOften) (by decide) hf2) rfl rfl (Nat.le_of_ble_eq_true rfl) (by decide) ?_
            rintro _ _ ⟨s3, rfl, rfl, hR3, hf3⟩
            rw [if_pos w2] at hR3
            first | refine r_if_eqZ (pc := 38) (tgt := 45) dX6_qKind_38 (by decide) (fun h38 => ?_) (fun h38 => ?_) | refine r_if_eqN (pc := 38) (tgt := 45) dX6_qKind_38 (by decide) (by omega) (fun h38 => ?_) (fun h38 => ?_) | refine r_if_eq (pc := 38) (tgt := 45) dX6_qKind_38 (by decide) (fun h38 => ?_) (fun h38 => ?_)
            · skip
              exact absurd w2 h38
            · skip
              refine r_iconst (v := nI 2) (pc := 41) dX6_qKind_41 (by decide) ?_
              refine r_goto (pc := 42) (tgt := 76) dX6_qKind_42 (by decide) ?_
              refine r_ist1 (pc := 76) dX6_qKind_76 ?_
              refine r_ild1 (pc := 77) dX6_qKind_77 ?_
              refine r_iconst (v := nI 5) (pc := 78) dX6_qKind_78 (by decide) ?_
              refine r_icmp_neN (pc := 79) (tgt := 90) dX6_qKind_79 (by decide) (by omega) (by omega) (fun h79 => ?_) (fun h79 => ?_)
              · skip
                refine r_ild1 (pc := 90) dX6_qKind_90 ?_
                refine r_iret (pc := 91) dX6_qKind_91 ?_
                exact ⟨_, rfl, ⟨rfl, hR3⟩, hf3.mono (by decide) (by decide) (by decide) (by decide)⟩
              · skip
                exact absurd h79 (by decide)
          · skip
            exact absurd h23 w1
        · skip
          exact absurd h8 w0
      · skip
        by_cases w3 : word f n p = some wTotal
        · rw [if_neg w0, if_neg w1, if_neg w2, if_pos w3]
          refine r_ald0 (pc := 0) dX6_qKind_0 ?_
          refine r_ald0 (pc := 1) dX6_qKind_1 ?_
          refine m_getR hS (pc := 2) dX6_qKind_2 fl_X6_147 ar76 ?_
          refine r_cV (pc := 5) dX6_qKind_5 cv_X6_264 hS.k (tk (Or.inl rfl) hR ar76 (wd := wFirst) (by decide) Fr.rf) rfl rfl (Nat.le_of_ble_eq_true rfl) (by decide) ?_
          rintro _ _ ⟨s1, rfl, rfl, hR1, hf1⟩
          rw [if_neg w0] at hR1
          first | refine r_if_eqZ (pc := 8) (tgt := 15) dX6_qKind_8 (by decide) (fun h8 => ?_) (fun h8 => ?_) | refine r_if_eqN (pc := 8) (tgt := 15) dX6_qKind_8 (by decide) (by omega) (fun h8 => ?_) (fun h8 => ?_) | refine r_if_eq (pc := 8) (tgt := 15) dX6_qKind_8 (by decide) (fun h8 => ?_) (fun h8 => ?_)
          · skip
            refine r_ald0 (pc := 15) dX6_qKind_15 ?_
            refine r_ald0 (pc := 16) dX6_qKind_16 ?_
            refine m_getR hS (pc := 17) dX6_qKind_17 fl_X6_150 ar77 ?_
            refine r_cV (pc := 20) dX6_qKind_20 cv_X6_264 hS.k (tk (Or.inr rfl) hR1 ar77 (wd := wLast) (by decide) hf1) rfl rfl (Nat.le_of_ble_eq_true rfl) (by decide) ?_
            rintro _ _ ⟨s2, rfl, rfl, hR2, hf2⟩
            rw [if_neg w1] at hR2
            first | refine r_if_eqZ (pc := 23) (tgt := 30) dX6_qKind_23 (by decide) (fun h23 => ?_) (fun h23 => ?_) | refine r_if_eqN (pc := 23) (tgt := 30) dX6_qKind_23 (by decide) (by omega) (fun h23 => ?_) (fun h23 => ?_) | refine r_if_eq (pc := 23) (tgt := 30) dX6_qKind_23 (by decide) (fun h23 => ?_) (fun h23 => ?_)
            · skip
              refine r_ald0 (pc := 30) dX6_qKind_30 ?_
              refine r_ald0 (pc := 31) dX6_qKind_31 ?_
              refine m_getR hS (pc := 32) dX6_qKind_32 fl_X6_153 ar78 ?_
              refine r_cV (pc := 35) dX6_qKind_35 cv_X6_264 hS.k (tk (Or.inr rfl) hR2 ar78 (wd := wOften) (by decide) hf2) rfl rfl (Nat.le_of_ble_eq_true rfl) (by decide) ?_
              rintro _ _ ⟨s3, rfl, rfl, hR3, hf3⟩
              rw [if_neg w2] at hR3
              first | refine r_if_eqZ (pc := 38) (tgt := 45) dX6_qKind_38 (by decide) (fun h38 => ?_) (fun h38 => ?_) | refine r_if_eqN (pc := 38) (tgt := 45) dX6_qKind_38 (by decide) (by omega) (fun h38 => ?_) (fun h38 => ?_) | refine r_if_eq (pc := 38) (tgt := 45) dX6_qKind_38 (by decide) (fun h38 => ?_) (fun h38 => ?_)
              · skip
                refine r_ald0 (pc := 45) dX6_qKind_45 ?_
                refine r_ald0 (pc := 46) dX6_qKind_46 ?_
                refine m_getR hS (pc := 47) dX6_qKind_47 fl_X6_156 ar79 ?_
                refine r_cV (pc := 50) dX6_qKind_50 cv_X6_264 hS.k (tk (Or.inr rfl) hR3 ar79 (wd := wTotal) (by decide) hf3) rfl rfl (Nat.le_of_ble_eq_true rfl) (by decide) ?_
                rintro _ _ ⟨s4, rfl, rfl, hR4, hf4⟩
                rw [if_pos w3] at hR4
                first | refine r_if_eqZ (pc := 53) (tgt := 60) dX6_qKind_53 (by decide) (fun h53 => ?_) (fun h53 => ?_) | refine r_if_eqN (pc := 53) (tgt := 60) dX6_qKind_53 (by decide) (by omega) (fun h53 => ?_) (fun h53 => ?_) | refine r_if_eq (pc := 53) (tgt := 60) dX6_qKind_53 (by decide) (fun h53 => ?_) (fun h53 => ?_)
                · skip
                  exact absurd w3 h53
                · skip
                  refine r_iconst (v := nI 3) (pc := 56) dX6_qKind_56 (by decide) ?_
                  refine r_goto (pc := 57) (tgt := 76) dX6_qKind_57 (by decide) ?_
                  refine r_ist1 (pc := 76) dX6_qKind_76 ?_
                  refine r_ild1 (pc := 77) dX6_qKind_77 ?_
                  refine r_iconst (v := nI 5) (pc := 78) dX6_qKind_78 (by decide) ?_
                  refine r_icmp_neN (pc := 79) (tgt := 90) dX6_qKind_79 (by decide) (by omega) (by omega) (fun h79 => ?_) (fun h79 => ?_)
                  · skip
                    refine r_ild1 (pc := 90) dX6_qKind_90 ?_
                    refine r_iret (pc := 91) dX6_qKind_91 ?_
                    exact ⟨_, rfl, ⟨rfl, hR4⟩, hf4.mono (by decide) (by decide) (by decide) (by decide)⟩
                  · skip
                    exact absurd h79 (by decide)
              · skip
                exact absurd h38 w2
            · skip
              exact absurd h23 w1
          · skip
            exact absurd h8 w0
        · skip
          by_cases w4 : word f n p = some wMost
          · rw [if_neg w0, if_neg w1, if_neg w2, if_neg w3, if_pos w4]
            refine r_ald0 (pc := 0) dX6_qKind_0 ?_
            refine r_ald0 (pc := 1) dX6_qKind_1 ?_
            refine m_getR hS (pc := 2) dX6_qKind_2 fl_X6_147 ar76 ?_
            refine r_cV (pc := 5) dX6_qKind_5 cv_X6_264 hS.k (tk (Or.inl rfl) hR ar76 (wd := wFirst) (by decide) Fr.rf) rfl rfl (Nat.le_of_ble_eq_true rfl) (by decide) ?_
            rintro _ _ ⟨s1, rfl, rfl, hR1, hf1⟩
            rw [if_neg w0] at hR1
            first | refine r_if_eqZ (pc := 8) (tgt := 15) dX6_qKind_8 (by decide) (fun h8 => ?_) (fun h8 => ?_) | refine r_if_eqN (pc := 8) (tgt := 15) dX6_qKind_8 (by decide) (by omega) (fun h8 => ?_) (fun h8 => ?_) | refine r_if_eq (pc := 8) (tgt := 15) dX6_qKind_8 (by decide) (fun h8 => ?_) (fun h8 => ?_)
            · skip
              refine r_ald0 (pc := 15) dX6_qKind_15 ?_
              refine r_ald0 (pc := 16) dX6_qKind_16 ?_
              refine m_getR hS (pc := 17) dX6_qKind_17 fl_X6_150 ar77 ?_
              refine r_cV (pc := 20) dX6_qKind_20 cv_X6_264 hS.k (tk (Or.inr rfl) hR1 ar77 (wd := wLast) (by decide) hf1) rfl rfl (Nat.le_of_ble_eq_true rfl) (by decide) ?_
              rintro _ _ ⟨s2, rfl, rfl, hR2, hf2⟩
              rw [if_neg w1] at hR2
              first | refine r_if_eqZ (pc := 23) (tgt := 30) dX6_qKind_23 (by decide) (fun h23 => ?_) (fun h23 => ?_) | refine r_if_eqN (pc := 23) (tgt := 30) dX6_qKind_23 (by decide) (by omega) (fun h23 => ?_) (fun h23 => ?_) | refine r_if_eq (pc := 23) (tgt := 30) dX6_qKind_23 (by decide) (fun h23 => ?_) (fun h23 => ?_)
              · skip
                refine r_ald0 (pc := 30) dX6_qKind_30 ?_
                refine r_ald0 (pc := 31) dX6_qKind_31 ?_
                refine m_getR hS (pc := 32) dX6_qKind_32 fl_X6_153 ar78 ?_
                refine r_cV (pc := 35) dX6_qKind_35 cv_X6_264 hS.k (tk (Or.inr rfl) hR2 ar78 (wd := wOften) (by decide) hf2) rfl rfl (Nat.le_of_ble_eq_true rfl) (by decide) ?_
                rintro _ _ ⟨s3, rfl, rfl, hR3, hf3⟩
                rw [if_neg w2] at hR3
                first | refine r_if_eqZ (pc := 38) (tgt := 45) dX6_qKind_38 (by decide) (fun h38 => ?_) (fun h38 => ?_) | refine r_if_eqN (pc := 38) (tgt := 45) dX6_qKind_38 (by decide) (by omega) (fun h38 => ?_) (fun h38 => ?_) | refine r_if_eq (pc := 38) (tgt := 45) dX6_qKind_38 (by decide) (fun h38 => ?_) (fun h38 => ?_)
                · skip
                  refine r_ald0 (pc := 45) dX6_qKind_45 ?_
                  refine r_ald0 (pc := 46) dX6_qKind_46 ?_
                  refine m_getR hS (pc := 47) dX6_qKind_47 fl_X6_156 ar79 ?_
                  refine r_cV (pc := 50) dX6_qKind_50 cv_X6_264 hS.k (tk (Or.inr rfl) hR3 ar79 (wd := wTotal) (by decide) hf3) rfl rfl (Nat.le_of_ble_eq_true rfl) (by decide) ?_
                  rintro _ _ ⟨s4, rfl, rfl, hR4, hf4⟩
                  rw [if_neg w3] at hR4
                  first | refine r_if_eqZ (pc := 53) (tgt := 60) dX6_qKind_53 (by decide) (fun h53 => ?_) (fun h53 => ?_) | refine r_if_eqN (pc := 53) (tgt := 60) dX6_qKind_53 (by decide) (by omega) (fun h53 => ?_) (fun h53 => ?_) | refine r_if_eq (pc := 53) (tgt := 60) dX6_qKind_53 (by decide) (fun h53 => ?_) (fun h53 => ?_)
                  · skip
                    refine r_ald0 (pc := 60) dX6_qKind_60 ?_
                    refine r_ald0 (pc := 61) dX6_qKind_61 ?_
                    refine m_getR hS (pc := 62) dX6_qKind_62 fl_X6_159 ar80 ?_
                    refine r_cV (pc := 65) dX6_qKind_65 cv_X6_264 hS.k (tk (Or.inr rfl) hR4 ar80 (wd := wMost) (by decide) hf4) rfl rfl (Nat.le_of_ble_eq_true rfl) (by decide) ?_
                    rintro _ _ ⟨s5, rfl, rfl, hR5, hf5⟩
                    rw [if_pos w4] at hR5
                    first | refine r_if_eqZ (pc := 68) (tgt := 75) dX6_qKind_68 (by decide) (fun h68 => ?_) (fun h68 => ?_) | refine r_if_eqN (pc := 68) (tgt := 75) dX6_qKind_68 (by decide) (by omega) (fun h68 => ?_) (fun h68 => ?_) | refine r_if_eq (pc := 68) (tgt := 75) dX6_qKind_68 (by decide) (fun h68 => ?_) (fun h68 => ?_)
                    · skip
                      exact absurd w4 h68
                    · skip
                      refine r_iconst (v := nI 4) (pc := 71) dX6_qKind_71 (by decide) ?_
                      refine r_goto (pc := 72) (tgt := 76) dX6_qKind_72 (by decide) ?_
                      refine r_ist1 (pc := 76) dX6_qKind_76 ?_
                      refine r_ild1 (pc := 77) dX6_qKind_77 ?_
                      refine r_iconst (v := nI 5) (pc := 78) dX6_qKind_78 (by decide) ?_
                      refine r_icmp_neN (pc := 79) (tgt := 90) dX6_qKind_79 (by decide) (by omega) (by omega) (fun h79 => ?_) (fun h79 => ?_)
                      · skip
                        refine r_ild1 (pc := 90) dX6_qKind_90 ?_
                        refine r_iret (pc := 91) dX6_qKind_91 ?_
                        exact ⟨_, rfl, ⟨rfl, hR5⟩, hf5.mono (by decide) (by decide) (by decide) (by decide)⟩
                      · skip
                        exact absurd h79 (by decide)
                  · skip
                    exact absurd h53 w3
                · skip
                  exact absurd h38 w2
              · skip
                exact absurd h23 w1
            · skip
              exact absurd h8 w0
          · rw [if_neg w0, if_neg w1, if_neg w2, if_neg w3, if_neg w4]
            have hk : ∀ {s2 : MS}, RP s2 f n p → _ := fun {s2} hR2 => ct_X6_asks (s := s2) (a := p) hS hR2 ar81 (w := wLeast) (by decide)
            by_cases w5 : word f n p = some wLeast
            · rw [if_pos w5]
              rw [kw_at hp w5] at hk
              refine r_ald0 (pc := 0) dX6_qKind_0 ?_
              refine r_ald0 (pc := 1) dX6_qKind_1 ?_
              refine m_getR hS (pc := 2) dX6_qKind_2 fl_X6_147 ar76 ?_
              refine r_cV (pc := 5) dX6_qKind_5 cv_X6_264 hS.k (tk (Or.inl rfl) hR ar76 (wd := wFirst) (by decide) Fr.rf) rfl rfl (Nat.le_of_ble_eq_true rfl) (by decide) ?_
              rintro _ _ ⟨s1, rfl, rfl, hR1, hf1⟩
              rw [if_neg w0] at hR1
              first | refine r_if_eqZ (pc := 8) (tgt := 15) dX6_qKind_8 (by decide) (fun h8 => ?_) (fun h8 => ?_) | refine r_if_eqN (pc := 8) (tgt := 15) dX6_qKind_8 (by decide) (by omega) (fun h8 => ?_) (fun h8 => ?_) | refine r_if_eq (pc := 8) (tgt := 15) dX6_qKind_8 (by decide) (fun h8 => ?_) (fun h8 => ?_)
              · skip
                refine r_ald0 (pc := 15) dX6_qKind_15 ?_
                refine r_ald0 (pc := 16) dX6_qKind_16 ?_
                refine m_getR hS (pc := 17) dX6_qKind_17 fl_X6_150 ar77 ?_
                refine r_cV (pc := 20) dX6_qKind_20 cv_X6_264 hS.k (tk (Or.inr rfl) hR1 ar77 (wd := wLast) (by decide) hf1) rfl rfl (Nat.le_of_ble_eq_true rfl) (by decide) ?_
                rintro _ _ ⟨s2, rfl, rfl, hR2, hf2⟩
                rw [if_neg w1] at hR2
                first | refine r_if_eqZ (pc := 23) (tgt := 30) dX6_qKind_23 (by decide) (fun h23 => ?_) (fun h23 => ?_) | refine r_if_eqN (pc := 23) (tgt := 30) dX6_qKind_23 (by decide) (by omega) (fun h23 => ?_) (fun h23 => ?_) | refine r_if_eq (pc := 23) (tgt := 30) dX6_qKind_23 (by decide) (fun h23 => ?_) (fun h23 => ?_)
                · skip
                  refine r_ald0 (pc := 30) dX6_qKind_30 ?_
                  refine r_ald0 (pc := 31) dX6_qKind_31 ?_
                  refine m_getR hS (pc := 32) dX6_qKind_32 fl_X6_153 ar78 ?_
                  refine r_cV (pc := 35) dX6_qKind_35 cv_X6_264 hS.k (tk (Or.inr rfl) hR2 ar78 (wd := wOften) (by decide) hf2) rfl rfl (Nat.le_of_ble_eq_true rfl) (by decide) ?_
                  rintro _ _ ⟨s3, rfl, rfl, hR3, hf3⟩
                  rw [if_neg w2] at hR3
                  first | refine r_if_eqZ (pc := 38) (tgt := 45) dX6_qKind_38 (by decide) (fun h38 => ?_) (fun h38 => ?_) | refine r_if_eqN (pc := 38) (tgt := 45) dX6_qKind_38 (by decide) (by omega) (fun h38 => ?_) (fun h38 => ?_) | refine r_if_eq (pc := 38) (tgt := 45) dX6_qKind_38 (by decide) (fun h38 => ?_) (fun h38 => ?_)
                  · skip
                    refine r_ald0 (pc := 45) dX6_qKind_45 ?_
                    refine r_ald0 (pc := 46) dX6_qKind_46 ?_
                    refine m_getR hS (pc := 47) dX6_qKind_47 fl_X6_156 ar79 ?_
                    refine r_cV (pc := 50) dX6_qKind_50 cv_X6_264 hS.k (tk (Or.inr rfl) hR3 ar79 (wd := wTotal) (by decide) hf3) rfl rfl (Nat.le_of_ble_eq_true rfl) (by decide) ?_
                    rintro _ _ ⟨s4, rfl, rfl, hR4, hf4⟩
                    rw [if_neg w3] at hR4
                    first | refine r_if_eqZ (pc := 53) (tgt := 60) dX6_qKind_53 (by decide) (fun h53 => ?_) (fun h53 => ?_) | refine r_if_eqN (pc := 53) (tgt := 60) dX6_qKind_53 (by decide) (by omega) (fun h53 => ?_) (fun h53 => ?_) | refine r_if_eq (pc := 53) (tgt := 60) dX6_qKind_53 (by decide) (fun h53 => ?_) (fun h53 => ?_)
                    · skip
                      refine r_ald0 (pc := 60) dX6_qKind_60 ?_
                      refine r_ald0 (pc := 61) dX6_qKind_61 ?_
                      refine m_getR hS (pc := 62) dX6_qKind_62 fl_X6_159 ar80 ?_
                      refine r_cV (pc := 65) dX6_qKind_65 cv_X6_264 hS.k (tk (Or.inr rfl) hR4 ar80 (wd := wMost) (by decide) hf4) rfl rfl (Nat.le_of_ble_eq_true rfl) (by decide) ?_
                      rintro _ _ ⟨s5, rfl, rfl, hR5, hf5⟩
                      rw [if_neg w4] at hR5
                      first | refine r_if_eqZ (pc := 68) (tgt := 75) dX6_qKind_68 (by decide) (fun h68 => ?_) (fun h68 => ?_) | refine r_if_eqN (pc := 68) (tgt := 75) dX6_qKind_68 (by decide) (by omega) (fun h68 => ?_) (fun h68 => ?_) | refine r_if_eq (pc := 68) (tgt := 75) dX6_qKind_68 (by decide) (fun h68 => ?_) (fun h68 => ?_)
                      · skip
                        refine r_iconst (v := nI 5) (pc := 75) dX6_qKind_75 (by decide) ?_
                        refine r_ist1 (pc := 76) dX6_qKind_76 ?_
                        refine r_ild1 (pc := 77) dX6_qKind_77 ?_
                        refine r_iconst (v := nI 5) (pc := 78) dX6_qKind_78 (by decide) ?_
                        refine r_icmp_neN (pc := 79) (tgt := 90) dX6_qKind_79 (by decide) (by omega) (by omega) (fun h79 => ?_) (fun h79 => ?_)
                        · skip
                          exact absurd rfl h79
                        · skip
                          refine r_ald0 (pc := 82) dX6_qKind_82 ?_
                          refine r_ald0 (pc := 83) dX6_qKind_83 ?_
                          refine m_getR hS (pc := 84) dX6_qKind_84 fl_X6_162 ar81 ?_
                          refine r_cV (pc := 87) dX6_qKind_87 cv_X6_309 hS.k (hk hR5) rfl rfl (Nat.le_of_ble_eq_true rfl) (by decide) ?_
                          rintro _ _ ⟨s6, rfl, rfl, hR6, hf6⟩
                          refine r_ild1 (pc := 90) dX6_qKind_90 ?_
                          refine r_iret (pc := 91) dX6_qKind_91 ?_
                          exact ⟨_, rfl, ⟨rfl, hR6⟩, (hf5.mono (by decide) (by decide) (by decide) (by decide)).trans hf6⟩
                      · skip
                        exact absurd h68 w4
                    · skip
                      exact absurd h53 w3
                  · skip
                    exact absurd h38 w2
                · skip
                  exact absurd h23 w1
              · skip
                exact absurd h8 w0
            · rw [if_neg w5]
              rw [show kwP f n wLeast p = .error (1, p) by unfold kwP; rw [hp, if_neg w5]] at hk
              refine r_ald0 (pc := 0) dX6_qKind_0 ?_
              refine r_ald0 (pc := 1) dX6_qKind_1 ?_
              refine m_getR hS (pc := 2) dX6_qKind_2 fl_X6_147 ar76 ?_
              refine r_cV (pc := 5) dX6_qKind_5 cv_X6_264 hS.k (tk (Or.inl rfl) hR ar76 (wd := wFirst) (by decide) Fr.rf) rfl rfl (Nat.le_of_ble_eq_true rfl) (by decide) ?_
              rintro _ _ ⟨s1, rfl, rfl, hR1, hf1⟩
              rw [if_neg w0] at hR1
              first | refine r_if_eqZ (pc := 8) (tgt := 15) dX6_qKind_8 (by decide) (fun h8 => ?_) (fun h8 => ?_) | refine r_if_eqN (pc := 8) (tgt := 15) dX6_qKind_8 (by decide) (by omega) (fun h8 => ?_) (fun h8 => ?_) | refine r_if_eq (pc := 8) (tgt := 15) dX6_qKind_8 (by decide) (fun h8 => ?_) (fun h8 => ?_)
              · skip
                refine r_ald0 (pc := 15) dX6_qKind_15 ?_
                refine r_ald0 (pc := 16) dX6_qKind_16 ?_
                refine m_getR hS (pc := 17) dX6_qKind_17 fl_X6_150 ar77 ?_
                refine r_cV (pc := 20) dX6_qKind_20 cv_X6_264 hS.k (tk (Or.inr rfl) hR1 ar77 (wd := wLast) (by decide) hf1) rfl rfl (Nat.le_of_ble_eq_true rfl) (by decide) ?_
                rintro _ _ ⟨s2, rfl, rfl, hR2, hf2⟩
                rw [if_neg w1] at hR2
                first | refine r_if_eqZ (pc := 23) (tgt := 30) dX6_qKind_23 (by decide) (fun h23 => ?_) (fun h23 => ?_) | refine r_if_eqN (pc := 23) (tgt := 30) dX6_qKind_23 (by decide) (by omega) (fun h23 => ?_) (fun h23 => ?_) | refine r_if_eq (pc := 23) (tgt := 30) dX6_qKind_23 (by decide) (fun h23 => ?_) (fun h23 => ?_)
                · skip
                  refine r_ald0 (pc := 30) dX6_qKind_30 ?_
                  refine r_ald0 (pc := 31) dX6_qKind_31 ?_
                  refine m_getR hS (pc := 32) dX6_qKind_32 fl_X6_153 ar78 ?_
                  refine r_cV (pc := 35) dX6_qKind_35 cv_X6_264 hS.k (tk (Or.inr rfl) hR2 ar78 (wd := wOften) (by decide) hf2) rfl rfl (Nat.le_of_ble_eq_true rfl) (by decide) ?_
                  rintro _ _ ⟨s3, rfl, rfl, hR3, hf3⟩
                  rw [if_neg w2] at hR3
                  first | refine r_if_eqZ (pc := 38) (tgt := 45) dX6_qKind_38 (by decide) (fun h38 => ?_) (fun h38 => ?_) | refine r_if_eqN (pc := 38) (tgt := 45) dX6_qKind_38 (by decide) (by omega) (fun h38 => ?_) (fun h38 => ?_) | refine r_if_eq (pc := 38) (tgt := 45) dX6_qKind_38 (by decide) (fun h38 => ?_) (fun h38 => ?_)
                  · skip
                    refine r_ald0 (pc := 45) dX6_qKind_45 ?_
                    refine r_ald0 (pc := 46) dX6_qKind_46 ?_
                    refine m_getR hS (pc := 47) dX6_qKind_47 fl_X6_156 ar79 ?_
                    refine r_cV (pc := 50) dX6_qKind_50 cv_X6_264 hS.k (tk (Or.inr rfl) hR3 ar79 (wd := wTotal) (by decide) hf3) rfl rfl (Nat.le_of_ble_eq_true rfl) (by decide) ?_
                    rintro _ _ ⟨s4, rfl, rfl, hR4, hf4⟩
                    rw [if_neg w3] at hR4
                    first | refine r_if_eqZ (pc := 53) (tgt := 60) dX6_qKind_53 (by decide) (fun h53 => ?_) (fun h53 => ?_) | refine r_if_eqN (pc := 53) (tgt := 60) dX6_qKind_53 (by decide) (by omega) (fun h53 => ?_) (fun h53 => ?_) | refine r_if_eq (pc := 53) (tgt := 60) dX6_qKind_53 (by decide) (fun h53 => ?_) (fun h53 => ?_)
                    · skip
                      refine r_ald0 (pc := 60) dX6_qKind_60 ?_
                      refine r_ald0 (pc := 61) dX6_qKind_61 ?_
                      refine m_getR hS (pc := 62) dX6_qKind_62 fl_X6_159 ar80 ?_
                      refine r_cV (pc := 65) dX6_qKind_65 cv_X6_264 hS.k (tk (Or.inr rfl) hR4 ar80 (wd := wMost) (by decide) hf4) rfl rfl (Nat.le_of_ble_eq_true rfl) (by decide) ?_
                      rintro _ _ ⟨s5, rfl, rfl, hR5, hf5⟩
                      rw [if_neg w4] at hR5
                      first | refine r_if_eqZ (pc := 68) (tgt := 75) dX6_qKind_68 (by decide) (fun h68 => ?_) (fun h68 => ?_) | refine r_if_eqN (pc := 68) (tgt := 75) dX6_qKind_68 (by decide) (by omega) (fun h68 => ?_) (fun h68 => ?_) | refine r_if_eq (pc := 68) (tgt := 75) dX6_qKind_68 (by decide) (fun h68 => ?_) (fun h68 => ?_)
                      · skip
                        refine r_iconst (v := nI 5) (pc := 75) dX6_qKind_75 (by decide) ?_
                        refine r_ist1 (pc := 76) dX6_qKind_76 ?_
                        refine r_ild1 (pc := 77) dX6_qKind_77 ?_
                        refine r_iconst (v := nI 5) (pc := 78) dX6_qKind_78 (by decide) ?_
                        refine r_icmp_neN (pc := 79) (tgt := 90) dX6_qKind_79 (by decide) (by omega) (by omega) (fun h79 => ?_) (fun h79 => ?_)
                        · skip
                          exact absurd rfl h79
                        · skip
                          refine r_ald0 (pc := 82) dX6_qKind_82 ?_
                          refine r_ald0 (pc := 83) dX6_qKind_83 ?_
                          refine m_getR hS (pc := 84) dX6_qKind_84 fl_X6_162 ar81 ?_
                          refine r_cV (pc := 87) dX6_qKind_87 cv_X6_309 hS.k (hk hR5) rfl rfl (Nat.le_of_ble_eq_true rfl) (by decide) ?_
                          rintro _ _ ⟨s6, rfl, rfl, hR6, hf6⟩
                          refine r_ild1 (pc := 90) dX6_qKind_90 ?_
                          refine r_iret (pc := 91) dX6_qKind_91 ?_
                          exact ⟨_, rfl, ⟨rfl, hR6⟩, (hf5.mono (by decide) (by decide) (by decide) (by decide)).trans hf6⟩
                      · skip
                        exact absurd h68 w4
                    · skip
                      exact absurd h53 w3
                  · skip
                    exact absurd h38 w2
                · skip
                  exact absurd h23 w1
              · skip
                exact absurd h8 w0
end M45
