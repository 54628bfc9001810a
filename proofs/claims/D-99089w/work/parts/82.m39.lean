set_option maxRecDepth 100000
/-! THE MODEL: a soul is told; thoughts are told -/
section M39
variable {g : GC} {M : MM} {o : Nat} {s s' s1 s2 sB : MS} {M1 : MM} {q : Sg} {f : Nat → Nat} {n a x c pl : Nat} {T : To}
abbrev SoQ (M : MM) (o : Nat) (f : Nat → Nat) (n c : Nat) (s : MS) (z : Pz (To × Nat)) : Option Value → MM → Prop := QM M o (fun r s' => r = none ∧ FT s s' ∧ StZ f n c s' z)
theorem so161 {e : Nat × Nat} {p1 : Int32} {v : Int64} {w4 w5 w6 : Option Value} (hS : ShM g M o) (hB : BD s1 e) (hf : FT s s1) : Bd g yX6_soulTold cX6_soulTold 7 none [] 4 0 0 (putM M o s1) 161 [some (.ref o), some (.int p1), some (.long v), none, w4, w5, w6] [] (SoQ M o f n c s (.error e)) noX := by
  refine r_ald0 (pc := 161) dX6_soulTold_161 ?_
  refine m_getI hS (pc := 162) dX6_soulTold_162 fl_X6_237 ?_
  refine r_if_eq (pc := 165) (tgt := 169) dX6_soulTold_165 (by decide) (fun h165 => ?_) (fun h165 => ?_)
  · skip
    exact absurd h165 hB.ne
  · skip
    refine r_vret (pc := 168) dX6_soulTold_168 ?_
    exact ⟨_, rfl, rfl, hf, hB⟩
theorem so152 {e : Nat × Nat} {p1 k4 k5 : Int32} {v : Int64} {w6 : Option Value} (hS : ShM g M o) (hB : BD s1 e) (hf : FT s s1) : Bd g yX6_soulTold cX6_soulTold 7 none [] 4 0 0 (putM M o s1) 152 [some (.ref o), some (.int p1), some (.long v), none, some (.int k4), some (.int k5), w6] [] (SoQ M o f n c s (.error e)) noX := by
  refine r_ald0 (pc := 152) dX6_soulTold_152 ?_
  refine r_iconst (v := nI 0) (pc := 153) dX6_soulTold_153 (by decide) ?_
  refine r_bipush (v := nI 9) (pc := 154) dX6_soulTold_154 (by decide) ?_
  refine r_cV (pc := 156) dX6_soulTold_156 cv_X6_313 hS.k (ct_X6_numberB hS hB.ne) rfl rfl (Nat.le_of_ble_eq_true rfl) (by decide) ?_
  rintro _ _ ⟨rfl, rfl⟩
  refine r_ist6 (pc := 159) dX6_soulTold_159 ?_
  exact so161 hS hB hf
theorem so144 {e : Nat × Nat} {p1 k4 k5 : Int32} {v : Int64} {w6 : Option Value} (hS : ShM g M o) (hB : BD s1 e) (hf : FT s s1) : Bd g yX6_soulTold cX6_soulTold 7 none [] 4 0 0 (putM M o s1) 144 [some (.ref o), some (.int p1), some (.long v), none, some (.int k4), some (.int k5), w6] [] (SoQ M o f n c s (.error e)) noX := by
  refine r_ald0 (pc := 144) dX6_soulTold_144 ?_
  refine r_ald0 (pc := 145) dX6_soulTold_145 ?_
  refine m_getR hS (pc := 146) dX6_soulTold_146 fl_X6_33 ar15 ?_
  refine r_cV (pc := 149) dX6_soulTold_149 cv_X6_309 hS.k (ct_X6_asksB (i := 0) hS hB.ne) rfl rfl (Nat.le_of_ble_eq_true rfl) (by decide) ?_
  rintro _ _ ⟨rfl, rfl⟩
  exact so152 hS hB hf
theorem so135 {e : Nat × Nat} {p1 k4 : Int32} {v : Int64} {w5 w6 : Option Value} (hS : ShM g M o) (hB : BD s1 e) (hf : FT s s1) : Bd g yX6_soulTold cX6_soulTold 7 none [] 4 0 0 (putM M o s1) 135 [some (.ref o), some (.int p1), some (.long v), none, some (.int k4), w5, w6] [] (SoQ M o f n c s (.error e)) noX := by
  refine r_ald0 (pc := 135) dX6_soulTold_135 ?_
  refine r_iconst (v := nI 0) (pc := 136) dX6_soulTold_136 (by decide) ?_
  refine r_bipush (v := nI 9) (pc := 137) dX6_soulTold_137 (by decide) ?_
  refine r_cV (pc := 139) dX6_soulTold_139 cv_X6_313 hS.k (ct_X6_numberB hS hB.ne) rfl rfl (Nat.le_of_ble_eq_true rfl) (by decide) ?_
  rintro _ _ ⟨rfl, rfl⟩
  refine r_ist5 (pc := 142) dX6_soulTold_142 ?_
  exact so144 hS hB hf
theorem so127 {e : Nat × Nat} {p1 k4 : Int32} {v : Int64} {w5 w6 : Option Value} (hS : ShM g M o) (hB : BD s1 e) (hf : FT s s1) : Bd g yX6_soulTold cX6_soulTold 7 none [] 4 0 0 (putM M o s1) 127 [some (.ref o), some (.int p1), some (.long v), none, some (.int k4), w5, w6] [] (SoQ M o f n c s (.error e)) noX := by
  refine r_ald0 (pc := 127) dX6_soulTold_127 ?_
  refine r_ald0 (pc := 128) dX6_soulTold_128 ?_
  refine m_getR hS (pc := 129) dX6_soulTold_129 fl_X6_30 ar14 ?_
  refine r_cV (pc := 132) dX6_soulTold_132 cv_X6_309 hS.k (ct_X6_asksB (i := 0) hS hB.ne) rfl rfl (Nat.le_of_ble_eq_true rfl) (by decide) ?_
  rintro _ _ ⟨rfl, rfl⟩
  exact so135 hS hB hf
theorem so84 {e : Nat × Nat} {p1 k4 : Int32} {v : Int64} {w6 : Option Value} {m : Nat} (hS : ShM g M o) (hB : BD s1 e) (hf : FT s s1) (hm : mF s1 39 = nI m) (h8 : m ≤ 8) : ∀ (j k : Nat), k + j = m → Bd g yX6_soulTold cX6_soulTold 7 none [] 4 0 0 (putM M o s1) 84 [some (.ref o), some (.int p1), some (.long v), none, some (.int k4), some (.int (nI k)), w6] [] (SoQ M o f n c s (.error e)) noX := by
  intro j
  induction j with
  | zero =>
    intro k hk
    refine r_ild5 (pc := 84) dX6_soulTold_84 ?_
    refine r_ald0 (pc := 86) dX6_soulTold_86 ?_
    refine m_getI hS (pc := 87) dX6_soulTold_87 fl_X6_298 ?_
    refine Bd.eqI hm ?_
    first | refine r_icmp_geN (pc := 90) (tgt := 127) dX6_soulTold_90 (by decide) (by omega) (by omega) (fun h90 => ?_) (fun h90 => ?_) | refine r_icmp_ge (pc := 90) (tgt := 127) dX6_soulTold_90 (by decide) (fun h90 => ?_) (fun h90 => ?_)
    · skip
      exact so127 hS hB hf
    · skip
      exact absurd h90 (by omega)
  | succ j ih =>
    intro k hk
    refine r_ild5 (pc := 84) dX6_soulTold_84 ?_
    refine r_ald0 (pc := 86) dX6_soulTold_86 ?_
    refine m_getI hS (pc := 87) dX6_soulTold_87 fl_X6_298 ?_
    refine Bd.eqI hm ?_
    first | refine r_icmp_geN (pc := 90) (tgt := 127) dX6_soulTold_90 (by decide) (by omega) (by omega) (fun h90 => ?_) (fun h90 => ?_) | refine r_icmp_ge (pc := 90) (tgt := 127) dX6_soulTold_90 (by decide) (fun h90 => ?_) (fun h90 => ?_)
    · skip
      exact absurd h90 (by omega)
    · skip
      refine r_ald0 (pc := 93) dX6_soulTold_93 ?_
      refine m_getI hS (pc := 94) dX6_soulTold_94 fl_X6_237 ?_
      refine r_if_ne (pc := 97) (tgt := 121) dX6_soulTold_97 (by decide) (fun h97 => ?_) (fun h97 => ?_)
      · skip
        first | refine r_iinc5N (j := 1) (pc := 121) dX6_soulTold_121 rfl ?_ | refine r_iinc5 (pc := 121) dX6_soulTold_121 ?_
        refine r_goto (pc := 124) (tgt := 84) dX6_soulTold_124 (by decide) ?_
        exact ih (k + 1) (by omega)
      · skip
        exact absurd h97 hB.ne
theorem so68 {e : Nat × Nat} {p1 : Int32} {v : Int64} {w4 w5 w6 : Option Value} {m : Nat} (hS : ShM g M o) (hB : BD s1 e) (hf : FT s s1) (hm : mF s1 39 = nI m) (h8 : m ≤ 8) : Bd g yX6_soulTold cX6_soulTold 7 none [] 4 0 0 (putM M o s1) 68 [some (.ref o), some (.int p1), some (.long v), none, w4, w5, w6] [] (SoQ M o f n c s (.error e)) noX := by
  refine r_ald0 (pc := 68) dX6_soulTold_68 ?_
  refine r_iconst (v := nI 0) (pc := 69) dX6_soulTold_69 (by decide) ?_
  refine r_ald0 (pc := 70) dX6_soulTold_70 ?_
  refine m_getI hS (pc := 71) dX6_soulTold_71 fl_X6_317 ?_
  refine r_iconst (v := nI 1) (pc := 74) dX6_soulTold_74 (by decide) ?_
  refine r_isub (pc := 75) dX6_soulTold_75 ?_
  refine r_cV (pc := 76) dX6_soulTold_76 cv_X6_313 hS.k (ct_X6_numberB hS hB.ne) rfl rfl (Nat.le_of_ble_eq_true rfl) (by decide) ?_
  rintro _ _ ⟨rfl, rfl⟩
  refine r_ist4 (pc := 79) dX6_soulTold_79 ?_
  refine r_iconst (v := nI 0) (pc := 81) dX6_soulTold_81 (by decide) ?_
  refine r_ist5 (pc := 82) dX6_soulTold_82 ?_
  exact so84 hS hB hf hm h8 m 0 (by omega)
theorem so60 {e : Nat × Nat} {p1 : Int32} {v : Int64} {w4 w5 w6 : Option Value} {m : Nat} (hS : ShM g M o) (hB : BD s1 e) (hf : FT s s1) (hm : mF s1 39 = nI m) (h8 : m ≤ 8) : Bd g yX6_soulTold cX6_soulTold 7 none [] 4 0 0 (putM M o s1) 60 [some (.ref o), some (.int p1), some (.long v), none, w4, w5, w6] [] (SoQ M o f n c s (.error e)) noX := by
  refine r_ald0 (pc := 60) dX6_soulTold_60 ?_
  refine r_ald0 (pc := 61) dX6_soulTold_61 ?_
  refine m_getR hS (pc := 62) dX6_soulTold_62 fl_X6_27 ar13 ?_
  refine r_cV (pc := 65) dX6_soulTold_65 cv_X6_309 hS.k (ct_X6_asksB (i := 0) hS hB.ne) rfl rfl (Nat.le_of_ble_eq_true rfl) (by decide) ?_
  rintro _ _ ⟨rfl, rfl⟩
  exact so68 hS hB hf hm h8
theorem sAt_push {e : So} {k : Nat} : sAt (pS T e) k = if k < (oS T).length then sAt T k else if k = (oS T).length then e else ([], 0, 0, 0) := by
  show (oS T ++ [e]).getD k _ = _
  unfold sAt
  rw [List.getD_eq_getElem?_getD, List.getD_eq_getElem?_getD]
  by_cases h : k < (oS T).length
  · rw [if_pos h, List.getElem?_append_left h]
  · rw [if_neg h, List.getElem?_append_right (by omega)]
    by_cases e1 : k = (oS T).length
    · rw [if_pos e1, e1, Nat.sub_self]; rfl
    · rw [if_neg e1]
      obtain ⟨d, hd⟩ : ∃ d, k - (oS T).length = d + 1 := ⟨k - (oS T).length - 1, by omega⟩
      rw [hd]; rfl
theorem TM.soul {nm : List Nat} {h fc kd : Nat} (hT : TM s T c) (h8 : (oS T).length < 8) : TM (tF (tA (tA (tA (tB s 41 (oS T).length (lI (nmV nm 0 : Nat))) 42 (oS T).length (nI h)) 43 (oS T).length (nI fc)) 44 (oS T).length (nI kd)) 39 (nI ((oS T).length + 1))) (pS T (nm, h, fc, kd)) c := by
  obtain ⟨t1, t2, t3, t4, t5, t6, t7⟩ := hT
  refine ⟨t1, ?_, fun k hk => ?_, t4, t5, t6, t7⟩
  · show nI ((oS T).length + 1) = nI (oS T ++ [_]).length
    rw [List.length_append]; rfl
  · have hk : k < (oS T ++ [(nm, h, fc, kd)]).length := hk
    rw [List.length_append] at hk
    have hk : k < (oS T).length + 1 := hk
    rw [sAt_push]
    by_cases e : k < (oS T).length
    · rw [if_pos e]
      have := t3 k e
      refine ⟨?_, ?_, ?_, ?_⟩
      · rw [mB_tF, mB_tA, mB_tA, mB_tA, mB_tB, if_neg (by omega)]; exact this.1
      · rw [mA_tF, mA_tA, if_neg (by omega), mA_tA, if_neg (by omega), mA_tA, if_neg (by omega), mA_tB]; exact this.2.1
      · rw [mA_tF, mA_tA, if_neg (by omega), mA_tA, if_neg (by omega), mA_tA, if_neg (by omega), mA_tB]; exact this.2.2.1
      · rw [mA_tF, mA_tA, if_neg (by omega), mA_tA, if_neg (by omega), mA_tA, if_neg (by omega), mA_tB]; exact this.2.2.2
    · obtain rfl : k = (oS T).length := by omega
      rw [if_neg e, if_pos rfl]
      refine ⟨?_, ?_, ?_, ?_⟩
      · rw [mB_tF, mB_tA, mB_tA, mB_tA, mB_tB, if_pos ⟨rfl, rfl⟩]
      · rw [mA_tF, mA_tA, if_neg (by omega), mA_tA, if_neg (by omega), mA_tA, if_pos ⟨rfl, rfl⟩]
      · rw [mA_tF, mA_tA, if_neg (by omega), mA_tA, if_pos ⟨rfl, rfl⟩]
      · rw [mA_tF, mA_tA, if_pos ⟨rfl, rfl⟩]
theorem FT.soul {v : Int64} {a1 a2 a3 a4 : Int32} {m : Nat} (h : FT s s1) (hm : m < 8) : FT s (tF (tA (tA (tA (tB s1 41 m v) 42 m a1) 43 m a2) 44 m a3) 39 a4) := by
  refine h.trans ⟨Fr.tF (Fr.tA (Fr.tA (Fr.tA (Fr.tB Fr.rf (by decide)) (by decide)) (by decide)) (by decide)) (by decide), fun j hj => ⟨?_, ?_, ?_⟩, fun j hj => ⟨rfl, rfl⟩, fun j hj => rfl⟩
  · rw [mA_tF, mA_tA, if_neg (by omega), mA_tA, if_neg (by omega), mA_tA, if_neg (by omega), mA_tB]
  · rw [mA_tF, mA_tA, if_neg (by omega), mA_tA, if_neg (by omega), mA_tA, if_neg (by omega), mA_tB]
  · rw [mB_tF, mB_tA, mB_tA, mB_tA, mB_tB, if_neg (by omega)]
/-- from 127 on: face and kindness -/
theorem soK {nm : List Nat} {h b : Nat} {p1 : Int32} {w5 w6 : Option Value} (hS : ShM g M o) (hR : RP s1 f n b) (hT : TM s1 T c) (h8 : (oS T).length < 8) (hf : FT s s1) :
    Bd g yX6_soulTold cX6_soulTold 7 none [] 4 0 0 (putM M o s1) 127 [some (.ref o), some (.int p1), some (.long (lI (nmV nm 0 : Nat))), none, some (.int (nI h)), w5, w6] [] (SoQ M o f n c s (soulK f n T nm h b)) noX := by
  unfold soulK
  have hk := ct_X6_asks hS hR ar14 (w := wFace) (by decide)
  cases h1 : kwP f n wFace b with
  | error e =>
    rw [h1] at hk
    rw [bnd_er]
    refine r_ald0 (pc := 127) dX6_soulTold_127 ?_
    refine r_ald0 (pc := 128) dX6_soulTold_128 ?_
    refine m_getR hS (pc := 129) dX6_soulTold_129 fl_X6_30 ar14 ?_
    refine r_cV (pc := 132) dX6_soulTold_132 cv_X6_309 hS.k hk rfl rfl (Nat.le_of_ble_eq_true rfl) (by decide) ?_
    rintro _ _ ⟨s2, rfl, rfl, hB, hf2⟩
    exact so135 hS hB (hf.trans (FT.of hf2 (by decide) (by decide) (by decide) (by decide)))
  | ok d =>
    rw [h1] at hk
    rw [bnd_ok]
    have hnu : ∀ {s2 : MS}, RP s2 f n d → _ := fun {s2} hR2 => ct_X6_number (s := s2) (a := d) (lo := 0) (hi := 9) hS hR2 (by decide) (by decide)
    cases h2 : numP f n 0 9 (skip f n d) with
    | error e =>
      rw [h2] at hnu
      rw [bnd_er]
      refine r_ald0 (pc := 127) dX6_soulTold_127 ?_
      refine r_ald0 (pc := 128) dX6_soulTold_128 ?_
      refine m_getR hS (pc := 129) dX6_soulTold_129 fl_X6_30 ar14 ?_
      refine r_cV (pc := 132) dX6_soulTold_132 cv_X6_309 hS.k hk rfl rfl (Nat.le_of_ble_eq_true rfl) (by decide) ?_
      rintro _ _ ⟨s2, rfl, rfl, hR2, hf2⟩
      refine r_ald0 (pc := 135) dX6_soulTold_135 ?_
      refine r_iconst (v := nI 0) (pc := 136) dX6_soulTold_136 (by decide) ?_
      refine r_bipush (v := nI 9) (pc := 137) dX6_soulTold_137 (by decide) ?_
      refine r_cV (pc := 139) dX6_soulTold_139 cv_X6_313 hS.k (hnu hR2) rfl rfl (Nat.le_of_ble_eq_true rfl) (by decide) ?_
      rintro _ _ ⟨s3, rfl, ⟨⟨v, rfl⟩, hB⟩, hf3⟩
      refine r_ist5 (pc := 142) dX6_soulTold_142 ?_
      exact so144 hS hB (hf.trans ((FT.of hf2 (by decide) (by decide) (by decide) (by decide)).trans (FT.of hf3 (by decide) (by decide) (by decide) (by decide))))
    | ok y =>
      rw [h2] at hnu
      rw [bnd_ok]
      have hk2 : ∀ {s2 : MS}, RP s2 f n y.2 → _ := fun {s2} hR2 => ct_X6_asks (s := s2) hS hR2 ar15 (w := wKind) (by decide)
      cases h3 : kwP f n wKind y.2 with
      | error e =>
        rw [h3] at hk2
        rw [bnd_er]
        refine r_ald0 (pc := 127) dX6_soulTold_127 ?_
        refine r_ald0 (pc := 128) dX6_soulTold_128 ?_
        refine m_getR hS (pc := 129) dX6_soulTold_129 fl_X6_30 ar14 ?_
        refine r_cV (pc := 132) dX6_soulTold_132 cv_X6_309 hS.k hk rfl rfl (Nat.le_of_ble_eq_true rfl) (by decide) ?_
        rintro _ _ ⟨s2, rfl, rfl, hR2, hf2⟩
        refine r_ald0 (pc := 135) dX6_soulTold_135 ?_
        refine r_iconst (v := nI 0) (pc := 136) dX6_soulTold_136 (by decide) ?_
        refine r_bipush (v := nI 9) (pc := 137) dX6_soulTold_137 (by decide) ?_
        refine r_cV (pc := 139) dX6_soulTold_139 cv_X6_313 hS.k (hnu hR2) rfl rfl (Nat.le_of_ble_eq_true rfl) (by decide) ?_
        rintro _ _ ⟨s3, rfl, ⟨rfl, hR3, -⟩, hf3⟩
        refine r_ist5 (pc := 142) dX6_soulTold_142 ?_
        refine r_ald0 (pc := 144) dX6_soulTold_144 ?_
        refine r_ald0 (pc := 145) dX6_soulTold_145 ?_
        refine m_getR hS (pc := 146) dX6_soulTold_146 fl_X6_33 ar15 ?_
        refine r_cV (pc := 149) dX6_soulTold_149 cv_X6_309 hS.k (hk2 hR3) rfl rfl (Nat.le_of_ble_eq_true rfl) (by decide) ?_
        rintro _ _ ⟨s4, rfl, rfl, hB, hf4⟩
        exact so152 hS hB (hf.trans ((FT.of hf2 (by decide) (by decide) (by decide) (by decide)).trans ((FT.of hf3 (by decide) (by decide) (by decide) (by decide)).trans (FT.of hf4 (by decide) (by decide) (by decide) (by decide)))))
      | ok d2 =>
        rw [h3] at hk2
        rw [bnd_ok]
        have hnu2 : ∀ {s2 : MS}, RP s2 f n d2 → _ := fun {s2} hR2 => ct_X6_number (s := s2) (a := d2) (lo := 0) (hi := 9) hS hR2 (by decide) (by decide)
        cases h4 : numP f n 0 9 (skip f n d2) with
        | error e =>
          rw [h4] at hnu2
          rw [bnd_er]
          refine r_ald0 (pc := 127) dX6_soulTold_127 ?_
          refine r_ald0 (pc := 128) dX6_soulTold_128 ?_
          refine m_getR hS (pc := 129) dX6_soulTold_129 fl_X6_30 ar14 ?_
          refine r_cV (pc := 132) dX6_soulTold_132 cv_X6_309 hS.k hk rfl rfl (Nat.le_of_ble_eq_true rfl) (by decide) ?_
          rintro _ _ ⟨s2, rfl, rfl, hR2, hf2⟩
          refine r_ald0 (pc := 135) dX6_soulTold_135 ?_
          refine r_iconst (v := nI 0) (pc := 136) dX6_soulTold_136 (by decide) ?_
          refine r_bipush (v := nI 9) (pc := 137) dX6_soulTold_137 (by decide) ?_
          refine r_cV (pc := 139) dX6_soulTold_139 cv_X6_313 hS.k (hnu hR2) rfl rfl (Nat.le_of_ble_eq_true rfl) (by decide) ?_
          rintro _ _ ⟨s3, rfl, ⟨rfl, hR3, -⟩, hf3⟩
          refine r_ist5 (pc := 142) dX6_soulTold_142 ?_
          refine r_ald0 (pc := 144) dX6_soulTold_144 ?_
          refine r_ald0 (pc := 145) dX6_soulTold_145 ?_
          refine m_getR hS (pc := 146) dX6_soulTold_146 fl_X6_33 ar15 ?_
          refine r_cV (pc := 149) dX6_soulTold_149 cv_X6_309 hS.k (hk2 hR3) rfl rfl (Nat.le_of_ble_eq_true rfl) (by decide) ?_
          rintro _ _ ⟨s4, rfl, rfl, hR4, hf4⟩
          refine r_ald0 (pc := 152) dX6_soulTold_152 ?_
          refine r_iconst (v := nI 0) (pc := 153) dX6_soulTold_153 (by decide) ?_
          refine r_bipush (v := nI 9) (pc := 154) dX6_soulTold_154 (by decide) ?_
          refine r_cV (pc := 156) dX6_soulTold_156 cv_X6_313 hS.k (hnu2 hR4) rfl rfl (Nat.le_of_ble_eq_true rfl) (by decide) ?_
          rintro _ _ ⟨s5, rfl, ⟨⟨v, rfl⟩, hB⟩, hf5⟩
          refine r_ist6 (pc := 159) dX6_soulTold_159 ?_
          exact so161 hS hB (hf.trans ((FT.of hf2 (by decide) (by decide) (by decide) (by decide)).trans ((FT.of hf3 (by decide) (by decide) (by decide) (by decide)).trans ((FT.of hf4 (by decide) (by decide) (by decide) (by decide)).trans (FT.of hf5 (by decide) (by decide) (by decide) (by decide))))))
        | ok z =>
          rw [h4] at hnu2
          rw [bnd_ok]
          refine r_ald0 (pc := 127) dX6_soulTold_127 ?_
          refine r_ald0 (pc := 128) dX6_soulTold_128 ?_
          refine m_getR hS (pc := 129) dX6_soulTold_129 fl_X6_30 ar14 ?_
          refine r_cV (pc := 132) dX6_soulTold_132 cv_X6_309 hS.k hk rfl rfl (Nat.le_of_ble_eq_true rfl) (by decide) ?_
          rintro _ _ ⟨s2, rfl, rfl, hR2, hf2⟩
          refine r_ald0 (pc := 135) dX6_soulTold_135 ?_
          refine r_iconst (v := nI 0) (pc := 136) dX6_soulTold_136 (by decide) ?_
          refine r_bipush (v := nI 9) (pc := 137) dX6_soulTold_137 (by decide) ?_
          refine r_cV (pc := 139) dX6_soulTold_139 cv_X6_313 hS.k (hnu hR2) rfl rfl (Nat.le_of_ble_eq_true rfl) (by decide) ?_
          rintro _ _ ⟨s3, rfl, ⟨rfl, hR3, -⟩, hf3⟩
          refine r_ist5 (pc := 142) dX6_soulTold_142 ?_
          refine r_ald0 (pc := 144) dX6_soulTold_144 ?_
          refine r_ald0 (pc := 145) dX6_soulTold_145 ?_
          refine m_getR hS (pc := 146) dX6_soulTold_146 fl_X6_33 ar15 ?_
          refine r_cV (pc := 149) dX6_soulTold_149 cv_X6_309 hS.k (hk2 hR3) rfl rfl (Nat.le_of_ble_eq_true rfl) (by decide) ?_
          rintro _ _ ⟨s4, rfl, rfl, hR4, hf4⟩
          refine r_ald0 (pc := 152) dX6_soulTold_152 ?_
          refine r_iconst (v := nI 0) (pc := 153) dX6_soulTold_153 (by decide) ?_
          refine r_bipush (v := nI 9) (pc := 154) dX6_soulTold_154 (by decide) ?_
          refine r_cV (pc := 156) dX6_soulTold_156 cv_X6_313 hS.k (hnu2 hR4) rfl rfl (Nat.le_of_ble_eq_true rfl) (by decide) ?_
          rintro _ _ ⟨s5, rfl, ⟨rfl, hR5, -⟩, hf5⟩
          have hT5 := (((hT.fr hf2 (by decide) (by decide) (by decide)).fr hf3 (by decide) (by decide) (by decide)).fr hf4 (by decide) (by decide) (by decide)).fr hf5 (by decide) (by decide) (by decide)
          have h39 := hT5.2.1
          refine r_ist6 (pc := 159) dX6_soulTold_159 ?_
          refine r_ald0 (pc := 161) dX6_soulTold_161 ?_
          refine m_getI hS (pc := 162) dX6_soulTold_162 fl_X6_237 ?_
          refine Bd.eqI hR5.2.1 ?_
          first | refine r_if_eqZ (pc := 165) (tgt := 169) dX6_soulTold_165 (by decide) (fun h165 => ?_) (fun h165 => ?_) | refine r_if_eqN (pc := 165) (tgt := 169) dX6_soulTold_165 (by decide) (by omega) (fun h165 => ?_) (fun h165 => ?_) | refine r_if_eq (pc := 165) (tgt := 169) dX6_soulTold_165 (by decide) (fun h165 => ?_) (fun h165 => ?_)
          · skip
            refine r_ald0 (pc := 169) dX6_soulTold_169 ?_
            refine m_getR hS (pc := 170) dX6_soulTold_170 fl_X6_96 ar41 ?_
            refine r_ald0 (pc := 173) dX6_soulTold_173 ?_
            refine m_getI hS (pc := 174) dX6_soulTold_174 fl_X6_298 ?_
            refine Bd.eqI h39 ?_
            refine r_lld2 (pc := 177) dX6_soulTold_177 ?_
            refine m_last hS (pc := 178) dX6_soulTold_178 ar41 (by omega) (by omega) ?_
            refine r_ald0 (pc := 179) dX6_soulTold_179 ?_
            refine m_getR hS (pc := 180) dX6_soulTold_180 fl_X6_100 ar42 ?_
            refine r_ald0 (pc := 183) dX6_soulTold_183 ?_
            refine m_getI hS (pc := 184) dX6_soulTold_184 fl_X6_298 ?_
            refine Bd.eqI (x' := nI (oS T).length) h39 ?_
            refine r_ild4 (pc := 187) dX6_soulTold_187 ?_
            refine m_iast hS (pc := 189) dX6_soulTold_189 ar42 (by omega) (by omega) ?_
            refine r_ald0 (pc := 190) dX6_soulTold_190 ?_
            refine m_getR hS (pc := 191) dX6_soulTold_191 fl_X6_103 ar43 ?_
            refine r_ald0 (pc := 194) dX6_soulTold_194 ?_
            refine m_getI hS (pc := 195) dX6_soulTold_195 fl_X6_298 ?_
            refine Bd.eqI (x' := nI (oS T).length) h39 ?_
            refine r_ild5 (pc := 198) dX6_soulTold_198 ?_
            refine m_iast hS (pc := 200) dX6_soulTold_200 ar43 (by omega) (by omega) ?_
            refine r_ald0 (pc := 201) dX6_soulTold_201 ?_
            refine m_getR hS (pc := 202) dX6_soulTold_202 fl_X6_106 ar44 ?_
            refine r_ald0 (pc := 205) dX6_soulTold_205 ?_
            refine m_getI hS (pc := 206) dX6_soulTold_206 fl_X6_298 ?_
            refine Bd.eqI (x' := nI (oS T).length) h39 ?_
            refine r_ild6 (pc := 209) dX6_soulTold_209 ?_
            refine m_iast hS (pc := 211) dX6_soulTold_211 ar44 (by omega) (by omega) ?_
            refine r_ald0 (pc := 212) dX6_soulTold_212 ?_
            refine r_dup (pc := 213) dX6_soulTold_213 rfl ?_
            refine m_getI hS (pc := 214) dX6_soulTold_214 fl_X6_298 ?_
            refine Bd.eqI (x' := nI (oS T).length) h39 ?_
            refine r_iconst (v := nI 1) (pc := 217) dX6_soulTold_217 (by decide) ?_
            first | refine r_iaddN (pc := 218) dX6_soulTold_218 ?_ | refine r_iaddJ (pc := 218) dX6_soulTold_218 ?_ | refine r_iadd (pc := 218) dX6_soulTold_218 ?_
            refine m_putI hS (pc := 219) dX6_soulTold_219 fl_X6_298 fw_X6_39 rfl rfl ?_
            refine r_vret (pc := 222) dX6_soulTold_222 ?_
            refine ⟨_, rfl, rfl, FT.soul (hf.trans ((FT.of hf2 (by decide) (by decide) (by decide) (by decide)).trans ((FT.of hf3 (by decide) (by decide) (by decide) (by decide)).trans ((FT.of hf4 (by decide) (by decide) (by decide) (by decide)).trans (FT.of hf5 (by decide) (by decide) (by decide) (by decide)))))) h8, ?_, hT5.soul h8⟩
            exact hR5.fr (fs := [39]) (gs := []) (as := [42, 43, 44]) (bs := [41]) (Fr.tF (Fr.tA (Fr.tA (Fr.tA (Fr.tB Fr.rf (by decide)) (by decide)) (by decide)) (by decide)) (by decide)) (by decide) (by decide)
          · skip
            exact absurd rfl h165
/-- the loop over homes -/
theorem soL {nm : List Nat} {h b p : Nat} {p1 : Int32} {w6 : Option Value} (hS : ShM g M o) (hR : RP s1 f n b) (hT : TM s1 T c) (hV : VT T) (h8 : (oS T).length < 8) (h10 : mF s1 10 = nI p) (hp : p ≤ 1600) (hh : h ≤ 10000) (hf : FT s s1) :
    ∀ (m k : Nat), k + m = (oS T).length → Bd g yX6_soulTold cX6_soulTold 7 none [] 4 0 0 (putM M o s1) 84 [some (.ref o), some (.int p1), some (.long (lI (nmV nm 0 : Nat))), none, some (.int (nI h)), some (.int (nI k)), w6] [] (SoQ M o f n c s (if ff (fun k => (sAt T k).2.1 == h) m k = none then soulK f n T nm h b else .error (2, p))) noX := by
  intro m
  induction m with
  | zero =>
    intro k hk
    rw [if_pos (show ff (fun k => (sAt T k).2.1 == h) 0 k = none from rfl)]
    refine r_ild5 (pc := 84) dX6_soulTold_84 ?_
    refine r_ald0 (pc := 86) dX6_soulTold_86 ?_
    refine m_getI hS (pc := 87) dX6_soulTold_87 fl_X6_298 ?_
    refine Bd.eqI hT.2.1 ?_
    first | refine r_icmp_geN (pc := 90) (tgt := 127) dX6_soulTold_90 (by decide) (by omega) (by omega) (fun h90 => ?_) (fun h90 => ?_) | refine r_icmp_ge (pc := 90) (tgt := 127) dX6_soulTold_90 (by decide) (fun h90 => ?_) (fun h90 => ?_)
    · skip
      exact soK hS hR hT h8 hf
    · skip
      exact absurd h90 (by omega)
  | succ m ih =>
    intro k hk
    have hH := (sAt_ok hV (show k < (oS T).length by omega)).2.2.2.1
    have hH9 := hV.2.1
    have hm := (hT.2.2.1 k (by omega)).2.1
    unfold ff
    by_cases e : (sAt T k).2.1 = h
    · rw [show ((sAt T k).2.1 == h) = true by rw [e]; simp]
      show Bd g yX6_soulTold cX6_soulTold 7 none [] 4 0 0 _ _ _ _ (SoQ M o f n c s (.error (2, p))) noX
      refine r_ild5 (pc := 84) dX6_soulTold_84 ?_
      refine r_ald0 (pc := 86) dX6_soulTold_86 ?_
      refine m_getI hS (pc := 87) dX6_soulTold_87 fl_X6_298 ?_
      refine Bd.eqI hT.2.1 ?_
      first | refine r_icmp_geN (pc := 90) (tgt := 127) dX6_soulTold_90 (by decide) (by omega) (by omega) (fun h90 => ?_) (fun h90 => ?_) | refine r_icmp_ge (pc := 90) (tgt := 127) dX6_soulTold_90 (by decide) (fun h90 => ?_) (fun h90 => ?_)
      · skip
        exact absurd h90 (by omega)
      · skip
        refine r_ald0 (pc := 93) dX6_soulTold_93 ?_
        refine m_getI hS (pc := 94) dX6_soulTold_94 fl_X6_237 ?_
        refine Bd.eqI hR.2.1 ?_
        first | refine r_if_neZ (pc := 97) (tgt := 121) dX6_soulTold_97 (by decide) (fun h97 => ?_) (fun h97 => ?_) | refine r_if_neN (pc := 97) (tgt := 121) dX6_soulTold_97 (by decide) (by omega) (fun h97 => ?_) (fun h97 => ?_) | refine r_if_ne (pc := 97) (tgt := 121) dX6_soulTold_97 (by decide) (fun h97 => ?_) (fun h97 => ?_)
        · skip
          exact absurd rfl h97
        · skip
          refine r_ald0 (pc := 100) dX6_soulTold_100 ?_
          refine m_getR hS (pc := 101) dX6_soulTold_101 fl_X6_100 ar42 ?_
          refine r_ild5 (pc := 104) dX6_soulTold_104 ?_
          refine m_iald hS (pc := 106) dX6_soulTold_106 ar42 (by omega) (by omega) ?_
          refine Bd.eqI hm ?_
          refine r_ild4 (pc := 107) dX6_soulTold_107 ?_
          first | refine r_icmp_neN (pc := 109) (tgt := 121) dX6_soulTold_109 (by decide) (by omega) (by omega) (fun h109 => ?_) (fun h109 => ?_) | refine r_icmp_ne (pc := 109) (tgt := 121) dX6_soulTold_109 (by decide) (fun h109 => ?_) (fun h109 => ?_)
          · skip
            exact absurd e h109
          · skip
            refine r_ald0 (pc := 112) dX6_soulTold_112 ?_
            refine r_iconst (v := nI 2) (pc := 113) dX6_soulTold_113 (by decide) ?_
            refine r_ald0 (pc := 114) dX6_soulTold_114 ?_
            refine m_getI hS (pc := 115) dX6_soulTold_115 fl_X6_277 ?_
            refine Bd.eqI h10 ?_
            refine r_cV (pc := 118) dX6_soulTold_118 cv_X6_267 hS.k (ct_X6_failP hS hR.2.1 (by decide) hp) rfl rfl (Nat.le_of_ble_eq_true rfl) (by decide) ?_
            rintro _ _ ⟨s2, rfl, rfl, hB, hf2⟩
            first | refine r_iinc5N (j := 1) (pc := 121) dX6_soulTold_121 rfl ?_ | refine r_iinc5 (pc := 121) dX6_soulTold_121 ?_
            refine r_goto (pc := 124) (tgt := 84) dX6_soulTold_124 (by decide) ?_
            exact so84 hS hB (hf.trans (FT.of hf2 (by decide) (by decide) (by decide) (by decide))) ((hf2.1 39 (by decide)).trans hT.2.1) (by omega) m (k + 1) (by omega)
    · rw [show ((sAt T k).2.1 == h) = false by simpa using e]
      refine r_ild5 (pc := 84) dX6_soulTold_84 ?_
      refine r_ald0 (pc := 86) dX6_soulTold_86 ?_
      refine m_getI hS (pc := 87) dX6_soulTold_87 fl_X6_298 ?_
      refine Bd.eqI hT.2.1 ?_
      first | refine r_icmp_geN (pc := 90) (tgt := 127) dX6_soulTold_90 (by decide) (by omega) (by omega) (fun h90 => ?_) (fun h90 => ?_) | refine r_icmp_ge (pc := 90) (tgt := 127) dX6_soulTold_90 (by decide) (fun h90 => ?_) (fun h90 => ?_)
      · skip
        exact absurd h90 (by omega)
      · skip
        refine r_ald0 (pc := 93) dX6_soulTold_93 ?_
        refine m_getI hS (pc := 94) dX6_soulTold_94 fl_X6_237 ?_
        refine Bd.eqI hR.2.1 ?_
        first | refine r_if_neZ (pc := 97) (tgt := 121) dX6_soulTold_97 (by decide) (fun h97 => ?_) (fun h97 => ?_) | refine r_if_neN (pc := 97) (tgt := 121) dX6_soulTold_97 (by decide) (by omega) (fun h97 => ?_) (fun h97 => ?_) | refine r_if_ne (pc := 97) (tgt := 121) dX6_soulTold_97 (by decide) (fun h97 => ?_) (fun h97 => ?_)
        · skip
          exact absurd rfl h97
        · skip
          refine r_ald0 (pc := 100) dX6_soulTold_100 ?_
          refine m_getR hS (pc := 101) dX6_soulTold_101 fl_X6_100 ar42 ?_
          refine r_ild5 (pc := 104) dX6_soulTold_104 ?_
          refine m_iald hS (pc := 106) dX6_soulTold_106 ar42 (by omega) (by omega) ?_
          refine Bd.eqI hm ?_
          refine r_ild4 (pc := 107) dX6_soulTold_107 ?_
          first | refine r_icmp_neN (pc := 109) (tgt := 121) dX6_soulTold_109 (by decide) (by omega) (by omega) (fun h109 => ?_) (fun h109 => ?_) | refine r_icmp_ne (pc := 109) (tgt := 121) dX6_soulTold_109 (by decide) (fun h109 => ?_) (fun h109 => ?_)
          · skip
            first | refine r_iinc5N (j := 1) (pc := 121) dX6_soulTold_121 rfl ?_ | refine r_iinc5 (pc := 121) dX6_soulTold_121 ?_
            refine r_goto (pc := 124) (tgt := 84) dX6_soulTold_124 (by decide) ?_
            exact ih (k + 1) (by omega)
          · skip
            exact absurd h109 e
/-- from 60 on: where he lives -/
theorem soH {nm : List Nat} {b : Nat} {p1 : Int32} {w4 w5 w6 : Option Value} (hS : ShM g M o) (hR : RP s1 f n b) (hT : TM s1 T c) (hV : VT T) (h8 : (oS T).length < 8) (hf : FT s s1) :
    Bd g yX6_soulTold cX6_soulTold 7 none [] 4 0 0 (putM M o s1) 60 [some (.ref o), some (.int p1), some (.long (lI (nmV nm 0 : Nat))), none, w4, w5, w6] [] (SoQ M o f n c s (soulH f n T nm b)) noX := by
  have hn := hR.1.2.2.2.1
  unfold soulH
  have hk := ct_X6_asks hS hR ar13 (w := wAt) (by decide)
  have hH2 := hV.1
  have hH9 := hV.2.1
  cases h1 : kwP f n wAt b with
  | error e =>
    rw [h1] at hk
    rw [bnd_er]
    refine r_ald0 (pc := 60) dX6_soulTold_60 ?_
    refine r_ald0 (pc := 61) dX6_soulTold_61 ?_
    refine m_getR hS (pc := 62) dX6_soulTold_62 fl_X6_27 ar13 ?_
    refine r_cV (pc := 65) dX6_soulTold_65 cv_X6_309 hS.k hk rfl rfl (Nat.le_of_ble_eq_true rfl) (by decide) ?_
    rintro _ _ ⟨s2, rfl, rfl, hB, hf2⟩
    exact so68 hS hB (hf.trans (FT.of hf2 (by decide) (by decide) (by decide) (by decide))) ((hf2.1 39 (by decide)).trans hT.2.1) (by omega)
  | ok d =>
    rw [h1] at hk
    rw [bnd_ok]
    have hdn := (kwP_ok h1).2.1
    have hsl := skip_le (f := f) hdn
    have hnu : ∀ {s2 : MS}, RP s2 f n d → _ := fun {s2} hR2 => ct_X6_number (s := s2) (a := d) (lo := 0) (hi := oH T - 1) hS hR2 (by decide) (by omega)
    cases h2 : numP f n 0 (oH T - 1) (skip f n d) with
    | error e =>
      rw [h2] at hnu
      rw [bnd_er]
      refine r_ald0 (pc := 60) dX6_soulTold_60 ?_
      refine r_ald0 (pc := 61) dX6_soulTold_61 ?_
      refine m_getR hS (pc := 62) dX6_soulTold_62 fl_X6_27 ar13 ?_
      refine r_cV (pc := 65) dX6_soulTold_65 cv_X6_309 hS.k hk rfl rfl (Nat.le_of_ble_eq_true rfl) (by decide) ?_
      rintro _ _ ⟨s2, rfl, rfl, hR2, hf2⟩
      have hT2 := hT.fr hf2 (by decide) (by decide) (by decide)
      refine r_ald0 (pc := 68) dX6_soulTold_68 ?_
      refine r_iconst (v := nI 0) (pc := 69) dX6_soulTold_69 (by decide) ?_
      refine r_ald0 (pc := 70) dX6_soulTold_70 ?_
      refine m_getI hS (pc := 71) dX6_soulTold_71 fl_X6_317 ?_
      refine Bd.eqI hT2.1 ?_
      refine r_iconst (v := nI 1) (pc := 74) dX6_soulTold_74 (by decide) ?_
      refine r_isubN (pc := 75) dX6_soulTold_75 (by omega) ?_
      refine r_cV (pc := 76) dX6_soulTold_76 cv_X6_313 hS.k (hnu hR2) rfl rfl (Nat.le_of_ble_eq_true rfl) (by decide) ?_
      rintro _ _ ⟨s3, rfl, ⟨⟨v, rfl⟩, hB⟩, hf3⟩
      refine r_ist4 (pc := 79) dX6_soulTold_79 ?_
      refine r_iconst (v := nI 0) (pc := 81) dX6_soulTold_81 (by decide) ?_
      refine r_ist5 (pc := 82) dX6_soulTold_82 ?_
      exact so84 hS hB (hf.trans ((FT.of hf2 (by decide) (by decide) (by decide) (by decide)).trans (FT.of hf3 (by decide) (by decide) (by decide) (by decide)))) ((hf3.1 39 (by decide)).trans hT2.2.1) (by omega) _ 0 (Nat.zero_add _)
    | ok y =>
      rw [h2] at hnu
      rw [bnd_ok]
      have hy := numP_ok h2
      refine r_ald0 (pc := 60) dX6_soulTold_60 ?_
      refine r_ald0 (pc := 61) dX6_soulTold_61 ?_
      refine m_getR hS (pc := 62) dX6_soulTold_62 fl_X6_27 ar13 ?_
      refine r_cV (pc := 65) dX6_soulTold_65 cv_X6_309 hS.k hk rfl rfl (Nat.le_of_ble_eq_true rfl) (by decide) ?_
      rintro _ _ ⟨s2, rfl, rfl, hR2, hf2⟩
      have hT2 := hT.fr hf2 (by decide) (by decide) (by decide)
      refine r_ald0 (pc := 68) dX6_soulTold_68 ?_
      refine r_iconst (v := nI 0) (pc := 69) dX6_soulTold_69 (by decide) ?_
      refine r_ald0 (pc := 70) dX6_soulTold_70 ?_
      refine m_getI hS (pc := 71) dX6_soulTold_71 fl_X6_317 ?_
      refine Bd.eqI hT2.1 ?_
      refine r_iconst (v := nI 1) (pc := 74) dX6_soulTold_74 (by decide) ?_
      refine r_isubN (pc := 75) dX6_soulTold_75 (by omega) ?_
      refine r_cV (pc := 76) dX6_soulTold_76 cv_X6_313 hS.k (hnu hR2) rfl rfl (Nat.le_of_ble_eq_true rfl) (by decide) ?_
      rintro _ _ ⟨s3, rfl, ⟨rfl, hR3, h10⟩, hf3⟩
      refine r_ist4 (pc := 79) dX6_soulTold_79 ?_
      refine r_iconst (v := nI 0) (pc := 81) dX6_soulTold_81 (by decide) ?_
      refine r_ist5 (pc := 82) dX6_soulTold_82 ?_
      exact soL hS hR3 (hT2.fr hf3 (by decide) (by decide) (by decide)) hV h8 h10 (by omega) (by omega) (hf.trans ((FT.of hf2 (by decide) (by decide) (by decide) (by decide)).trans (FT.of hf3 (by decide) (by decide) (by decide) (by decide)))) (oS T).length 0 (by omega)
theorem ct_X6_soulTold (hS : ShM g M o) (hR : RP s f n a) (hT : TM s T c) (hV : VT T) (hpl : pl ≤ 1600) :
    Ct g yX6_soulTold cX6_soulTold 7 none 4 0 0 [.ref o, .int (nI pl)] (putM M o s) (SoQ M o f n c s (soulP f n T pl a)) noX := by
  have hn := hR.1.2.2.2.1
  have hsl := skip_le (f := f) hR.1.2.2.1
  have h8 := hV.2.2.1
  refine Ct.of (by decide) (Nat.le_of_ble_eq_true rfl) rfl ?_
  unfold soulP
  by_cases e8 : (oS T).length = 8
  · rw [if_pos e8]
    refine r_ald0 (pc := 0) dX6_soulTold_0 ?_
    refine m_getI hS (pc := 1) dX6_soulTold_1 fl_X6_237 ?_
    refine Bd.eqI hR.2.1 ?_
    first | refine r_if_neZ (pc := 4) (tgt := 22) dX6_soulTold_4 (by decide) (fun h4 => ?_) (fun h4 => ?_) | refine r_if_neN (pc := 4) (tgt := 22) dX6_soulTold_4 (by decide) (by omega) (fun h4 => ?_) (fun h4 => ?_) | refine r_if_ne (pc := 4) (tgt := 22) dX6_soulTold_4 (by decide) (fun h4 => ?_) (fun h4 => ?_)
    · skip
      exact absurd rfl h4
    · skip
      refine r_ald0 (pc := 7) dX6_soulTold_7 ?_
      refine m_getI hS (pc := 8) dX6_soulTold_8 fl_X6_298 ?_
      refine Bd.eqI hT.2.1 ?_
      refine r_bipush (v := nI 8) (pc := 11) dX6_soulTold_11 (by decide) ?_
      first | refine r_icmp_neN (pc := 13) (tgt := 22) dX6_soulTold_13 (by decide) (by omega) (by omega) (fun h13 => ?_) (fun h13 => ?_) | refine r_icmp_ne (pc := 13) (tgt := 22) dX6_soulTold_13 (by decide) (fun h13 => ?_) (fun h13 => ?_)
      · skip
        exact absurd e8 h13
      · skip
        refine r_ald0 (pc := 16) dX6_soulTold_16 ?_
        refine r_iconst (v := nI 5) (pc := 17) dX6_soulTold_17 (by decide) ?_
        refine r_ild1 (pc := 18) dX6_soulTold_18 ?_
        refine r_cV (pc := 19) dX6_soulTold_19 cv_X6_267 hS.k (ct_X6_failP hS hR.2.1 (by decide) hpl) rfl rfl (Nat.le_of_ble_eq_true rfl) (by decide) ?_
        rintro _ _ ⟨s2, rfl, rfl, hB, hf2⟩
        refine r_ald0 (pc := 22) dX6_soulTold_22 ?_
        refine m_getI hS (pc := 23) dX6_soulTold_23 fl_X6_237 ?_
        refine r_if_eq (pc := 26) (tgt := 30) dX6_soulTold_26 (by decide) (fun h26 => ?_) (fun h26 => ?_)
        · skip
          exact absurd h26 hB.ne
        · skip
          refine r_vret (pc := 29) dX6_soulTold_29 ?_
          exact ⟨_, rfl, rfl, FT.of hf2 (by decide) (by decide) (by decide) (by decide), hB⟩
  · rw [if_neg e8]
    have hnm := ct_X6_name hS hR
    cases hy : nmP f n (skip f n a) with
    | error e =>
      rw [hy] at hnm
      rw [bnd_er]
      refine r_ald0 (pc := 0) dX6_soulTold_0 ?_
      refine m_getI hS (pc := 1) dX6_soulTold_1 fl_X6_237 ?_
      refine Bd.eqI hR.2.1 ?_
      first | refine r_if_neZ (pc := 4) (tgt := 22) dX6_soulTold_4 (by decide) (fun h4 => ?_) (fun h4 => ?_) | refine r_if_neN (pc := 4) (tgt := 22) dX6_soulTold_4 (by decide) (by omega) (fun h4 => ?_) (fun h4 => ?_) | refine r_if_ne (pc := 4) (tgt := 22) dX6_soulTold_4 (by decide) (fun h4 => ?_) (fun h4 => ?_)
      · skip
        exact absurd rfl h4
      · skip
        refine r_ald0 (pc := 7) dX6_soulTold_7 ?_
        refine m_getI hS (pc := 8) dX6_soulTold_8 fl_X6_298 ?_
        refine Bd.eqI hT.2.1 ?_
        refine r_bipush (v := nI 8) (pc := 11) dX6_soulTold_11 (by decide) ?_
        first | refine r_icmp_neN (pc := 13) (tgt := 22) dX6_soulTold_13 (by decide) (by omega) (by omega) (fun h13 => ?_) (fun h13 => ?_) | refine r_icmp_ne (pc := 13) (tgt := 22) dX6_soulTold_13 (by decide) (fun h13 => ?_) (fun h13 => ?_)
        · skip
          refine r_ald0 (pc := 22) dX6_soulTold_22 ?_
          refine m_getI hS (pc := 23) dX6_soulTold_23 fl_X6_237 ?_
          refine Bd.eqI hR.2.1 ?_
          first | refine r_if_eqZ (pc := 26) (tgt := 30) dX6_soulTold_26 (by decide) (fun h26 => ?_) (fun h26 => ?_) | refine r_if_eqN (pc := 26) (tgt := 30) dX6_soulTold_26 (by decide) (by omega) (fun h26 => ?_) (fun h26 => ?_) | refine r_if_eq (pc := 26) (tgt := 30) dX6_soulTold_26 (by decide) (fun h26 => ?_) (fun h26 => ?_)
          · skip
            refine r_ald0 (pc := 30) dX6_soulTold_30 ?_
            refine r_cV (pc := 31) dX6_soulTold_31 cv_X6_301 hS.k hnm rfl rfl (Nat.le_of_ble_eq_true rfl) (by decide) ?_
            rintro _ _ ⟨s1, rfl, ⟨rfl, hB⟩, hf1⟩
            refine r_lst2 (pc := 34) dX6_soulTold_34 ?_
            refine r_ald0 (pc := 35) dX6_soulTold_35 ?_
            refine m_getI hS (pc := 36) dX6_soulTold_36 fl_X6_237 ?_
            refine r_if_ne (pc := 39) (tgt := 60) dX6_soulTold_39 (by decide) (fun h39 => ?_) (fun h39 => ?_)
            · skip
              exact so60 hS hB (FT.of hf1 (by decide) (by decide) (by decide) (by decide)) ((hf1.1 39 (by decide)).trans hT.2.1) h8
            · skip
              exact absurd h39 hB.ne
          · skip
            exact absurd rfl h26
        · skip
          exact absurd h13 e8
    | ok y =>
      rw [hy] at hnm
      rw [bnd_ok]
      obtain ⟨y1, y2, y3, y4, y5, y6⟩ := nmP_ok hy
      have hno : ∀ {s1 : MS}, TM s1 T c → _ := fun {s1} hT1 => ct_X6_nameOf (s := s1) hS hT1 hV y3 y4
      cases hk : fndS T y.1 with
      | none =>
        rw [hk] at hno
        rw [if_pos rfl]
        refine r_ald0 (pc := 0) dX6_soulTold_0 ?_
        refine m_getI hS (pc := 1) dX6_soulTold_1 fl_X6_237 ?_
        refine Bd.eqI hR.2.1 ?_
        first | refine r_if_neZ (pc := 4) (tgt := 22) dX6_soulTold_4 (by decide) (fun h4 => ?_) (fun h4 => ?_) | refine r_if_neN (pc := 4) (tgt := 22) dX6_soulTold_4 (by decide) (by omega) (fun h4 => ?_) (fun h4 => ?_) | refine r_if_ne (pc := 4) (tgt := 22) dX6_soulTold_4 (by decide) (fun h4 => ?_) (fun h4 => ?_)
        · skip
          exact absurd rfl h4
        · skip
          refine r_ald0 (pc := 7) dX6_soulTold_7 ?_
          refine m_getI hS (pc := 8) dX6_soulTold_8 fl_X6_298 ?_
          refine Bd.eqI hT.2.1 ?_
          refine r_bipush (v := nI 8) (pc := 11) dX6_soulTold_11 (by decide) ?_
          first | refine r_icmp_neN (pc := 13) (tgt := 22) dX6_soulTold_13 (by decide) (by omega) (by omega) (fun h13 => ?_) (fun h13 => ?_) | refine r_icmp_ne (pc := 13) (tgt := 22) dX6_soulTold_13 (by decide) (fun h13 => ?_) (fun h13 => ?_)
          · skip
            refine r_ald0 (pc := 22) dX6_soulTold_22 ?_
            refine m_getI hS (pc := 23) dX6_soulTold_23 fl_X6_237 ?_
            refine Bd.eqI hR.2.1 ?_
            first | refine r_if_eqZ (pc := 26) (tgt := 30) dX6_soulTold_26 (by decide) (fun h26 => ?_) (fun h26 => ?_) | refine r_if_eqN (pc := 26) (tgt := 30) dX6_soulTold_26 (by decide) (by omega) (fun h26 => ?_) (fun h26 => ?_) | refine r_if_eq (pc := 26) (tgt := 30) dX6_soulTold_26 (by decide) (fun h26 => ?_) (fun h26 => ?_)
            · skip
              refine r_ald0 (pc := 30) dX6_soulTold_30 ?_
              refine r_cV (pc := 31) dX6_soulTold_31 cv_X6_301 hS.k hnm rfl rfl (Nat.le_of_ble_eq_true rfl) (by decide) ?_
              rintro _ _ ⟨s1, rfl, ⟨rfl, hR1, h36⟩, hf1⟩
              have hT1 := hT.fr hf1 (by decide) (by decide) (by decide)
              refine r_lst2 (pc := 34) dX6_soulTold_34 ?_
              refine r_ald0 (pc := 35) dX6_soulTold_35 ?_
              refine m_getI hS (pc := 36) dX6_soulTold_36 fl_X6_237 ?_
              refine Bd.eqI hR1.2.1 ?_
              first | refine r_if_neZ (pc := 39) (tgt := 60) dX6_soulTold_39 (by decide) (fun h39 => ?_) (fun h39 => ?_) | refine r_if_neN (pc := 39) (tgt := 60) dX6_soulTold_39 (by decide) (by omega) (fun h39 => ?_) (fun h39 => ?_) | refine r_if_ne (pc := 39) (tgt := 60) dX6_soulTold_39 (by decide) (fun h39 => ?_) (fun h39 => ?_)
              · skip
                exact absurd rfl h39
              · skip
                refine r_ald0 (pc := 42) dX6_soulTold_42 ?_
                refine r_lld2 (pc := 43) dX6_soulTold_43 ?_
                refine r_cV (pc := 44) dX6_soulTold_44 cv_X6_305 hS.k (hno hT1) rfl rfl (Nat.le_of_ble_eq_true rfl) (by decide) ?_
                rintro _ _ ⟨rfl, rfl⟩
                refine r_iconst (v := -1) (pc := 47) dX6_soulTold_47 (by decide) ?_
                refine r_icmp_eq (pc := 48) (tgt := 60) dX6_soulTold_48 (by decide) (fun h48 => ?_) (fun h48 => ?_)
                · skip
                  exact soH hS hR1 hT1 hV (by omega) (FT.of hf1 (by decide) (by decide) (by decide) (by decide))
                · skip
                  exact absurd rfl h48
            · skip
              exact absurd rfl h26
          · skip
            exact absurd h13 e8
      | some k =>
        have hkl := fndS_lt hk
        rw [hk] at hno
        rw [show oI (some k) = nI k from rfl] at hno
        rw [if_neg (by intro q; cases q)]
        refine r_ald0 (pc := 0) dX6_soulTold_0 ?_
        refine m_getI hS (pc := 1) dX6_soulTold_1 fl_X6_237 ?_
        refine Bd.eqI hR.2.1 ?_
        first | refine r_if_neZ (pc := 4) (tgt := 22) dX6_soulTold_4 (by decide) (fun h4 => ?_) (fun h4 => ?_) | refine r_if_neN (pc := 4) (tgt := 22) dX6_soulTold_4 (by decide) (by omega) (fun h4 => ?_) (fun h4 => ?_) | refine r_if_ne (pc := 4) (tgt := 22) dX6_soulTold_4 (by decide) (fun h4 => ?_) (fun h4 => ?_)
        · skip
          exact absurd rfl h4
        · skip
          refine r_ald0 (pc := 7) dX6_soulTold_7 ?_
          refine m_getI hS (pc := 8) dX6_soulTold_8 fl_X6_298 ?_
          refine Bd.eqI hT.2.1 ?_
          refine r_bipush (v := nI 8) (pc := 11) dX6_soulTold_11 (by decide) ?_
          first | refine r_icmp_neN (pc := 13) (tgt := 22) dX6_soulTold_13 (by decide) (by omega) (by omega) (fun h13 => ?_) (fun h13 => ?_) | refine r_icmp_ne (pc := 13) (tgt := 22) dX6_soulTold_13 (by decide) (fun h13 => ?_) (fun h13 => ?_)
          · skip
            refine r_ald0 (pc := 22) dX6_soulTold_22 ?_
            refine m_getI hS (pc := 23) dX6_soulTold_23 fl_X6_237 ?_
            refine Bd.eqI hR.2.1 ?_
            first | refine r_if_eqZ (pc := 26) (tgt := 30) dX6_soulTold_26 (by decide) (fun h26 => ?_) (fun h26 => ?_) | refine r_if_eqN (pc := 26) (tgt := 30) dX6_soulTold_26 (by decide) (by omega) (fun h26 => ?_) (fun h26 => ?_) | refine r_if_eq (pc := 26) (tgt := 30) dX6_soulTold_26 (by decide) (fun h26 => ?_) (fun h26 => ?_)
            · skip
              refine r_ald0 (pc := 30) dX6_soulTold_30 ?_
              refine r_cV (pc := 31) dX6_soulTold_31 cv_X6_301 hS.k hnm rfl rfl (Nat.le_of_ble_eq_true rfl) (by decide) ?_
              rintro _ _ ⟨s1, rfl, ⟨rfl, hR1, h36⟩, hf1⟩
              have hT1 := hT.fr hf1 (by decide) (by decide) (by decide)
              refine r_lst2 (pc := 34) dX6_soulTold_34 ?_
              refine r_ald0 (pc := 35) dX6_soulTold_35 ?_
              refine m_getI hS (pc := 36) dX6_soulTold_36 fl_X6_237 ?_
              refine Bd.eqI hR1.2.1 ?_
              first | refine r_if_neZ (pc := 39) (tgt := 60) dX6_soulTold_39 (by decide) (fun h39 => ?_) (fun h39 => ?_) | refine r_if_neN (pc := 39) (tgt := 60) dX6_soulTold_39 (by decide) (by omega) (fun h39 => ?_) (fun h39 => ?_) | refine r_if_ne (pc := 39) (tgt := 60) dX6_soulTold_39 (by decide) (fun h39 => ?_) (fun h39 => ?_)
              · skip
                exact absurd rfl h39
              · skip
                refine r_ald0 (pc := 42) dX6_soulTold_42 ?_
                refine r_lld2 (pc := 43) dX6_soulTold_43 ?_
                refine r_cV (pc := 44) dX6_soulTold_44 cv_X6_305 hS.k (hno hT1) rfl rfl (Nat.le_of_ble_eq_true rfl) (by decide) ?_
                rintro _ _ ⟨rfl, rfl⟩
                refine r_iconst (v := -1) (pc := 47) dX6_soulTold_47 (by decide) ?_
                refine r_icmp_eq (pc := 48) (tgt := 60) dX6_soulTold_48 (by decide) (fun h48 => ?_) (fun h48 => ?_)
                · skip
                  exact absurd h48 (nI_m1 (by omega))
                · skip
                  refine r_ald0 (pc := 51) dX6_soulTold_51 ?_
                  refine r_iconst (v := nI 3) (pc := 52) dX6_soulTold_52 (by decide) ?_
                  refine r_ald0 (pc := 53) dX6_soulTold_53 ?_
                  refine m_getI hS (pc := 54) dX6_soulTold_54 fl_X6_288 ?_
                  refine Bd.eqI h36 ?_
                  refine r_cV (pc := 57) dX6_soulTold_57 cv_X6_267 hS.k (ct_X6_failP hS hR1.2.1 (by decide) (by omega)) rfl rfl (Nat.le_of_ble_eq_true rfl) (by decide) ?_
                  rintro _ _ ⟨s2, rfl, rfl, hB, hf2⟩
                  exact so60 hS hB ((FT.of hf1 (by decide) (by decide) (by decide) (by decide)).trans (FT.of hf2 (by decide) (by decide) (by decide) (by decide))) ((hf2.1 39 (by decide)).trans hT1.2.1) h8
            · skip
              exact absurd rfl h26
          · skip
            exact absurd h13 e8
/-! thoughts -/
theorem th39 {e : Nat × Nat} {k1 k2 : Int32} {w3 : Option Value} (hS : ShM g M o) (hB : BD s1 e) (hf : FT s s1) : Bd g yX6_thinksTold cX6_thinksTold 4 none [] 5 0 0 (putM M o s1) 39 [some (.ref o), some (.int k1), some (.int k2), w3] [] (SoQ M o f n c s (.error e)) noX := by
  refine r_ald0 (pc := 39) dX6_thinksTold_39 ?_
  refine r_iconst (v := nI 0) (pc := 40) dX6_thinksTold_40 (by decide) ?_
  refine r_bipush (v := nI 9) (pc := 41) dX6_thinksTold_41 (by decide) ?_
  refine r_cV (pc := 43) dX6_thinksTold_43 cv_X6_313 hS.k (ct_X6_numberB hS hB.ne) rfl rfl (Nat.le_of_ble_eq_true rfl) (by decide) ?_
  rintro _ _ ⟨rfl, rfl⟩
  refine r_ist3 (pc := 46) dX6_thinksTold_46 ?_
  refine r_ald0 (pc := 47) dX6_thinksTold_47 ?_
  refine m_getI hS (pc := 48) dX6_thinksTold_48 fl_X6_237 ?_
  refine r_if_ne (pc := 51) (tgt := 66) dX6_thinksTold_51 (by decide) (fun h51 => ?_) (fun h51 => ?_)
  · skip
    refine r_vret (pc := 66) dX6_thinksTold_66 ?_
    exact ⟨_, rfl, rfl, hf, hB⟩
  · skip
    exact absurd h51 hB.ne
theorem th18 {e : Nat × Nat} {k1 k2 : Int32} {w3 : Option Value} (hS : ShM g M o) (hB : BD s1 e) (hf : FT s s1) : Bd g yX6_thinksTold cX6_thinksTold 4 none [] 5 0 0 (putM M o s1) 18 [some (.ref o), some (.int k1), some (.int k2), w3] [] (SoQ M o f n c s (.error e)) noX := by
  refine r_ald0 (pc := 18) dX6_thinksTold_18 ?_
  refine m_getI hS (pc := 19) dX6_thinksTold_19 fl_X6_237 ?_
  refine r_if_ne (pc := 22) (tgt := 39) dX6_thinksTold_22 (by decide) (fun h22 => ?_) (fun h22 => ?_)
  · skip
    exact th39 hS hB hf
  · skip
    exact absurd h22 hB.ne
theorem th13 {e : Nat × Nat} {k1 : Int32} {w2 w3 : Option Value} (hS : ShM g M o) (hB : BD s1 e) (hT : TM s1 T c) (hV : VT T) (hf : FT s s1) : Bd g yX6_thinksTold cX6_thinksTold 4 none [] 5 0 0 (putM M o s1) 13 [some (.ref o), some (.int k1), w2, w3] [] (SoQ M o f n c s (.error e)) noX := by
  refine r_ald0 (pc := 13) dX6_thinksTold_13 ?_
  refine r_cV (pc := 14) dX6_thinksTold_14 cv_X6_324 hS.k (ct_X6_oneOfB hS hB hT hV) rfl rfl (Nat.le_of_ble_eq_true rfl) (by decide) ?_
  rintro _ _ ⟨rfl, rfl⟩
  refine r_ist2 (pc := 17) dX6_thinksTold_17 ?_
  exact th18 hS hB hf
theorem TM.think {i j v : Nat} (hT : TM s T c) (hi : i < 8) (hj : j < 8) : TM (tA s 45 (8 * i + j) (nI v)) (pT T i j v) c := by
  obtain ⟨t1, t2, t3, t4, t5, t6, t7⟩ := hT
  refine ⟨t1, t2, t3, fun p hp r hr => ?_, t5, t6, t7⟩
  show (if 45 = 45 ∧ 8 * p + r = 8 * i + j then nI v else mA s 45 (8 * p + r)) = nI (if p = i ∧ r = j then v else oT T p r)
  by_cases e : p = i ∧ r = j
  · rw [if_pos e, if_pos (by omega)]
  · rw [if_neg e, if_neg (by omega)]; exact t4 p hp r hr
theorem ct_X6_thinksTold (hS : ShM g M o) (hR : RP s f n a) (hT : TM s T c) (hV : VT T) :
    Ct g yX6_thinksTold cX6_thinksTold 4 none 5 0 0 [.ref o] (putM M o s) (SoQ M o f n c s (thinksP f n T a)) noX := by
  have hn := hR.1.2.2.2.1
  have h8 := hV.2.2.1
  have ho1 := ct_X6_oneOf hS hR hT hV
  refine Ct.of (by decide) (Nat.le_of_ble_eq_true rfl) rfl ?_
  unfold thinksP
  cases h1 : oneP f n T a with
  | error e =>
    rw [h1] at ho1
    rw [bnd_er]
    refine r_ald0 (pc := 0) dX6_thinksTold_0 ?_
    refine r_cV (pc := 1) dX6_thinksTold_1 cv_X6_324 hS.k ho1 rfl rfl (Nat.le_of_ble_eq_true rfl) (by decide) ?_
    rintro _ _ ⟨s1, rfl, ⟨rfl, hB⟩, hf1⟩
    refine r_ist1 (pc := 4) dX6_thinksTold_4 ?_
    refine r_ald0 (pc := 5) dX6_thinksTold_5 ?_
    refine r_ald0 (pc := 6) dX6_thinksTold_6 ?_
    refine m_getR hS (pc := 7) dX6_thinksTold_7 fl_X6_39 ar17 ?_
    refine r_cV (pc := 10) dX6_thinksTold_10 cv_X6_309 hS.k (ct_X6_asksB (i := 0) hS hB.ne) rfl rfl (Nat.le_of_ble_eq_true rfl) (by decide) ?_
    rintro _ _ ⟨rfl, rfl⟩
    exact th13 hS hB (hT.fr hf1 (by decide) (by decide) (by decide)) hV (FT.of hf1 (by decide) (by decide) (by decide) (by decide))
  | ok y =>
    rw [h1] at ho1
    rw [bnd_ok]
    have hyl : y.1 < (oS T).length := by
      unfold oneP at h1
      obtain ⟨z, hz, h1⟩ := bnd_some h1
      cases hk : fndS T z.1 with
      | none => rw [hk] at h1; cases h1
      | some k => rw [hk] at h1; cases h1; exact fndS_lt hk
    have hk : ∀ {s2 : MS}, RP s2 f n y.2 → _ := fun {s2} hR2 => ct_X6_asks (s := s2) hS hR2 ar17 (w := wOf) (by decide)
    cases h2 : kwP f n wOf y.2 with
    | error e =>
      rw [h2] at hk
      rw [bnd_er]
      refine r_ald0 (pc := 0) dX6_thinksTold_0 ?_
      refine r_cV (pc := 1) dX6_thinksTold_1 cv_X6_324 hS.k ho1 rfl rfl (Nat.le_of_ble_eq_true rfl) (by decide) ?_
      rintro _ _ ⟨s1, rfl, ⟨rfl, hR1, -⟩, hf1⟩
      refine r_ist1 (pc := 4) dX6_thinksTold_4 ?_
      refine r_ald0 (pc := 5) dX6_thinksTold_5 ?_
      refine r_ald0 (pc := 6) dX6_thinksTold_6 ?_
      refine m_getR hS (pc := 7) dX6_thinksTold_7 fl_X6_39 ar17 ?_
      refine r_cV (pc := 10) dX6_thinksTold_10 cv_X6_309 hS.k (hk hR1) rfl rfl (Nat.le_of_ble_eq_true rfl) (by decide) ?_
      rintro _ _ ⟨s2, rfl, rfl, hB, hf2⟩
      exact th13 hS hB ((hT.fr hf1 (by decide) (by decide) (by decide)).fr hf2 (by decide) (by decide) (by decide)) hV ((FT.of hf1 (by decide) (by decide) (by decide) (by decide)).trans (FT.of hf2 (by decide) (by decide) (by decide) (by decide)))
    | ok b =>
      rw [h2] at hk
      rw [bnd_ok]
      have hbn := (kwP_ok h2).2.1
      have hsl := skip_le (f := f) hbn
      have ho2 : ∀ {s2 : MS}, RP s2 f n b → TM s2 T c → _ := fun {s2} hR2 hT2 => ct_X6_oneOf (s := s2) (a := b) hS hR2 hT2 hV
      cases h3 : oneP f n T b with
      | error e =>
        rw [h3] at ho2
        rw [bnd_er]
        refine r_ald0 (pc := 0) dX6_thinksTold_0 ?_
        refine r_cV (pc := 1) dX6_thinksTold_1 cv_X6_324 hS.k ho1 rfl rfl (Nat.le_of_ble_eq_true rfl) (by decide) ?_
        rintro _ _ ⟨s1, rfl, ⟨rfl, hR1, -⟩, hf1⟩
        refine r_ist1 (pc := 4) dX6_thinksTold_4 ?_
        refine r_ald0 (pc := 5) dX6_thinksTold_5 ?_
        refine r_ald0 (pc := 6) dX6_thinksTold_6 ?_
        refine m_getR hS (pc := 7) dX6_thinksTold_7 fl_X6_39 ar17 ?_
        refine r_cV (pc := 10) dX6_thinksTold_10 cv_X6_309 hS.k (hk hR1) rfl rfl (Nat.le_of_ble_eq_true rfl) (by decide) ?_
        rintro _ _ ⟨s2, rfl, rfl, hR2, hf2⟩
        refine r_ald0 (pc := 13) dX6_thinksTold_13 ?_
        refine r_cV (pc := 14) dX6_thinksTold_14 cv_X6_324 hS.k (ho2 hR2 ((hT.fr hf1 (by decide) (by decide) (by decide)).fr hf2 (by decide) (by decide) (by decide))) rfl rfl (Nat.le_of_ble_eq_true rfl) (by decide) ?_
        rintro _ _ ⟨s3, rfl, ⟨rfl, hB⟩, hf3⟩
        refine r_ist2 (pc := 17) dX6_thinksTold_17 ?_
        exact th18 hS hB ((FT.of hf1 (by decide) (by decide) (by decide) (by decide)).trans ((FT.of hf2 (by decide) (by decide) (by decide) (by decide)).trans (FT.of hf3 (by decide) (by decide) (by decide) (by decide))))
      | ok z =>
        rw [h3] at ho2
        rw [bnd_ok]
        have hzl : z.1 < (oS T).length := by
          unfold oneP at h3
          obtain ⟨w, hw, h3⟩ := bnd_some h3
          cases hk : fndS T w.1 with
          | none => rw [hk] at h3; cases h3
          | some k => rw [hk] at h3; cases h3; exact fndS_lt hk
        by_cases e : y.1 = z.1
        · rw [if_pos e]
          refine r_ald0 (pc := 0) dX6_thinksTold_0 ?_
          refine r_cV (pc := 1) dX6_thinksTold_1 cv_X6_324 hS.k ho1 rfl rfl (Nat.le_of_ble_eq_true rfl) (by decide) ?_
          rintro _ _ ⟨s1, rfl, ⟨rfl, hR1, -⟩, hf1⟩
          refine r_ist1 (pc := 4) dX6_thinksTold_4 ?_
          refine r_ald0 (pc := 5) dX6_thinksTold_5 ?_
          refine r_ald0 (pc := 6) dX6_thinksTold_6 ?_
          refine m_getR hS (pc := 7) dX6_thinksTold_7 fl_X6_39 ar17 ?_
          refine r_cV (pc := 10) dX6_thinksTold_10 cv_X6_309 hS.k (hk hR1) rfl rfl (Nat.le_of_ble_eq_true rfl) (by decide) ?_
          rintro _ _ ⟨s2, rfl, rfl, hR2, hf2⟩
          refine r_ald0 (pc := 13) dX6_thinksTold_13 ?_
          refine r_cV (pc := 14) dX6_thinksTold_14 cv_X6_324 hS.k (ho2 hR2 ((hT.fr hf1 (by decide) (by decide) (by decide)).fr hf2 (by decide) (by decide) (by decide))) rfl rfl (Nat.le_of_ble_eq_true rfl) (by decide) ?_
          rintro _ _ ⟨s3, rfl, ⟨rfl, hR3, h36⟩, hf3⟩
          refine r_ist2 (pc := 17) dX6_thinksTold_17 ?_
          refine r_ald0 (pc := 18) dX6_thinksTold_18 ?_
          refine m_getI hS (pc := 19) dX6_thinksTold_19 fl_X6_237 ?_
          refine Bd.eqI hR3.2.1 ?_
          first | refine r_if_neZ (pc := 22) (tgt := 39) dX6_thinksTold_22 (by decide) (fun h22 => ?_) (fun h22 => ?_) | refine r_if_neN (pc := 22) (tgt := 39) dX6_thinksTold_22 (by decide) (by omega) (fun h22 => ?_) (fun h22 => ?_) | refine r_if_ne (pc := 22) (tgt := 39) dX6_thinksTold_22 (by decide) (fun h22 => ?_) (fun h22 => ?_)
          · skip
            exact absurd rfl h22
          · skip
            refine r_ild1 (pc := 25) dX6_thinksTold_25 ?_
            refine r_ild2 (pc := 26) dX6_thinksTold_26 ?_
            first | refine r_icmp_neN (pc := 27) (tgt := 39) dX6_thinksTold_27 (by decide) (by omega) (by omega) (fun h27 => ?_) (fun h27 => ?_) | refine r_icmp_ne (pc := 27) (tgt := 39) dX6_thinksTold_27 (by decide) (fun h27 => ?_) (fun h27 => ?_)
            · skip
              exact absurd e h27
            · skip
              refine r_ald0 (pc := 30) dX6_thinksTold_30 ?_
              refine r_iconst (v := nI 3) (pc := 31) dX6_thinksTold_31 (by decide) ?_
              refine r_ald0 (pc := 32) dX6_thinksTold_32 ?_
              refine m_getI hS (pc := 33) dX6_thinksTold_33 fl_X6_288 ?_
              refine Bd.eqI h36 ?_
              refine r_cV (pc := 36) dX6_thinksTold_36 cv_X6_267 hS.k (ct_X6_failP hS hR3.2.1 (by decide) (by omega)) rfl rfl (Nat.le_of_ble_eq_true rfl) (by decide) ?_
              rintro _ _ ⟨s4, rfl, rfl, hB, hf4⟩
              exact th39 hS hB ((FT.of hf1 (by decide) (by decide) (by decide) (by decide)).trans ((FT.of hf2 (by decide) (by decide) (by decide) (by decide)).trans ((FT.of hf3 (by decide) (by decide) (by decide) (by decide)).trans (FT.of hf4 (by decide) (by decide) (by decide) (by decide)))))
        · rw [if_neg e]
          have hnu : ∀ {s2 : MS}, RP s2 f n z.2 → _ := fun {s2} hR2 => ct_X6_number (s := s2) (a := z.2) (lo := 0) (hi := 9) hS hR2 (by decide) (by decide)
          cases h4 : numP f n 0 9 (skip f n z.2) with
          | error e2 =>
            rw [h4] at hnu
            rw [bnd_er]
            refine r_ald0 (pc := 0) dX6_thinksTold_0 ?_
            refine r_cV (pc := 1) dX6_thinksTold_1 cv_X6_324 hS.k ho1 rfl rfl (Nat.le_of_ble_eq_true rfl) (by decide) ?_
            rintro _ _ ⟨s1, rfl, ⟨rfl, hR1, -⟩, hf1⟩
            refine r_ist1 (pc := 4) dX6_thinksTold_4 ?_
            refine r_ald0 (pc := 5) dX6_thinksTold_5 ?_
            refine r_ald0 (pc := 6) dX6_thinksTold_6 ?_
            refine m_getR hS (pc := 7) dX6_thinksTold_7 fl_X6_39 ar17 ?_
            refine r_cV (pc := 10) dX6_thinksTold_10 cv_X6_309 hS.k (hk hR1) rfl rfl (Nat.le_of_ble_eq_true rfl) (by decide) ?_
            rintro _ _ ⟨s2, rfl, rfl, hR2, hf2⟩
            refine r_ald0 (pc := 13) dX6_thinksTold_13 ?_
            refine r_cV (pc := 14) dX6_thinksTold_14 cv_X6_324 hS.k (ho2 hR2 ((hT.fr hf1 (by decide) (by decide) (by decide)).fr hf2 (by decide) (by decide) (by decide))) rfl rfl (Nat.le_of_ble_eq_true rfl) (by decide) ?_
            rintro _ _ ⟨s3, rfl, ⟨rfl, hR3, h36⟩, hf3⟩
            refine r_ist2 (pc := 17) dX6_thinksTold_17 ?_
            refine r_ald0 (pc := 18) dX6_thinksTold_18 ?_
            refine m_getI hS (pc := 19) dX6_thinksTold_19 fl_X6_237 ?_
            refine Bd.eqI hR3.2.1 ?_
            first | refine r_if_neZ (pc := 22) (tgt := 39) dX6_thinksTold_22 (by decide) (fun h22 => ?_) (fun h22 => ?_) | refine r_if_neN (pc := 22) (tgt := 39) dX6_thinksTold_22 (by decide) (by omega) (fun h22 => ?_) (fun h22 => ?_) | refine r_if_ne (pc := 22) (tgt := 39) dX6_thinksTold_22 (by decide) (fun h22 => ?_) (fun h22 => ?_)
            · skip
              exact absurd rfl h22
            · skip
              refine r_ild1 (pc := 25) dX6_thinksTold_25 ?_
              refine r_ild2 (pc := 26) dX6_thinksTold_26 ?_
              first | refine r_icmp_neN (pc := 27) (tgt := 39) dX6_thinksTold_27 (by decide) (by omega) (by omega) (fun h27 => ?_) (fun h27 => ?_) | refine r_icmp_ne (pc := 27) (tgt := 39) dX6_thinksTold_27 (by decide) (fun h27 => ?_) (fun h27 => ?_)
              · skip
                refine r_ald0 (pc := 39) dX6_thinksTold_39 ?_
                refine r_iconst (v := nI 0) (pc := 40) dX6_thinksTold_40 (by decide) ?_
                refine r_bipush (v := nI 9) (pc := 41) dX6_thinksTold_41 (by decide) ?_
                refine r_cV (pc := 43) dX6_thinksTold_43 cv_X6_313 hS.k (hnu hR3) rfl rfl (Nat.le_of_ble_eq_true rfl) (by decide) ?_
                rintro _ _ ⟨s4, rfl, ⟨⟨v, rfl⟩, hB⟩, hf4⟩
                refine r_ist3 (pc := 46) dX6_thinksTold_46 ?_
                refine r_ald0 (pc := 47) dX6_thinksTold_47 ?_
                refine m_getI hS (pc := 48) dX6_thinksTold_48 fl_X6_237 ?_
                refine r_if_ne (pc := 51) (tgt := 66) dX6_thinksTold_51 (by decide) (fun h51 => ?_) (fun h51 => ?_)
                · skip
                  refine r_vret (pc := 66) dX6_thinksTold_66 ?_
                  exact ⟨_, rfl, rfl, (FT.of hf1 (by decide) (by decide) (by decide) (by decide)).trans ((FT.of hf2 (by decide) (by decide) (by decide) (by decide)).trans ((FT.of hf3 (by decide) (by decide) (by decide) (by decide)).trans (FT.of hf4 (by decide) (by decide) (by decide) (by decide)))), hB⟩
                · skip
                  exact absurd h51 hB.ne
              · skip
                exact absurd h27 e
          | ok w =>
            rw [h4] at hnu
            rw [bnd_ok]
            refine r_ald0 (pc := 0) dX6_thinksTold_0 ?_
            refine r_cV (pc := 1) dX6_thinksTold_1 cv_X6_324 hS.k ho1 rfl rfl (Nat.le_of_ble_eq_true rfl) (by decide) ?_
            rintro _ _ ⟨s1, rfl, ⟨rfl, hR1, -⟩, hf1⟩
            refine r_ist1 (pc := 4) dX6_thinksTold_4 ?_
            refine r_ald0 (pc := 5) dX6_thinksTold_5 ?_
            refine r_ald0 (pc := 6) dX6_thinksTold_6 ?_
            refine m_getR hS (pc := 7) dX6_thinksTold_7 fl_X6_39 ar17 ?_
            refine r_cV (pc := 10) dX6_thinksTold_10 cv_X6_309 hS.k (hk hR1) rfl rfl (Nat.le_of_ble_eq_true rfl) (by decide) ?_
            rintro _ _ ⟨s2, rfl, rfl, hR2, hf2⟩
            refine r_ald0 (pc := 13) dX6_thinksTold_13 ?_
            refine r_cV (pc := 14) dX6_thinksTold_14 cv_X6_324 hS.k (ho2 hR2 ((hT.fr hf1 (by decide) (by decide) (by decide)).fr hf2 (by decide) (by decide) (by decide))) rfl rfl (Nat.le_of_ble_eq_true rfl) (by decide) ?_
            rintro _ _ ⟨s3, rfl, ⟨rfl, hR3, h36⟩, hf3⟩
            refine r_ist2 (pc := 17) dX6_thinksTold_17 ?_
            refine r_ald0 (pc := 18) dX6_thinksTold_18 ?_
            refine m_getI hS (pc := 19) dX6_thinksTold_19 fl_X6_237 ?_
            refine Bd.eqI hR3.2.1 ?_
            first | refine r_if_neZ (pc := 22) (tgt := 39) dX6_thinksTold_22 (by decide) (fun h22 => ?_) (fun h22 => ?_) | refine r_if_neN (pc := 22) (tgt := 39) dX6_thinksTold_22 (by decide) (by omega) (fun h22 => ?_) (fun h22 => ?_) | refine r_if_ne (pc := 22) (tgt := 39) dX6_thinksTold_22 (by decide) (fun h22 => ?_) (fun h22 => ?_)
            · skip
              exact absurd rfl h22
            · skip
              refine r_ild1 (pc := 25) dX6_thinksTold_25 ?_
              refine r_ild2 (pc := 26) dX6_thinksTold_26 ?_
              first | refine r_icmp_neN (pc := 27) (tgt := 39) dX6_thinksTold_27 (by decide) (by omega) (by omega) (fun h27 => ?_) (fun h27 => ?_) | refine r_icmp_ne (pc := 27) (tgt := 39) dX6_thinksTold_27 (by decide) (fun h27 => ?_) (fun h27 => ?_)
              · skip
                refine r_ald0 (pc := 39) dX6_thinksTold_39 ?_
                refine r_iconst (v := nI 0) (pc := 40) dX6_thinksTold_40 (by decide) ?_
                refine r_bipush (v := nI 9) (pc := 41) dX6_thinksTold_41 (by decide) ?_
                refine r_cV (pc := 43) dX6_thinksTold_43 cv_X6_313 hS.k (hnu hR3) rfl rfl (Nat.le_of_ble_eq_true rfl) (by decide) ?_
                rintro _ _ ⟨s4, rfl, ⟨rfl, hR4, -⟩, hf4⟩
                have hT4 := (((hT.fr hf1 (by decide) (by decide) (by decide)).fr hf2 (by decide) (by decide) (by decide)).fr hf3 (by decide) (by decide) (by decide)).fr hf4 (by decide) (by decide) (by decide)
                refine r_ist3 (pc := 46) dX6_thinksTold_46 ?_
                refine r_ald0 (pc := 47) dX6_thinksTold_47 ?_
                refine m_getI hS (pc := 48) dX6_thinksTold_48 fl_X6_237 ?_
                refine Bd.eqI hR4.2.1 ?_
                first | refine r_if_neZ (pc := 51) (tgt := 66) dX6_thinksTold_51 (by decide) (fun h51 => ?_) (fun h51 => ?_) | refine r_if_neN (pc := 51) (tgt := 66) dX6_thinksTold_51 (by decide) (by omega) (fun h51 => ?_) (fun h51 => ?_) | refine r_if_ne (pc := 51) (tgt := 66) dX6_thinksTold_51 (by decide) (fun h51 => ?_) (fun h51 => ?_)
                · skip
                  exact absurd rfl h51
                · skip
                  refine r_ald0 (pc := 54) dX6_thinksTold_54 ?_
                  refine m_getR hS (pc := 55) dX6_thinksTold_55 fl_X6_109 ar45 ?_
                  refine r_bipush (v := nI 8) (pc := 58) dX6_thinksTold_58 (by decide) ?_
                  refine r_ild1 (pc := 60) dX6_thinksTold_60 ?_
                  first | refine r_imulN (pc := 61) dX6_thinksTold_61 ?_ | refine r_imulJ (pc := 61) dX6_thinksTold_61 ?_ | refine r_imul (pc := 61) dX6_thinksTold_61 ?_
                  refine r_ild2 (pc := 62) dX6_thinksTold_62 ?_
                  first | refine r_iaddN (pc := 63) dX6_thinksTold_63 ?_ | refine r_iaddJ (pc := 63) dX6_thinksTold_63 ?_ | refine r_iadd (pc := 63) dX6_thinksTold_63 ?_
                  refine r_ild3 (pc := 64) dX6_thinksTold_64 ?_
                  refine m_iast hS (pc := 65) dX6_thinksTold_65 ar45 (by omega) (by omega) ?_
                  refine r_vret (pc := 66) dX6_thinksTold_66 ?_
                  refine ⟨_, rfl, rfl, (FT.of hf1 (by decide) (by decide) (by decide) (by decide)).trans ((FT.of hf2 (by decide) (by decide) (by decide) (by decide)).trans ((FT.of hf3 (by decide) (by decide) (by decide) (by decide)).trans ((FT.of hf4 (by decide) (by decide) (by decide) (by decide)).trans (FT.of (fs := []) (gs := []) (as := [45]) (bs := []) (Fr.tA Fr.rf (by decide)) (by decide) (by decide) (by decide) (by decide))))), ?_, hT4.think (by omega) (by omega)⟩
                  exact hR4.fr (fs := []) (gs := []) (as := [45]) (bs := []) (Fr.tA Fr.rf (by decide)) (by decide) (by decide)
              · skip
                exact absurd h27 e
end M39
