set_option maxRecDepth 100000
/-! THE MODEL: what is told stands -/
section M42
variable {g : GC} {M : MM} {o : Nat} {s s0 s' s1 s2 sB : MS} {M1 : MM} {q : Sg} {f : Nat → Nat} {n a x c pl w : Nat} {T : To} {Q : Option Value → MM → Prop}
theorem ne41 {i j : Nat} {v : Int64} {b : Nat} (h : b ≠ j) : mB (tB s i j v) i b = mB s i b := by rw [mB_tB, if_neg (fun q => h q.2)]
def sI1 (s s1 : MS) (i : Nat) : Prop := (∀ j, j < i → mB s1 41 (8 + j) = mB s 41 j ∧ mA s1 43 (8 + j) = mA s 43 j ∧ mA s1 44 (8 + j) = mA s 44 j) ∧ (∀ j, j < 8 → mB s1 41 j = mB s 41 j ∧ mA s1 43 j = mA s 43 j ∧ mA s1 44 j = mA s 44 j) ∧ Fr [] [] [43, 44] [41] s s1
theorem stL1 (hS : ShM g M o) (hk : ∀ s2 w1, sI1 s s2 8 → Bd g yX6_stands cX6_stands 2 none [] 0 0 0 (putM M o s2) 88 [some (.ref o), w1] [] Q noX) :
    ∀ (m i : Nat) (s1 : MS), i + m = 8 → sI1 s s1 i → Bd g yX6_stands cX6_stands 2 none [] 0 0 0 (putM M o s1) 31 [some (.ref o), some (.int (nI i))] [] Q noX := by
  intro m
  induction m with
  | zero =>
    intro i s1 hi h
    have hi : i = 8 := hi
    subst hi
    refine r_ild1 (pc := 31) dX6_stands_31 ?_
    refine r_bipush (v := nI 8) (pc := 32) dX6_stands_32 (by decide) ?_
    first | refine r_icmp_geN (pc := 34) (tgt := 88) dX6_stands_34 (by decide) (by omega) (by omega) (fun h34 => ?_) (fun h34 => ?_) | refine r_icmp_ge (pc := 34) (tgt := 88) dX6_stands_34 (by decide) (fun h34 => ?_) (fun h34 => ?_)
    · skip
      exact hk s1 _ h
    · skip
      exact absurd h34 (by omega)
  | succ m ih =>
    intro i s1 hi h
    obtain ⟨h1, h2, h3⟩ := h
    have hl := h2 i (by omega)
    have E1 : ∀ b, mB (tA (tA (tB s1 41 (8 + i) (mB s 41 i)) 43 (8 + i) (mA s 43 i)) 44 (8 + i) (mA s 44 i)) 41 b = if b = 8 + i then mB s 41 i else mB s1 41 b := fun b => by
      rw [mB_tA, mB_tA, mB_tB]
      by_cases e : b = 8 + i
      · rw [if_pos ⟨rfl, e⟩, if_pos e]
      · rw [if_neg (fun q => e q.2), if_neg e]
    have E3 : ∀ b, mA (tA (tA (tB s1 41 (8 + i) (mB s 41 i)) 43 (8 + i) (mA s 43 i)) 44 (8 + i) (mA s 44 i)) 43 b = if b = 8 + i then mA s 43 i else mA s1 43 b := fun b => by
      rw [mA_tA, if_neg (fun q => absurd q.1 (by decide)), mA_tA, mA_tB]
      by_cases e : b = 8 + i
      · rw [if_pos ⟨rfl, e⟩, if_pos e]
      · rw [if_neg (fun q => e q.2), if_neg e]
    have E4 : ∀ b, mA (tA (tA (tB s1 41 (8 + i) (mB s 41 i)) 43 (8 + i) (mA s 43 i)) 44 (8 + i) (mA s 44 i)) 44 b = if b = 8 + i then mA s 44 i else mA s1 44 b := fun b => by
      have e9 : mA (tA (tB s1 41 (8 + i) (mB s 41 i)) 43 (8 + i) (mA s 43 i)) 44 b = mA s1 44 b := by rw [mA_tA, if_neg (fun q => absurd q.1 (by decide)), mA_tB]
      rw [mA_tA, e9]
      by_cases e : b = 8 + i
      · rw [if_pos ⟨rfl, e⟩, if_pos e]
      · rw [if_neg (fun q => e q.2), if_neg e]
    have hih := ih (i + 1) (tA (tA (tB s1 41 (8 + i) (mB s 41 i)) 43 (8 + i) (mA s 43 i)) 44 (8 + i) (mA s 44 i)) (by omega) ⟨fun j hj => ?_, fun j hj => ?_, Fr.tA (Fr.tA (Fr.tB h3 (by decide)) (by decide)) (by decide)⟩
    · skip
      refine r_ild1 (pc := 31) dX6_stands_31 ?_
      refine r_bipush (v := nI 8) (pc := 32) dX6_stands_32 (by decide) ?_
      first | refine r_icmp_geN (pc := 34) (tgt := 88) dX6_stands_34 (by decide) (by omega) (by omega) (fun h34 => ?_) (fun h34 => ?_) | refine r_icmp_ge (pc := 34) (tgt := 88) dX6_stands_34 (by decide) (fun h34 => ?_) (fun h34 => ?_)
      · skip
        exact absurd h34 (by omega)
      · skip
        refine r_ald0 (pc := 37) dX6_stands_37 ?_
        refine m_getR hS (pc := 38) dX6_stands_38 fl_X6_96 ar41 ?_
        refine r_bipush (v := nI 8) (pc := 41) dX6_stands_41 (by decide) ?_
        refine r_ild1 (pc := 43) dX6_stands_43 ?_
        first | refine r_iaddN (pc := 44) dX6_stands_44 ?_ | refine r_iaddJ (pc := 44) dX6_stands_44 ?_ | refine r_iadd (pc := 44) dX6_stands_44 ?_
        refine r_ald0 (pc := 45) dX6_stands_45 ?_
        refine m_getR hS (pc := 46) dX6_stands_46 fl_X6_96 ar41 ?_
        refine r_ild1 (pc := 49) dX6_stands_49 ?_
        refine m_lald hS (pc := 50) dX6_stands_50 ar41 (by omega) (by omega) ?_
        refine Bd.eqL hl.1 ?_
        refine m_last hS (pc := 51) dX6_stands_51 ar41 (by omega) (by omega) ?_
        refine r_ald0 (pc := 52) dX6_stands_52 ?_
        refine m_getR hS (pc := 53) dX6_stands_53 fl_X6_103 ar43 ?_
        refine r_bipush (v := nI 8) (pc := 56) dX6_stands_56 (by decide) ?_
        refine r_ild1 (pc := 58) dX6_stands_58 ?_
        first | refine r_iaddN (pc := 59) dX6_stands_59 ?_ | refine r_iaddJ (pc := 59) dX6_stands_59 ?_ | refine r_iadd (pc := 59) dX6_stands_59 ?_
        refine r_ald0 (pc := 60) dX6_stands_60 ?_
        refine m_getR hS (pc := 61) dX6_stands_61 fl_X6_103 ar43 ?_
        refine r_ild1 (pc := 64) dX6_stands_64 ?_
        refine m_iald hS (pc := 65) dX6_stands_65 ar43 (by omega) (by omega) ?_
        refine Bd.eqI (x' := mA s 43 i) hl.2.1 ?_
        refine m_iast hS (pc := 66) dX6_stands_66 ar43 (by omega) (by omega) ?_
        refine r_ald0 (pc := 67) dX6_stands_67 ?_
        refine m_getR hS (pc := 68) dX6_stands_68 fl_X6_106 ar44 ?_
        refine r_bipush (v := nI 8) (pc := 71) dX6_stands_71 (by decide) ?_
        refine r_ild1 (pc := 73) dX6_stands_73 ?_
        first | refine r_iaddN (pc := 74) dX6_stands_74 ?_ | refine r_iaddJ (pc := 74) dX6_stands_74 ?_ | refine r_iadd (pc := 74) dX6_stands_74 ?_
        refine r_ald0 (pc := 75) dX6_stands_75 ?_
        refine m_getR hS (pc := 76) dX6_stands_76 fl_X6_106 ar44 ?_
        refine r_ild1 (pc := 79) dX6_stands_79 ?_
        refine m_iald hS (pc := 80) dX6_stands_80 ar44 (by omega) (by omega) ?_
        refine Bd.eqI (x' := mA s 44 i) (by rw [mA_tA, if_neg (fun q => absurd q.1 (by decide)), mA_tB]; exact hl.2.2) ?_
        refine m_iast hS (pc := 81) dX6_stands_81 ar44 (by omega) (by omega) ?_
        first | refine r_iinc1N (j := 1) (pc := 82) dX6_stands_82 rfl ?_ | refine r_iinc1 (pc := 82) dX6_stands_82 ?_
        refine r_goto (pc := 85) (tgt := 31) dX6_stands_85 (by decide) ?_
        exact hih
    · rw [E1, E3, E4]
      by_cases e : j = i
      · subst e
        rw [if_pos rfl, if_pos rfl, if_pos rfl]
        exact ⟨rfl, rfl, rfl⟩
      · have := h1 j (by omega)
        rw [if_neg (by omega), if_neg (by omega), if_neg (by omega)]
        exact this
    · rw [E1, E3, E4, if_neg (by omega), if_neg (by omega), if_neg (by omega)]
      exact h2 j hj
def sI2 (s s1 : MS) (i : Nat) : Prop := (∀ j, j < i → mA s1 48 (3 + j) = mA s 48 j ∧ mA s1 49 (3 + j) = mA s 49 j) ∧ (∀ j, j < 3 → mA s1 48 j = mA s 48 j ∧ mA s1 49 j = mA s 49 j) ∧ Fr [] [] [48, 49] [] s s1
theorem stL2 (hS : ShM g M o) (hk : ∀ s2 w1, sI2 s s2 3 → Bd g yX6_stands cX6_stands 2 none [] 0 0 0 (putM M o s2) 129 [some (.ref o), w1] [] Q noX) :
    ∀ (m i : Nat) (s1 : MS), i + m = 3 → sI2 s s1 i → Bd g yX6_stands cX6_stands 2 none [] 0 0 0 (putM M o s1) 90 [some (.ref o), some (.int (nI i))] [] Q noX := by
  intro m
  induction m with
  | zero =>
    intro i s1 hi h
    have hi : i = 3 := hi
    subst hi
    refine r_ild1 (pc := 90) dX6_stands_90 ?_
    refine r_iconst (v := nI 3) (pc := 91) dX6_stands_91 (by decide) ?_
    first | refine r_icmp_geN (pc := 92) (tgt := 129) dX6_stands_92 (by decide) (by omega) (by omega) (fun h92 => ?_) (fun h92 => ?_) | refine r_icmp_ge (pc := 92) (tgt := 129) dX6_stands_92 (by decide) (fun h92 => ?_) (fun h92 => ?_)
    · skip
      exact hk s1 _ h
    · skip
      exact absurd h92 (by omega)
  | succ m ih =>
    intro i s1 hi h
    obtain ⟨h1, h2, h3⟩ := h
    have hl := h2 i (by omega)
    have hih := ih (i + 1) (tA (tA s1 48 (3 + i) (mA s 48 i)) 49 (3 + i) (mA s 49 i)) (by omega) ⟨fun j hj => ?_, fun j hj => ?_, Fr.tA (Fr.tA h3 (by decide)) (by decide)⟩
    · skip
      refine r_ild1 (pc := 90) dX6_stands_90 ?_
      refine r_iconst (v := nI 3) (pc := 91) dX6_stands_91 (by decide) ?_
      first | refine r_icmp_geN (pc := 92) (tgt := 129) dX6_stands_92 (by decide) (by omega) (by omega) (fun h92 => ?_) (fun h92 => ?_) | refine r_icmp_ge (pc := 92) (tgt := 129) dX6_stands_92 (by decide) (fun h92 => ?_) (fun h92 => ?_)
      · skip
        exact absurd h92 (by omega)
      · skip
        refine r_ald0 (pc := 95) dX6_stands_95 ?_
        refine m_getR hS (pc := 96) dX6_stands_96 fl_X6_112 ar48 ?_
        refine r_iconst (v := nI 3) (pc := 99) dX6_stands_99 (by decide) ?_
        refine r_ild1 (pc := 100) dX6_stands_100 ?_
        first | refine r_iaddN (pc := 101) dX6_stands_101 ?_ | refine r_iaddJ (pc := 101) dX6_stands_101 ?_ | refine r_iadd (pc := 101) dX6_stands_101 ?_
        refine r_ald0 (pc := 102) dX6_stands_102 ?_
        refine m_getR hS (pc := 103) dX6_stands_103 fl_X6_112 ar48 ?_
        refine r_ild1 (pc := 106) dX6_stands_106 ?_
        refine m_iald hS (pc := 107) dX6_stands_107 ar48 (by omega) (by omega) ?_
        refine Bd.eqI hl.1 ?_
        refine m_iast hS (pc := 108) dX6_stands_108 ar48 (by omega) (by omega) ?_
        refine r_ald0 (pc := 109) dX6_stands_109 ?_
        refine m_getR hS (pc := 110) dX6_stands_110 fl_X6_115 ar49 ?_
        refine r_iconst (v := nI 3) (pc := 113) dX6_stands_113 (by decide) ?_
        refine r_ild1 (pc := 114) dX6_stands_114 ?_
        first | refine r_iaddN (pc := 115) dX6_stands_115 ?_ | refine r_iaddJ (pc := 115) dX6_stands_115 ?_ | refine r_iadd (pc := 115) dX6_stands_115 ?_
        refine r_ald0 (pc := 116) dX6_stands_116 ?_
        refine m_getR hS (pc := 117) dX6_stands_117 fl_X6_115 ar49 ?_
        refine r_ild1 (pc := 120) dX6_stands_120 ?_
        refine m_iald hS (pc := 121) dX6_stands_121 ar49 (by omega) (by omega) ?_
        refine Bd.eqI (x' := mA s 49 i) (by rw [mA_tA, if_neg (fun q => absurd q.1 (by decide))]; exact hl.2) ?_
        refine m_iast hS (pc := 122) dX6_stands_122 ar49 (by omega) (by omega) ?_
        first | refine r_iinc1N (j := 1) (pc := 123) dX6_stands_123 rfl ?_ | refine r_iinc1 (pc := 123) dX6_stands_123 ?_
        refine r_goto (pc := 126) (tgt := 90) dX6_stands_126 (by decide) ?_
        exact hih
    · rw [mA_tA, if_neg (fun q => absurd q.1 (by decide)), mA_tA, mA_tA, mA_tA, if_neg (c := 49 = 48 ∧ _) (fun q => absurd q.1 (by decide))]
      by_cases e : j = i
      · subst e
        rw [if_pos ⟨rfl, rfl⟩, if_pos ⟨rfl, rfl⟩]
        exact ⟨rfl, rfl⟩
      · have := h1 j (by omega)
        rw [if_neg (by omega), if_neg (by omega)]
        exact this
    · rw [mA_tA, if_neg (fun q => absurd q.1 (by decide)), mA_tA, mA_tA, mA_tA, if_neg (c := 49 = 48 ∧ _) (fun q => absurd q.1 (by decide)), if_neg (by omega), if_neg (by omega)]
      exact h2 j hj
theorem stL3 (hS : ShM g M o) (hc : c ≤ 1600) (h51 : mF s 51 = nI c) (hk : ∀ s2 w1, (∀ j, j < c → mA s2 50 (1600 + j) = mA s 50 j) → Fr [] [] [50] [] s s2 → Bd g yX6_stands cX6_stands 2 none [] 0 0 0 (putM M o s2) 161 [some (.ref o), w1] [] Q noX) :
    ∀ (m i : Nat) (s1 : MS), i + m = c → (∀ j, j < i → mA s1 50 (1600 + j) = mA s 50 j) → (∀ j, j < 1600 → mA s1 50 j = mA s 50 j) → Fr [] [] [50] [] s s1 → Bd g yX6_stands cX6_stands 2 none [] 0 0 0 (putM M o s1) 131 [some (.ref o), some (.int (nI i))] [] Q noX := by
  intro m
  induction m with
  | zero =>
    intro i s1 hi h1 h2 h3
    have hi : i = c := hi
    subst hi
    refine r_ild1 (pc := 131) dX6_stands_131 ?_
    refine r_ald0 (pc := 132) dX6_stands_132 ?_
    refine m_getI hS (pc := 133) dX6_stands_133 fl_X6_345 ?_
    refine Bd.eqI ((h3.1 51 (by decide)).trans h51) ?_
    first | refine r_icmp_geN (pc := 136) (tgt := 161) dX6_stands_136 (by decide) (by omega) (by omega) (fun h136 => ?_) (fun h136 => ?_) | refine r_icmp_ge (pc := 136) (tgt := 161) dX6_stands_136 (by decide) (fun h136 => ?_) (fun h136 => ?_)
    · skip
      exact hk s1 _ h1 h3
    · skip
      exact absurd h136 (by omega)
  | succ m ih =>
    intro i s1 hi h1 h2 h3
    have hih := ih (i + 1) (tA s1 50 (1600 + i) (mA s 50 i)) (by omega) (fun j hj => by
      rw [mA_tA]
      by_cases e : j = i
      · subst e; rw [if_pos ⟨rfl, rfl⟩]
      · rw [if_neg (by omega)]; exact h1 j (by omega)) (fun j hj => by rw [mA_tA, if_neg (by omega)]; exact h2 j hj) (Fr.tA h3 (by decide))
    refine r_ild1 (pc := 131) dX6_stands_131 ?_
    refine r_ald0 (pc := 132) dX6_stands_132 ?_
    refine m_getI hS (pc := 133) dX6_stands_133 fl_X6_345 ?_
    refine Bd.eqI ((h3.1 51 (by decide)).trans h51) ?_
    first | refine r_icmp_geN (pc := 136) (tgt := 161) dX6_stands_136 (by decide) (by omega) (by omega) (fun h136 => ?_) (fun h136 => ?_) | refine r_icmp_ge (pc := 136) (tgt := 161) dX6_stands_136 (by decide) (fun h136 => ?_) (fun h136 => ?_)
    · skip
      exact absurd h136 (by omega)
    · skip
      refine r_ald0 (pc := 139) dX6_stands_139 ?_
      refine m_getR hS (pc := 140) dX6_stands_140 fl_X6_118 ar50 ?_
      refine r_sipush (v := nI 1600) (pc := 143) dX6_stands_143 (by decide) ?_
      refine r_ild1 (pc := 146) dX6_stands_146 ?_
      first | refine r_iaddN (pc := 147) dX6_stands_147 ?_ | refine r_iaddJ (pc := 147) dX6_stands_147 ?_ | refine r_iadd (pc := 147) dX6_stands_147 ?_
      refine r_ald0 (pc := 148) dX6_stands_148 ?_
      refine m_getR hS (pc := 149) dX6_stands_149 fl_X6_118 ar50 ?_
      refine r_ild1 (pc := 152) dX6_stands_152 ?_
      refine m_iald hS (pc := 153) dX6_stands_153 ar50 (by omega) (by omega) ?_
      refine Bd.eqI (h2 i (by omega)) ?_
      refine m_iast hS (pc := 154) dX6_stands_154 ar50 (by omega) (by omega) ?_
      first | refine r_iinc1N (j := 1) (pc := 155) dX6_stands_155 rfl ?_ | refine r_iinc1 (pc := 155) dX6_stands_155 ?_
      refine r_goto (pc := 158) (tgt := 131) dX6_stands_158 (by decide) ?_
      exact hih
theorem stL4 (hS : ShM g M o) (hk : ∀ s2 w1, (∀ j, j < 210 → mA s2 55 j = nI 0) → Fr [] [] [55] [] s s2 → Bd g yX6_stands cX6_stands 2 none [] 0 0 0 (putM M o s2) 183 [some (.ref o), w1] [] Q noX) :
    ∀ (m i : Nat) (s1 : MS), i + m = 210 → (∀ j, j < i → mA s1 55 j = nI 0) → Fr [] [] [55] [] s s1 → Bd g yX6_stands cX6_stands 2 none [] 0 0 0 (putM M o s1) 163 [some (.ref o), some (.int (nI i))] [] Q noX := by
  intro m
  induction m with
  | zero =>
    intro i s1 hi h1 h3
    have hi : i = 210 := hi
    subst hi
    refine r_ild1 (pc := 163) dX6_stands_163 ?_
    refine r_sipush (v := nI 210) (pc := 164) dX6_stands_164 (by decide) ?_
    first | refine r_icmp_geN (pc := 167) (tgt := 183) dX6_stands_167 (by decide) (by omega) (by omega) (fun h167 => ?_) (fun h167 => ?_) | refine r_icmp_ge (pc := 167) (tgt := 183) dX6_stands_167 (by decide) (fun h167 => ?_) (fun h167 => ?_)
    · skip
      exact hk s1 _ h1 h3
    · skip
      exact absurd h167 (by omega)
  | succ m ih =>
    intro i s1 hi h1 h3
    have hih := ih (i + 1) (tA s1 55 i (nI 0)) (by omega) (fun j hj => by
      rw [mA_tA]
      by_cases e : j = i
      · rw [if_pos ⟨rfl, e⟩]
      · rw [if_neg (fun q => e q.2)]; exact h1 j (by omega)) (Fr.tA h3 (by decide))
    refine r_ild1 (pc := 163) dX6_stands_163 ?_
    refine r_sipush (v := nI 210) (pc := 164) dX6_stands_164 (by decide) ?_
    first | refine r_icmp_geN (pc := 167) (tgt := 183) dX6_stands_167 (by decide) (by omega) (by omega) (fun h167 => ?_) (fun h167 => ?_) | refine r_icmp_ge (pc := 167) (tgt := 183) dX6_stands_167 (by decide) (fun h167 => ?_) (fun h167 => ?_)
    · skip
      exact absurd h167 (by omega)
    · skip
      refine r_ald0 (pc := 170) dX6_stands_170 ?_
      refine m_getR hS (pc := 171) dX6_stands_171 fl_X6_121 ar55 ?_
      refine r_ild1 (pc := 174) dX6_stands_174 ?_
      refine r_iconst (v := nI 0) (pc := 175) dX6_stands_175 (by decide) ?_
      refine m_iast hS (pc := 176) dX6_stands_176 ar55 (by omega) (by omega) ?_
      first | refine r_iinc1N (j := 1) (pc := 177) dX6_stands_177 rfl ?_ | refine r_iinc1 (pc := 177) dX6_stands_177 ?_
      refine r_goto (pc := 180) (tgt := 163) dX6_stands_180 (by decide) ?_
      exact hih
theorem stL5 {m0 : Nat} {hm fc : Nat → Nat} (hS : ShM g M o) (h8 : m0 ≤ 8) (h40 : mF s 40 = nI m0) (hh : ∀ p, p < m0 → mA s 42 p = nI (hm p)) (hf0 : ∀ p, p < m0 → mA s 43 p = nI (fc p)) (h0 : ∀ j, j < 210 → mA s 55 j = nI 0)
    (hk : ∀ s2 w1, (∀ p, p < m0 → mA s2 55 (1 + 3 * p) = nI (hm p) ∧ mA s2 55 (2 + 3 * p) = nI (10 * fc p) ∧ mA s2 55 (3 + 3 * p) = nI 0) → mA s2 55 0 = nI 0 → mA s2 55 89 = nI 0 → Fr [] [] [55] [] s s2 → Bd g yX6_stands cX6_stands 2 none [] 0 0 0 (putM M o s2) 234 [some (.ref o), w1] [] Q noX) :
    ∀ (m i : Nat) (s1 : MS), i + m = m0 → (∀ p, p < i → mA s1 55 (1 + 3 * p) = nI (hm p) ∧ mA s1 55 (2 + 3 * p) = nI (10 * fc p) ∧ mA s1 55 (3 + 3 * p) = nI 0) → (∀ j, j < 210 → j = 0 ∨ 3 * i < j → mA s1 55 j = nI 0) → Fr [] [] [55] [] s s1 → Bd g yX6_stands cX6_stands 2 none [] 0 0 0 (putM M o s1) 185 [some (.ref o), some (.int (nI i))] [] Q noX := by
  intro m
  induction m with
  | zero =>
    intro i s1 hi h1 h2 h3
    have hi : i = m0 := hi
    subst hi
    refine r_ild1 (pc := 185) dX6_stands_185 ?_
    refine r_ald0 (pc := 186) dX6_stands_186 ?_
    refine m_getI hS (pc := 187) dX6_stands_187 fl_X6_382 ?_
    refine Bd.eqI ((h3.1 40 (by decide)).trans h40) ?_
    first | refine r_icmp_geN (pc := 190) (tgt := 234) dX6_stands_190 (by decide) (by omega) (by omega) (fun h190 => ?_) (fun h190 => ?_) | refine r_icmp_ge (pc := 190) (tgt := 234) dX6_stands_190 (by decide) (fun h190 => ?_) (fun h190 => ?_)
    · skip
      exact hk s1 _ h1 (h2 0 (by decide) (Or.inl rfl)) (h2 89 (by decide) (Or.inr (by omega))) h3
    · skip
      exact absurd h190 (by omega)
  | succ m ih =>
    intro i s1 hi h1 h2 h3
    have hih := ih (i + 1) (tA (tA s1 55 (1 + 3 * i) (nI (hm i))) 55 (2 + 3 * i) (nI (10 * fc i))) (by omega) (fun p hp => by
      have e3 : mA (tA (tA s1 55 (1 + 3 * i) (nI (hm i))) 55 (2 + 3 * i) (nI (10 * fc i))) 55 (3 + 3 * p) = mA s1 55 (3 + 3 * p) := by rw [mA_tA, if_neg (by omega), mA_tA, if_neg (by omega)]
      by_cases e : p = i
      · subst e
        refine ⟨?_, ?_, ?_⟩
        · rw [mA_tA, if_neg (by omega), mA_tA, if_pos ⟨rfl, rfl⟩]
        · rw [mA_tA, if_pos ⟨rfl, rfl⟩]
        · rw [e3]; exact h2 _ (by omega) (Or.inr (by omega))
      · have := h1 p (by omega)
        refine ⟨?_, ?_, ?_⟩
        · rw [mA_tA, if_neg (by omega), mA_tA, if_neg (by omega)]; exact this.1
        · rw [mA_tA, if_neg (by omega), mA_tA, if_neg (by omega)]; exact this.2.1
        · rw [e3]; exact this.2.2) (fun j hj hj2 => by rw [mA_tA, if_neg (by omega), mA_tA, if_neg (by omega)]; exact h2 j hj (by omega)) (Fr.tA (Fr.tA h3 (by decide)) (by decide))
    refine r_ild1 (pc := 185) dX6_stands_185 ?_
    refine r_ald0 (pc := 186) dX6_stands_186 ?_
    refine m_getI hS (pc := 187) dX6_stands_187 fl_X6_382 ?_
    refine Bd.eqI ((h3.1 40 (by decide)).trans h40) ?_
    first | refine r_icmp_geN (pc := 190) (tgt := 234) dX6_stands_190 (by decide) (by omega) (by omega) (fun h190 => ?_) (fun h190 => ?_) | refine r_icmp_ge (pc := 190) (tgt := 234) dX6_stands_190 (by decide) (fun h190 => ?_) (fun h190 => ?_)
    · skip
      exact absurd h190 (by omega)
    · skip
      refine r_ald0 (pc := 193) dX6_stands_193 ?_
      refine m_getR hS (pc := 194) dX6_stands_194 fl_X6_121 ar55 ?_
      refine r_iconst (v := nI 1) (pc := 197) dX6_stands_197 (by decide) ?_
      refine r_iconst (v := nI 3) (pc := 198) dX6_stands_198 (by decide) ?_
      refine r_ild1 (pc := 199) dX6_stands_199 ?_
      first | refine r_imulN (pc := 200) dX6_stands_200 ?_ | refine r_imulJ (pc := 200) dX6_stands_200 ?_ | refine r_imul (pc := 200) dX6_stands_200 ?_
      first | refine r_iaddN (pc := 201) dX6_stands_201 ?_ | refine r_iaddJ (pc := 201) dX6_stands_201 ?_ | refine r_iadd (pc := 201) dX6_stands_201 ?_
      refine r_ald0 (pc := 202) dX6_stands_202 ?_
      refine m_getR hS (pc := 203) dX6_stands_203 fl_X6_100 ar42 ?_
      refine r_ild1 (pc := 206) dX6_stands_206 ?_
      refine m_iald hS (pc := 207) dX6_stands_207 ar42 (by omega) (by omega) ?_
      refine Bd.eqI ((congrFun (h3.2.2.1 42 (by decide)) i).trans (hh i (by omega))) ?_
      refine m_iast hS (pc := 208) dX6_stands_208 ar55 (by omega) (by omega) ?_
      refine r_ald0 (pc := 209) dX6_stands_209 ?_
      refine m_getR hS (pc := 210) dX6_stands_210 fl_X6_121 ar55 ?_
      refine r_iconst (v := nI 2) (pc := 213) dX6_stands_213 (by decide) ?_
      refine r_iconst (v := nI 3) (pc := 214) dX6_stands_214 (by decide) ?_
      refine r_ild1 (pc := 215) dX6_stands_215 ?_
      first | refine r_imulN (pc := 216) dX6_stands_216 ?_ | refine r_imulJ (pc := 216) dX6_stands_216 ?_ | refine r_imul (pc := 216) dX6_stands_216 ?_
      first | refine r_iaddN (pc := 217) dX6_stands_217 ?_ | refine r_iaddJ (pc := 217) dX6_stands_217 ?_ | refine r_iadd (pc := 217) dX6_stands_217 ?_
      refine r_bipush (v := nI 10) (pc := 218) dX6_stands_218 (by decide) ?_
      refine r_ald0 (pc := 220) dX6_stands_220 ?_
      refine m_getR hS (pc := 221) dX6_stands_221 fl_X6_103 ar43 ?_
      refine r_ild1 (pc := 224) dX6_stands_224 ?_
      refine m_iald hS (pc := 225) dX6_stands_225 ar43 (by omega) (by omega) ?_
      refine Bd.eqI (x' := nI (fc i)) (by rw [mA_tA, if_neg (fun q => absurd q.1 (by decide))]; exact (congrFun (h3.2.2.1 43 (by decide)) i).trans (hf0 i (by omega))) ?_
      first | refine r_imulN (pc := 226) dX6_stands_226 ?_ | refine r_imulJ (pc := 226) dX6_stands_226 ?_ | refine r_imul (pc := 226) dX6_stands_226 ?_
      refine m_iast hS (pc := 227) dX6_stands_227 ar55 (by omega) (by omega) ?_
      first | refine r_iinc1N (j := 1) (pc := 228) dX6_stands_228 rfl ?_ | refine r_iinc1 (pc := 228) dX6_stands_228 ?_
      refine r_goto (pc := 231) (tgt := 185) dX6_stands_231 (by decide) ?_
      exact hih
theorem stL6 (hS : ShM g M o) (hk : ∀ s2 w1, (∀ j, j < 64 → mA s2 55 (25 + j) = mA s 45 j) → (∀ j, j < 25 ∨ 89 ≤ j → mA s2 55 j = mA s 55 j) → Fr [] [] [55] [] s s2 → Bd g yX6_stands cX6_stands 2 none [] 0 0 0 (putM M o s2) 263 [some (.ref o), w1] [] Q noX) :
    ∀ (m i : Nat) (s1 : MS), i + m = 64 → (∀ j, j < i → mA s1 55 (25 + j) = mA s 45 j) → (∀ j, j < 25 ∨ 89 ≤ j → mA s1 55 j = mA s 55 j) → Fr [] [] [55] [] s s1 → Bd g yX6_stands cX6_stands 2 none [] 0 0 0 (putM M o s1) 236 [some (.ref o), some (.int (nI i))] [] Q noX := by
  intro m
  induction m with
  | zero =>
    intro i s1 hi h1 h2 h3
    have hi : i = 64 := hi
    subst hi
    refine r_ild1 (pc := 236) dX6_stands_236 ?_
    refine r_bipush (v := nI 64) (pc := 237) dX6_stands_237 (by decide) ?_
    first | refine r_icmp_geN (pc := 239) (tgt := 263) dX6_stands_239 (by decide) (by omega) (by omega) (fun h239 => ?_) (fun h239 => ?_) | refine r_icmp_ge (pc := 239) (tgt := 263) dX6_stands_239 (by decide) (fun h239 => ?_) (fun h239 => ?_)
    · skip
      exact hk s1 _ h1 h2 h3
    · skip
      exact absurd h239 (by omega)
  | succ m ih =>
    intro i s1 hi h1 h2 h3
    have hih := ih (i + 1) (tA s1 55 (25 + i) (mA s 45 i)) (by omega) (fun j hj => by
      rw [mA_tA]
      by_cases e : j = i
      · subst e; rw [if_pos ⟨rfl, rfl⟩]
      · rw [if_neg (by omega)]; exact h1 j (by omega)) (fun j hj => by rw [mA_tA, if_neg (by omega)]; exact h2 j hj) (Fr.tA h3 (by decide))
    refine r_ild1 (pc := 236) dX6_stands_236 ?_
    refine r_bipush (v := nI 64) (pc := 237) dX6_stands_237 (by decide) ?_
    first | refine r_icmp_geN (pc := 239) (tgt := 263) dX6_stands_239 (by decide) (by omega) (by omega) (fun h239 => ?_) (fun h239 => ?_) | refine r_icmp_ge (pc := 239) (tgt := 263) dX6_stands_239 (by decide) (fun h239 => ?_) (fun h239 => ?_)
    · skip
      exact absurd h239 (by omega)
    · skip
      refine r_ald0 (pc := 242) dX6_stands_242 ?_
      refine m_getR hS (pc := 243) dX6_stands_243 fl_X6_121 ar55 ?_
      refine r_bipush (v := nI 25) (pc := 246) dX6_stands_246 (by decide) ?_
      refine r_ild1 (pc := 248) dX6_stands_248 ?_
      first | refine r_iaddN (pc := 249) dX6_stands_249 ?_ | refine r_iaddJ (pc := 249) dX6_stands_249 ?_ | refine r_iadd (pc := 249) dX6_stands_249 ?_
      refine r_ald0 (pc := 250) dX6_stands_250 ?_
      refine m_getR hS (pc := 251) dX6_stands_251 fl_X6_109 ar45 ?_
      refine r_ild1 (pc := 254) dX6_stands_254 ?_
      refine m_iald hS (pc := 255) dX6_stands_255 ar45 (by omega) (by omega) ?_
      refine Bd.eqI (congrFun (h3.2.2.1 45 (by decide)) i) ?_
      refine m_iast hS (pc := 256) dX6_stands_256 ar55 (by omega) (by omega) ?_
      first | refine r_iinc1N (j := 1) (pc := 257) dX6_stands_257 rfl ?_ | refine r_iinc1 (pc := 257) dX6_stands_257 ?_
      refine r_goto (pc := 260) (tgt := 236) dX6_stands_260 (by decide) ?_
      exact hih
theorem hol_sh {b b' : Nat → Int32} {k : Nat} : ∀ {cs : List Nat} {i : Nat}, (∀ j, i ≤ j → j < i + cs.length → b' (k + j) = b j) → hol b i cs → hol b' (k + i) cs
  | [], _, _, _ => trivial
  | d :: cs, i, h, hh => ⟨by rw [h i (Nat.le_refl _) (by simp)]; exact hh.1, hol_sh (cs := cs) (i := i + 1) (fun j h1 h2 => h j (by omega) (by simp at h2 ⊢; omega)) hh.2⟩
def SD (s' : MS) (T : To) : Prop := RT s' (teO T) ∧ mF s' 53 = nI 1 ∧ (∀ p, p < (oS T).length → mB s' 41 (8 + p) = lI (nmV (sAt T p).1 0)) ∧ RN s' (oS T).length (stO T) ∧ RK s' [] ∧ mF s' 73 = nI 0 ∧ mF s' 67 = nI 0
theorem ct_X6_stands (hS : ShM g M o) (hT : TM s T c) (hV : VT T) (hc : c ≤ 1600) :
    Ct g yX6_stands cX6_stands 2 none 0 0 0 [.ref o] (putM M o s) (QM M o (fun r s' => r = none ∧ SD s' T ∧ Fr [38, 40, 47, 53, 67, 73] [] [43, 44, 48, 49, 50, 55] [41] s s')) noX := by
  have h8 := hV.2.2.1
  have hT0 := hT
  obtain ⟨t1, t2, t3, t4, t5, t6, t7⟩ := hT
  refine Ct.of (by decide) (Nat.le_of_ble_eq_true rfl) rfl ?_
  refine r_ald0 (pc := 0) dX6_stands_0 ?_
  refine r_iconst (v := nI 1) (pc := 1) dX6_stands_1 (by decide) ?_
  refine m_putI hS (pc := 2) dX6_stands_2 fl_X6_375 fw_X6_53 (by first | rfl | exact zI_nar | assumption) (by first | rfl | exact zI_fit | assumption) ?_
  refine r_ald0 (pc := 5) dX6_stands_5 ?_
  refine r_ald0 (pc := 6) dX6_stands_6 ?_
  refine m_getI hS (pc := 7) dX6_stands_7 fl_X6_317 ?_
  refine Bd.eqI (x' := nI (oH T)) t1 ?_
  refine m_putI hS (pc := 10) dX6_stands_10 fl_X6_379 fw_X6_38 rfl rfl ?_
  refine r_ald0 (pc := 13) dX6_stands_13 ?_
  refine r_ald0 (pc := 14) dX6_stands_14 ?_
  refine m_getI hS (pc := 15) dX6_stands_15 fl_X6_298 ?_
  refine Bd.eqI (x' := nI (oS T).length) t2 ?_
  refine m_putI hS (pc := 18) dX6_stands_18 fl_X6_382 fw_X6_40 rfl rfl ?_
  refine r_ald0 (pc := 21) dX6_stands_21 ?_
  refine r_ald0 (pc := 22) dX6_stands_22 ?_
  refine m_getI hS (pc := 23) dX6_stands_23 fl_X6_360 ?_
  refine Bd.eqI (x' := nI (oL T)) t5 ?_
  refine m_putI hS (pc := 26) dX6_stands_26 fl_X6_385 fw_X6_47 rfl rfl ?_
  refine r_iconst (v := nI 0) (pc := 29) dX6_stands_29 (by decide) ?_
  refine r_ist1 (pc := 30) dX6_stands_30 ?_
  generalize hs0 : tF (tF (tF (tF s 53 (nI 1)) 38 (nI (oH T))) 40 (nI (oS T).length)) 47 (nI (oL T)) = s0
  have hF0 : Fr [38, 40, 47, 53] [] [] [] s s0 := by rw [← hs0]; exact Fr.tF (Fr.tF (Fr.tF (Fr.tF Fr.rf (by decide)) (by decide)) (by decide)) (by decide)
  have e53 : mF s0 53 = nI 1 := by rw [← hs0]; rfl
  have e38 : mF s0 38 = nI (oH T) := by rw [← hs0]; rfl
  have e40 : mF s0 40 = nI (oS T).length := by rw [← hs0]; rfl
  have e47 : mF s0 47 = nI (oL T) := by rw [← hs0]; rfl
  clear hs0
  refine stL1 (s := s0) hS (fun sa wa ha => ?_) 8 0 s0 (by omega) ⟨fun j hj => absurd hj (Nat.not_lt_zero j), fun j _ => ⟨rfl, rfl, rfl⟩, Fr.rf⟩
  obtain ⟨ha1, ha2, ha3⟩ := ha
  refine r_iconst (v := nI 0) (pc := 88) dX6_stands_88 (by decide) ?_
  refine r_ist1 (pc := 89) dX6_stands_89 ?_
  refine stL2 (s := sa) hS (fun sb wb hb => ?_) 3 0 sa (by omega) ⟨fun j hj => absurd hj (Nat.not_lt_zero j), fun j _ => ⟨rfl, rfl⟩, Fr.rf⟩
  obtain ⟨hb1, hb2, hb3⟩ := hb
  refine r_iconst (v := nI 0) (pc := 129) dX6_stands_129 (by decide) ?_
  refine r_ist1 (pc := 130) dX6_stands_130 ?_
  refine stL3 (s := sb) (c := c) hS hc ((hb3.1 51 (by decide)).trans ((ha3.1 51 (by decide)).trans ((hF0.1 51 (by decide)).trans t6))) (fun sc wc hc1 hc3 => ?_) c 0 sb (by omega) (fun j hj => absurd hj (Nat.not_lt_zero j)) (fun j _ => rfl) Fr.rf
  refine r_iconst (v := nI 0) (pc := 161) dX6_stands_161 (by decide) ?_
  refine r_ist1 (pc := 162) dX6_stands_162 ?_
  refine stL4 (s := sc) hS (fun sd wd hd1 hd3 => ?_) 210 0 sc (by omega) (fun j hj => absurd hj (Nat.not_lt_zero j)) Fr.rf
  refine r_iconst (v := nI 0) (pc := 183) dX6_stands_183 (by decide) ?_
  refine r_ist1 (pc := 184) dX6_stands_184 ?_
  have hFd : Fr [] [] [43, 44, 48, 49, 50, 55] [41] s0 sd := (ha3.mono (by decide) (by decide) (by decide) (by decide)).trans ((hb3.mono (by decide) (by decide) (by decide) (by decide)).trans ((hc3.mono (by decide) (by decide) (by decide) (by decide)).trans (hd3.mono (by decide) (by decide) (by decide) (by decide))))
  have hd43 : mA sd 43 = mA sa 43 := (hd3.2.2.1 43 (by decide)).trans ((hc3.2.2.1 43 (by decide)).trans (hb3.2.2.1 43 (by decide)))
  refine stL5 (s := sd) (m0 := (oS T).length) (hm := fun p => (sAt T p).2.1) (fc := fun p => (sAt T p).2.2.1) hS h8 ((hFd.1 40 (by decide)).trans e40) (fun p hp => by rw [hFd.2.2.1 42 (by decide), hF0.2.2.1 42 (by decide)]; exact (t3 p hp).2.1) (fun p hp => by rw [hd43, (ha2 p (by omega)).2.1, hF0.2.2.1 43 (by decide)]; exact (t3 p hp).2.2.1) hd1 (fun se we he1 he0 he89 he3 => ?_) (oS T).length 0 sd (by omega) (fun p hp => absurd hp (Nat.not_lt_zero p)) (fun j hj _ => hd1 j hj) Fr.rf
  refine r_iconst (v := nI 0) (pc := 234) dX6_stands_234 (by decide) ?_
  refine r_ist1 (pc := 235) dX6_stands_235 ?_
  refine stL6 (s := se) hS (fun sf wf hf1 hf2 hf3 => ?_) 64 0 se (by omega) (fun j hj => absurd hj (Nat.not_lt_zero j)) (fun j _ => rfl) Fr.rf
  have hFf : Fr [] [] [43, 44, 48, 49, 50, 55] [41] s0 sf := hFd.trans ((he3.mono (by decide) (by decide) (by decide) (by decide)).trans (hf3.mono (by decide) (by decide) (by decide) (by decide)))
  have F43 : mA sf 43 = mA sa 43 := (hf3.2.2.1 43 (by decide)).trans ((he3.2.2.1 43 (by decide)).trans hd43)
  have F44 : mA sf 44 = mA sa 44 := (hf3.2.2.1 44 (by decide)).trans ((he3.2.2.1 44 (by decide)).trans ((hd3.2.2.1 44 (by decide)).trans ((hc3.2.2.1 44 (by decide)).trans (hb3.2.2.1 44 (by decide)))))
  have F41 : mB sf 41 = mB sa 41 := (hf3.2.2.2 41 (by decide)).trans ((he3.2.2.2 41 (by decide)).trans ((hd3.2.2.2 41 (by decide)).trans ((hc3.2.2.2 41 (by decide)).trans (hb3.2.2.2 41 (by decide)))))
  have F48 : mA sf 48 = mA sb 48 := (hf3.2.2.1 48 (by decide)).trans ((he3.2.2.1 48 (by decide)).trans ((hd3.2.2.1 48 (by decide)).trans (hc3.2.2.1 48 (by decide))))
  have F49 : mA sf 49 = mA sb 49 := (hf3.2.2.1 49 (by decide)).trans ((he3.2.2.1 49 (by decide)).trans ((hd3.2.2.1 49 (by decide)).trans (hc3.2.2.1 49 (by decide))))
  have F50 : mA sf 50 = mA sc 50 := (hf3.2.2.1 50 (by decide)).trans ((he3.2.2.1 50 (by decide)).trans (hd3.2.2.1 50 (by decide)))
  have Z48 : ∀ j, j < 3 → mA sf 48 (3 + j) = mA s 48 j := fun j hj => by rw [F48, (hb1 j hj).1, ha3.2.2.1 48 (by decide), hF0.2.2.1 48 (by decide)]
  have Z49 : ∀ j, j < 3 → mA sf 49 (3 + j) = mA s 49 j := fun j hj => by rw [F49, (hb1 j hj).2, ha3.2.2.1 49 (by decide), hF0.2.2.1 49 (by decide)]
  have Z50 : ∀ j, j < c → mA sf 50 (1600 + j) = mA s 50 j := fun j hj => by rw [F50, hc1 j hj, hb3.2.2.1 50 (by decide), ha3.2.2.1 50 (by decide), hF0.2.2.1 50 (by decide)]
  have hall : Fr [38, 40, 47, 53, 67, 73] [] [43, 44, 48, 49, 50, 55] [41] s (tF (tF sf 73 (nI 0)) 67 (nI 0)) := Fr.tF (Fr.tF ((hF0.mono (by decide) (by decide) (by decide) (by decide)).trans (hFf.mono (by decide) (by decide) (by decide) (by decide))) (by decide)) (by decide)
  have hRC : ∀ w, w < 3 → RC (tF (tF sf 73 (nI 0)) 67 (nI 0)) (teO T) w := by
    intro w hw
    have h7 := t7 w hw
    unfold TC at h7
    unfold RC
    show match oC T w with | none => _ | some cs => _
    cases hcw : oC T w with
    | none => rw [hcw] at h7; exact (Z48 w hw).trans h7
    | some cs =>
      rw [hcw] at h7
      obtain ⟨b, h1, h2, h3, h4⟩ := h7
      exact ⟨b, b + cs.length, (Z48 w hw).trans h1, (Z49 w hw).trans h2, rfl, by omega, hol_sh (fun j hj1 hj2 => Z50 j (by omega)) h4⟩
  have hSD : SD (tF (tF sf 73 (nI 0)) 67 (nI 0)) T := by
    refine ⟨⟨(hFf.1 38 (by decide)).trans e38, (hFf.1 40 (by decide)).trans e40, fun p hp => ?_, fun p hp => ?_, hRC 0 (by decide), hRC 1 (by decide), hRC 2 (by decide), (hFf.1 47 (by decide)).trans e47⟩, (hFf.1 53 (by decide)).trans e53, fun p hp => ?_, ⟨?_, fun p hp => ?_, fun p hp => ?_, fun p hp => ?_, fun p hp r hr => ?_⟩, ⟨?_, by decide, fun i a b c h => (by cases i <;> cases h)⟩, rfl, rfl⟩
    · have hp : p < (oS T).length := hp
      show mA sf 43 (8 + p) = nI (sAt T p).2.2.1
      rw [F43, (ha1 p (by omega)).2.1, hF0.2.2.1 43 (by decide)]; exact (t3 p hp).2.2.1
    · have hp : p < (oS T).length := hp
      show mA sf 44 (8 + p) = nI (sAt T p).2.2.2
      rw [F44, (ha1 p (by omega)).2.2, hF0.2.2.1 44 (by decide)]; exact (t3 p hp).2.2.2
    · show mB sf 41 (8 + p) = _
      rw [F41, (ha1 p (by omega)).1, hF0.2.2.2 41 (by decide)]; exact (t3 p hp).1
    · show mA sf 55 0 = nI 0
      rw [hf2 0 (Or.inl (by decide))]; exact he0
    · show mA sf 55 (1 + 3 * p) = _
      rw [hf2 _ (Or.inl (by omega))]; exact (he1 p hp).1
    · show mA sf 55 (2 + 3 * p) = _
      rw [hf2 _ (Or.inl (by omega))]; exact (he1 p hp).2.1
    · show mA sf 55 (3 + 3 * p) = _
      rw [hf2 _ (Or.inl (by omega))]; exact (he1 p hp).2.2
    · show mA sf 55 (25 + 8 * p + r) = _
      rw [Nat.add_assoc, hf1 _ (by omega), he3.2.2.1 45 (by decide), hFd.2.2.1 45 (by decide), hF0.2.2.1 45 (by decide)]
      exact t4 p (by omega) r (by omega)
    · show mA sf 55 89 = nI 0
      rw [hf2 89 (Or.inr (by decide))]; exact he89
  refine r_ald0 (pc := 263) dX6_stands_263 ?_
  refine r_iconst (v := nI 0) (pc := 264) dX6_stands_264 (by decide) ?_
  refine m_putI hS (pc := 265) dX6_stands_265 fl_X6_388 fw_X6_73 rfl rfl ?_
  refine r_ald0 (pc := 268) dX6_stands_268 ?_
  refine r_iconst (v := nI 0) (pc := 269) dX6_stands_269 (by decide) ?_
  refine m_putI hS (pc := 270) dX6_stands_270 fl_X6_391 fw_X6_67 rfl rfl ?_
  refine r_vret (pc := 273) dX6_stands_273 ?_
  exact ⟨_, rfl, rfl, hSD, hall⟩
end M42
