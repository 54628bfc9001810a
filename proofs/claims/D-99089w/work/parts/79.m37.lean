set_option maxRecDepth 100000
/-! THE MODEL: tests -/
section M37
variable {g : GC} {M : MM} {o : Nat} {s s' sB : MS} {M1 : MM} {q : Sg} {f : Nat → Nat} {n a x : Nat}
def CFT (s : MS) (f : Nat → Nat) (n x a0 e0 : Nat) (c : Cf) : Prop := RP s f n c.2.1 ∧ RQ s c.2.2.1 c.2.2.2.1 c.2.2.2.2 ∧ mF s 106 = nI e0 ∧ mF s 54 = nI x ∧ iT n a0 c ∧ x ≤ 3
theorem CFT.mk {cs W : List Nat} {m : Bool} {op b a0 e0 : Nat} {s1 : MS} (hR : RP s1 f n b) (hQ : RQ s1 cs W op) (h106 : mF s1 106 = nI e0) (h54 : mF s1 54 = nI x) (hi : iT n a0 (m, b, cs, W, op)) (hx : x ≤ 3) : CFT s1 f n x a0 e0 (m, b, cs, W, op) := ⟨hR, hQ, h106, h54, hi, hx⟩
theorem runT_some {k : Nat} {c : Cf} {r : Ou} (h : runT f n x k c = some r) : ∃ k1, k = k1 + 1 ∧ ((∃ d, stpT f n x c = .inl d ∧ runT f n x k1 d = some r) ∨ stpT f n x c = .inr r) := by
  cases k with
  | zero => cases h
  | succ k1 =>
    refine ⟨k1, rfl, ?_⟩
    have h : (match stpT f n x c with | .inl d => runT f n x k1 d | .inr r => some r) = some r := h
    cases hs : stpT f n x c with
    | inl d => rw [hs] at h; exact Or.inl ⟨d, rfl, h⟩
    | inr r' => rw [hs] at h; cases h; exact Or.inr rfl
def GtQ (f : Nat → Nat) (n x a0 e0 : Nat) (k : Nat) (r : Ou) (s : MS) (v : Option Value) (s' : MS) : Prop := FQ s s' ∧ ((v = some (.int (nI 1)) ∧ ∃ k' c', k' < k ∧ c'.1 = true ∧ runT f n x k' c' = some r ∧ CFT s' f n x a0 e0 c') ∨ (v = some (.int (nI 0)) ∧ ((∃ e, r = .error e ∧ bQ2 s' e) ∨ ∃ p cs W op, r = .ok (p, cs ++ W, op) ∧ CFT s' f n x a0 e0 (false, p, cs, W, op))))
theorem GtQ.mono {k k2 a0 e0 : Nat} {r : Ou} {v : Option Value} (hk : k ≤ k2) (h : GtQ f n x a0 e0 k r s v s') : GtQ f n x a0 e0 k2 r s v s' := by
  obtain ⟨h1, h2⟩ := h
  refine ⟨h1, ?_⟩
  rcases h2 with ⟨h2, k', c', h3, h4⟩ | h2
  · exact Or.inl ⟨h2, k', c', by omega, h4⟩
  · exact Or.inr h2
theorem dropA1 {op : Nat} {Q : Option Value → MM → Prop} (hS : ShM g M o) :
    ∀ (W cs : List Nat) (s1 : MS), RQ s1 cs W op → Fr [102, 104] [] [101] [] s s1 →
    (∀ s2, RQ s2 (cs ++ (popW gA1 W).1) (popW gA1 W).2 op → Fr [102, 104] [] [101] [] s s2 → Bd g yX6_qGoesOnTest cX6_qGoesOnTest 1 (some Jvm.ClassFile.FieldType.boolean) [] 3 0 0 (putM M o s2) 103 [some (.ref o)] [] Q noX) →
    Bd g yX6_qGoesOnTest cX6_qGoesOnTest 1 (some Jvm.ClassFile.FieldType.boolean) [] 3 0 0 (putM M o s1) 87 [some (.ref o)] [] Q noX := by
  intro W
  induction W with
  | nil =>
    intro cs s1 h hf hk
    have hk := hk s1 (by rw [show cs ++ (popW gA1 []).1 = cs from List.append_nil cs]; exact h) hf
    refine r_ald0 (pc := 87) dX6_qGoesOnTest_87 ?_
    refine r_bipush (v := nI 10) (pc := 88) dX6_qGoesOnTest_88 (by decide) ?_
    refine r_cV (pc := 90) dX6_qGoesOnTest_90 cv_X6_632 hS.k (ct_X6_qIsOn (v := 10) hS h (by decide)) rfl rfl (Nat.le_of_ble_eq_true rfl) (by decide) ?_
    rintro _ _ ⟨rfl, rfl⟩
    first | refine r_if_eqZ (pc := 93) (tgt := 103) dX6_qGoesOnTest_93 (by decide) (fun h93 => ?_) (fun h93 => ?_) | refine r_if_eqN (pc := 93) (tgt := 103) dX6_qGoesOnTest_93 (by decide) (by omega) (fun h93 => ?_) (fun h93 => ?_) | refine r_if_eq (pc := 93) (tgt := 103) dX6_qGoesOnTest_93 (by decide) (fun h93 => ?_) (fun h93 => ?_)
    · skip
      exact hk
    · skip
      exact absurd h93 (by intro q; cases q)
  | cons v W ih =>
    intro cs s1 h hf hk
    by_cases hv : v = 10
    · subst hv
      rw [show popW gA1 (10 :: W) = (10 :: (popW gA1 W).1, (popW gA1 W).2) from rfl] at hk
      refine r_ald0 (pc := 87) dX6_qGoesOnTest_87 ?_
      refine r_bipush (v := nI 10) (pc := 88) dX6_qGoesOnTest_88 (by decide) ?_
      refine r_cV (pc := 90) dX6_qGoesOnTest_90 cv_X6_632 hS.k (ct_X6_qIsOn (v := 10) hS h (by decide)) rfl rfl (Nat.le_of_ble_eq_true rfl) (by decide) ?_
      rintro _ _ ⟨rfl, rfl⟩
      first | refine r_if_eqZ (pc := 93) (tgt := 103) dX6_qGoesOnTest_93 (by decide) (fun h93 => ?_) (fun h93 => ?_) | refine r_if_eqN (pc := 93) (tgt := 103) dX6_qGoesOnTest_93 (by decide) (by omega) (fun h93 => ?_) (fun h93 => ?_) | refine r_if_eq (pc := 93) (tgt := 103) dX6_qGoesOnTest_93 (by decide) (fun h93 => ?_) (fun h93 => ?_)
      · skip
        exact absurd rfl h93
      · skip
        refine r_ald0 (pc := 96) dX6_qGoesOnTest_96 ?_
        refine r_cV (pc := 97) dX6_qGoesOnTest_97 cv_X6_605 hS.k (ct_X6_qDrops hS h) rfl rfl (Nat.le_of_ble_eq_true rfl) (by decide) ?_
        rintro _ _ ⟨s2, rfl, rfl, h2, hf2⟩
        refine r_goto (pc := 100) (tgt := 87) dX6_qGoesOnTest_100 (by decide) ?_
        exact ih (cs ++ [10]) s2 h2 (hf.trans hf2) (by rw [List.append_assoc]; exact hk)
    · have hk := hk s1 (by rw [show popW gA1 (v :: W) = ([], v :: W) from if_neg (by unfold gA1; simp [hv]), List.append_nil]; exact h) hf
      refine r_ald0 (pc := 87) dX6_qGoesOnTest_87 ?_
      refine r_bipush (v := nI 10) (pc := 88) dX6_qGoesOnTest_88 (by decide) ?_
      refine r_cV (pc := 90) dX6_qGoesOnTest_90 cv_X6_632 hS.k (ct_X6_qIsOn (v := 10) hS h (by decide)) rfl rfl (Nat.le_of_ble_eq_true rfl) (by decide) ?_
      rintro _ _ ⟨rfl, rfl⟩
      first | refine r_if_eqZ (pc := 93) (tgt := 103) dX6_qGoesOnTest_93 (by decide) (fun h93 => ?_) (fun h93 => ?_) | refine r_if_eqN (pc := 93) (tgt := 103) dX6_qGoesOnTest_93 (by decide) (by omega) (fun h93 => ?_) (fun h93 => ?_) | refine r_if_eq (pc := 93) (tgt := 103) dX6_qGoesOnTest_93 (by decide) (fun h93 => ?_) (fun h93 => ?_)
      · skip
        exact hk
      · skip
        exact absurd (Option.some.inj h93) hv
theorem dropA2 {op : Nat} {Q : Option Value → MM → Prop} (hS : ShM g M o) :
    ∀ (W cs : List Nat) (s1 : MS), RQ s1 cs W op → Fr [102, 104] [] [101] [] s s1 →
    (∀ s2, RQ s2 (cs ++ (popW gA2 W).1) (popW gA2 W).2 op → Fr [102, 104] [] [101] [] s s2 → Bd g yX6_qGoesOnTest cX6_qGoesOnTest 1 (some Jvm.ClassFile.FieldType.boolean) [] 3 0 0 (putM M o s2) 162 [some (.ref o)] [] Q noX) →
    Bd g yX6_qGoesOnTest cX6_qGoesOnTest 1 (some Jvm.ClassFile.FieldType.boolean) [] 3 0 0 (putM M o s1) 137 [some (.ref o)] [] Q noX := by
  intro W
  induction W with
  | nil =>
    intro cs s1 h hf hk
    have hk := hk s1 (by rw [show cs ++ (popW gA2 []).1 = cs from List.append_nil cs]; exact h) hf
    refine r_ald0 (pc := 137) dX6_qGoesOnTest_137 ?_
    refine r_bipush (v := nI 10) (pc := 138) dX6_qGoesOnTest_138 (by decide) ?_
    refine r_cV (pc := 140) dX6_qGoesOnTest_140 cv_X6_632 hS.k (ct_X6_qIsOn (v := 10) hS h (by decide)) rfl rfl (Nat.le_of_ble_eq_true rfl) (by decide) ?_
    rintro _ _ ⟨rfl, rfl⟩
    first | refine r_if_neZ (pc := 143) (tgt := 155) dX6_qGoesOnTest_143 (by decide) (fun h143 => ?_) (fun h143 => ?_) | refine r_if_neN (pc := 143) (tgt := 155) dX6_qGoesOnTest_143 (by decide) (by omega) (fun h143 => ?_) (fun h143 => ?_) | refine r_if_ne (pc := 143) (tgt := 155) dX6_qGoesOnTest_143 (by decide) (fun h143 => ?_) (fun h143 => ?_)
    · skip
      exact absurd h143 (by intro q; cases q)
    · skip
      refine r_ald0 (pc := 146) dX6_qGoesOnTest_146 ?_
      refine r_bipush (v := nI 11) (pc := 147) dX6_qGoesOnTest_147 (by decide) ?_
      refine r_cV (pc := 149) dX6_qGoesOnTest_149 cv_X6_632 hS.k (ct_X6_qIsOn (v := 11) hS h (by decide)) rfl rfl (Nat.le_of_ble_eq_true rfl) (by decide) ?_
      rintro _ _ ⟨rfl, rfl⟩
      first | refine r_if_eqZ (pc := 152) (tgt := 162) dX6_qGoesOnTest_152 (by decide) (fun h152 => ?_) (fun h152 => ?_) | refine r_if_eqN (pc := 152) (tgt := 162) dX6_qGoesOnTest_152 (by decide) (by omega) (fun h152 => ?_) (fun h152 => ?_) | refine r_if_eq (pc := 152) (tgt := 162) dX6_qGoesOnTest_152 (by decide) (fun h152 => ?_) (fun h152 => ?_)
      · skip
        exact hk
      · skip
        exact absurd h152 (by intro q; cases q)
  | cons v W ih =>
    intro cs s1 h hf hk
    have hdrop : ∀ (hg : gA2 v = true), Bd g yX6_qGoesOnTest cX6_qGoesOnTest 1 (some Jvm.ClassFile.FieldType.boolean) [] 3 0 0 (putM M o s1) 155 [some (.ref o)] [] Q noX := by
      intro hg
      rw [show popW gA2 (v :: W) = (v :: (popW gA2 W).1, (popW gA2 W).2) from if_pos hg] at hk
      refine r_ald0 (pc := 155) dX6_qGoesOnTest_155 ?_
      refine r_cV (pc := 156) dX6_qGoesOnTest_156 cv_X6_605 hS.k (ct_X6_qDrops hS h) rfl rfl (Nat.le_of_ble_eq_true rfl) (by decide) ?_
      rintro _ _ ⟨s2, rfl, rfl, h2, hf2⟩
      refine r_goto (pc := 159) (tgt := 137) dX6_qGoesOnTest_159 (by decide) ?_
      exact ih (cs ++ [v]) s2 h2 (hf.trans hf2) (by rw [List.append_assoc]; exact hk)
    by_cases h10 : v = 10
    · subst h10
      refine r_ald0 (pc := 137) dX6_qGoesOnTest_137 ?_
      refine r_bipush (v := nI 10) (pc := 138) dX6_qGoesOnTest_138 (by decide) ?_
      refine r_cV (pc := 140) dX6_qGoesOnTest_140 cv_X6_632 hS.k (ct_X6_qIsOn (v := 10) hS h (by decide)) rfl rfl (Nat.le_of_ble_eq_true rfl) (by decide) ?_
      rintro _ _ ⟨rfl, rfl⟩
      first | refine r_if_neZ (pc := 143) (tgt := 155) dX6_qGoesOnTest_143 (by decide) (fun h143 => ?_) (fun h143 => ?_) | refine r_if_neN (pc := 143) (tgt := 155) dX6_qGoesOnTest_143 (by decide) (by omega) (fun h143 => ?_) (fun h143 => ?_) | refine r_if_ne (pc := 143) (tgt := 155) dX6_qGoesOnTest_143 (by decide) (fun h143 => ?_) (fun h143 => ?_)
      · skip
        exact hdrop rfl
      · skip
        exact absurd rfl h143
    · by_cases h11 : v = 11
      · subst h11
        refine r_ald0 (pc := 137) dX6_qGoesOnTest_137 ?_
        refine r_bipush (v := nI 10) (pc := 138) dX6_qGoesOnTest_138 (by decide) ?_
        refine r_cV (pc := 140) dX6_qGoesOnTest_140 cv_X6_632 hS.k (ct_X6_qIsOn (v := 10) hS h (by decide)) rfl rfl (Nat.le_of_ble_eq_true rfl) (by decide) ?_
        rintro _ _ ⟨rfl, rfl⟩
        first | refine r_if_neZ (pc := 143) (tgt := 155) dX6_qGoesOnTest_143 (by decide) (fun h143 => ?_) (fun h143 => ?_) | refine r_if_neN (pc := 143) (tgt := 155) dX6_qGoesOnTest_143 (by decide) (by omega) (fun h143 => ?_) (fun h143 => ?_) | refine r_if_ne (pc := 143) (tgt := 155) dX6_qGoesOnTest_143 (by decide) (fun h143 => ?_) (fun h143 => ?_)
        · skip
          exact absurd (Option.some.inj h143) (by decide)
        · skip
          refine r_ald0 (pc := 146) dX6_qGoesOnTest_146 ?_
          refine r_bipush (v := nI 11) (pc := 147) dX6_qGoesOnTest_147 (by decide) ?_
          refine r_cV (pc := 149) dX6_qGoesOnTest_149 cv_X6_632 hS.k (ct_X6_qIsOn (v := 11) hS h (by decide)) rfl rfl (Nat.le_of_ble_eq_true rfl) (by decide) ?_
          rintro _ _ ⟨rfl, rfl⟩
          first | refine r_if_eqZ (pc := 152) (tgt := 162) dX6_qGoesOnTest_152 (by decide) (fun h152 => ?_) (fun h152 => ?_) | refine r_if_eqN (pc := 152) (tgt := 162) dX6_qGoesOnTest_152 (by decide) (by omega) (fun h152 => ?_) (fun h152 => ?_) | refine r_if_eq (pc := 152) (tgt := 162) dX6_qGoesOnTest_152 (by decide) (fun h152 => ?_) (fun h152 => ?_)
          · skip
            exact absurd rfl h152
          · skip
            exact hdrop rfl
      · have hk := hk s1 (by rw [show popW gA2 (v :: W) = ([], v :: W) from if_neg (by unfold gA2; simp [h10, h11]), List.append_nil]; exact h) hf
        refine r_ald0 (pc := 137) dX6_qGoesOnTest_137 ?_
        refine r_bipush (v := nI 10) (pc := 138) dX6_qGoesOnTest_138 (by decide) ?_
        refine r_cV (pc := 140) dX6_qGoesOnTest_140 cv_X6_632 hS.k (ct_X6_qIsOn (v := 10) hS h (by decide)) rfl rfl (Nat.le_of_ble_eq_true rfl) (by decide) ?_
        rintro _ _ ⟨rfl, rfl⟩
        first | refine r_if_neZ (pc := 143) (tgt := 155) dX6_qGoesOnTest_143 (by decide) (fun h143 => ?_) (fun h143 => ?_) | refine r_if_neN (pc := 143) (tgt := 155) dX6_qGoesOnTest_143 (by decide) (by omega) (fun h143 => ?_) (fun h143 => ?_) | refine r_if_ne (pc := 143) (tgt := 155) dX6_qGoesOnTest_143 (by decide) (fun h143 => ?_) (fun h143 => ?_)
        · skip
          exact absurd (Option.some.inj h143) h10
        · skip
          refine r_ald0 (pc := 146) dX6_qGoesOnTest_146 ?_
          refine r_bipush (v := nI 11) (pc := 147) dX6_qGoesOnTest_147 (by decide) ?_
          refine r_cV (pc := 149) dX6_qGoesOnTest_149 cv_X6_632 hS.k (ct_X6_qIsOn (v := 11) hS h (by decide)) rfl rfl (Nat.le_of_ble_eq_true rfl) (by decide) ?_
          rintro _ _ ⟨rfl, rfl⟩
          first | refine r_if_eqZ (pc := 152) (tgt := 162) dX6_qGoesOnTest_152 (by decide) (fun h152 => ?_) (fun h152 => ?_) | refine r_if_eqN (pc := 152) (tgt := 162) dX6_qGoesOnTest_152 (by decide) (by omega) (fun h152 => ?_) (fun h152 => ?_) | refine r_if_eq (pc := 152) (tgt := 162) dX6_qGoesOnTest_152 (by decide) (fun h152 => ?_) (fun h152 => ?_)
          · skip
            exact hk
          · skip
            exact absurd (Option.some.inj h152) h11
theorem dropSq {op : Nat} {Q : Option Value → MM → Prop} (hS : ShM g M o) :
    ∀ (W cs : List Nat) (s1 : MS), 25 ∈ W → RQ s1 cs W op → Fr [102, 104] [] [101] [] s s1 →
    (∀ s2, RQ s2 (cs ++ (popW gSq W).1) (popW gSq W).2 op → Fr [102, 104] [] [101] [] s s2 → Bd g yX6_qGoesOnTest cX6_qGoesOnTest 1 (some Jvm.ClassFile.FieldType.boolean) [] 3 0 0 (putM M o s2) 49 [some (.ref o)] [] Q noX) →
    Bd g yX6_qGoesOnTest cX6_qGoesOnTest 1 (some Jvm.ClassFile.FieldType.boolean) [] 3 0 0 (putM M o s1) 33 [some (.ref o)] [] Q noX := by
  intro W
  induction W with
  | nil => intro cs s1 h25 h hf hk; nomatch h25
  | cons v W ih =>
    intro cs s1 h25 h hf hk
    by_cases hv : v = 25
    · subst hv
      have hk := hk s1 (by rw [show popW gSq (25 :: W) = ([], 25 :: W) from rfl, List.append_nil]; exact h) hf
      refine r_ald0 (pc := 33) dX6_qGoesOnTest_33 ?_
      refine r_bipush (v := nI 25) (pc := 34) dX6_qGoesOnTest_34 (by decide) ?_
      refine r_cV (pc := 36) dX6_qGoesOnTest_36 cv_X6_632 hS.k (ct_X6_qIsOn (v := 25) hS h (by decide)) rfl rfl (Nat.le_of_ble_eq_true rfl) (by decide) ?_
      rintro _ _ ⟨rfl, rfl⟩
      first | refine r_if_neZ (pc := 39) (tgt := 49) dX6_qGoesOnTest_39 (by decide) (fun h39 => ?_) (fun h39 => ?_) | refine r_if_neN (pc := 39) (tgt := 49) dX6_qGoesOnTest_39 (by decide) (by omega) (fun h39 => ?_) (fun h39 => ?_) | refine r_if_ne (pc := 39) (tgt := 49) dX6_qGoesOnTest_39 (by decide) (fun h39 => ?_) (fun h39 => ?_)
      · skip
        exact hk
      · skip
        exact absurd rfl h39
    · have hW : 25 ∈ W := by rcases List.mem_cons.mp h25 with q | q; exact absurd q.symm hv; exact q
      rw [show popW gSq (v :: W) = (v :: (popW gSq W).1, (popW gSq W).2) from if_pos (by unfold gSq; simp [hv])] at hk
      refine r_ald0 (pc := 33) dX6_qGoesOnTest_33 ?_
      refine r_bipush (v := nI 25) (pc := 34) dX6_qGoesOnTest_34 (by decide) ?_
      refine r_cV (pc := 36) dX6_qGoesOnTest_36 cv_X6_632 hS.k (ct_X6_qIsOn (v := 25) hS h (by decide)) rfl rfl (Nat.le_of_ble_eq_true rfl) (by decide) ?_
      rintro _ _ ⟨rfl, rfl⟩
      first | refine r_if_neZ (pc := 39) (tgt := 49) dX6_qGoesOnTest_39 (by decide) (fun h39 => ?_) (fun h39 => ?_) | refine r_if_neN (pc := 39) (tgt := 49) dX6_qGoesOnTest_39 (by decide) (by omega) (fun h39 => ?_) (fun h39 => ?_) | refine r_if_ne (pc := 39) (tgt := 49) dX6_qGoesOnTest_39 (by decide) (fun h39 => ?_) (fun h39 => ?_)
      · skip
        exact absurd (Option.some.inj h39) hv
      · skip
        refine r_ald0 (pc := 42) dX6_qGoesOnTest_42 ?_
        refine r_cV (pc := 43) dX6_qGoesOnTest_43 cv_X6_605 hS.k (ct_X6_qDrops hS h) rfl rfl (Nat.le_of_ble_eq_true rfl) (by decide) ?_
        rintro _ _ ⟨s2, rfl, rfl, h2, hf2⟩
        refine r_goto (pc := 46) (tgt := 33) dX6_qGoesOnTest_46 (by decide) ?_
        exact ih (cs ++ [v]) s2 hW h2 (hf.trans hf2) (by rw [List.append_assoc]; exact hk)
/-- from 76 on: no square is closed at p -/
theorem got76 {cs W : List Nat} {op k p a0 e0 : Nat} {r : Ou} {s1 : MS} (hS : ShM g M o) (hp : skip f n p = p) (hC : CFT s1 f n x a0 e0 (false, p, cs, W, op)) (hrun : runT f n x (k + 1) (false, p, cs, W, op) = some r) (hf : FQ s s1)
    (hcl : ¬ (lookO f n p = some 93 ∧ 25 ∈ W)) :
    Bd g yX6_qGoesOnTest cX6_qGoesOnTest 1 (some Jvm.ClassFile.FieldType.boolean) [] 3 0 0 (putM M o s1) 76 [some (.ref o)] [] (QM M o (GtQ f n x a0 e0 (k + 1) r s)) noX := by
  have hC0 := hC
  obtain ⟨hR, hQ, h106, h54, hi, hx⟩ := hC
  have hR : RP s1 f n p := hR
  have hQ : RQ s1 cs W op := hQ
  have hn := hR.1.2.2.2.1
  have hi0 := hi
  obtain ⟨i1, i2, i3, i4, i5⟩ := hi
  have i1 : cs.length + W.length + a0 ≤ p := i1
  have i2 : p ≤ n := i2
  obtain ⟨k1, hk1, hr2⟩ := runT_some hrun
  obtain rfl : k1 = k := by omega
  have hstp : stpT f n x (false, p, cs, W, op) = stpV f n p cs W op := rfl
  have sign : ∀ (b v : Nat) (gg : Nat → Bool) (s2 s3 : MS), v < 100 → b ≤ n → p ≤ b → stpT f n x (false, p, cs, W, op) = .inl (true, b, cs ++ (popW gg W).1, v :: (popW gg W).2, op) → RP s2 f n b → FQ s s2 → mF s2 106 = nI e0 → mF s2 54 = nI x → RQ s3 (cs ++ (popW gg W).1) (popW gg W).2 op → Fr [102, 104] [] [101] [] s2 s3 →
      QM M o (GtQ f n x a0 e0 (k1 + 1) r s) (some (.int (nI 1))) (putM M o (tF (tA s3 103 (popW gg W).2.length (nI v)) 104 (nI ((popW gg W).2.length + 1)))) := by
    intro b v gg s2 s3 hv hb hb2 hst hR2 hf2 h1 h2 hQ3 hf3
    have hiC := stpT_inv (a0 := a0) hst hi0
    rw [hst] at hr2
    rcases hr2 with ⟨d, hd, hrun2⟩ | hd
    · cases hd
      have hF4 : Fr [104] [] [103] [] s3 (tF (tA s3 103 (popW gg W).2.length (nI v)) 104 (nI ((popW gg W).2.length + 1))) := Fr.tF (Fr.tA Fr.rf (by decide)) (by decide)
      have hl3 : (cs ++ (popW gg W).1).length + ((popW gg W).2.length + 1) ≤ 1601 := by
        have := popW_len gg W
        simp only [List.length_append]
        omega
      refine ⟨_, rfl, hf2.trans ((hf3.mono (by decide) (by decide) (by decide) (by decide)).trans (hF4.mono (by decide) (by decide) (by decide) (by decide))), Or.inl ⟨rfl, k1, _, Nat.lt_succ_self _, rfl, hrun2, ?_⟩⟩
      exact CFT.mk ((hR2.fr hf3 (by decide) (by decide)).fr hF4 (by decide) (by decide)) (hQ3.push rfl hv hl3) ((hF4.1 106 (by decide)).trans ((hf3.1 106 (by decide)).trans h1)) ((hF4.1 54 (by decide)).trans ((hf3.1 54 (by decide)).trans h2)) hiC hx
    · cases hd
  have hta := ct_X6_takes hS hR ar83 (w := wAnd) (by decide)
  rw [hp] at hta
  by_cases wa : word f n p = some wAnd
  · have hst : stpT f n x (false, p, cs, W, op) = .inl (true, p + 3, cs ++ (popW gA1 W).1, 10 :: (popW gA1 W).2, op) := by
      rw [hstp]; unfold stpV; rw [if_neg hcl, hp, if_pos wa]
    have hwe : p + 3 ≤ n := by have := (word_end wa).1; simpa using this
    refine r_ald0 (pc := 76) dX6_qGoesOnTest_76 ?_
    refine r_ald0 (pc := 77) dX6_qGoesOnTest_77 ?_
    refine m_getR hS (pc := 78) dX6_qGoesOnTest_78 fl_X6_168 ar83 ?_
    refine r_cV (pc := 81) dX6_qGoesOnTest_81 cv_X6_264 hS.k hta rfl rfl (Nat.le_of_ble_eq_true rfl) (by decide) ?_
    rintro _ _ ⟨s2, rfl, rfl, hR2, hf2⟩
    rw [if_pos wa] at hR2
    first | refine r_if_eqZ (pc := 84) (tgt := 126) dX6_qGoesOnTest_84 (by decide) (fun h84 => ?_) (fun h84 => ?_) | refine r_if_eqN (pc := 84) (tgt := 126) dX6_qGoesOnTest_84 (by decide) (by omega) (fun h84 => ?_) (fun h84 => ?_) | refine r_if_eq (pc := 84) (tgt := 126) dX6_qGoesOnTest_84 (by decide) (fun h84 => ?_) (fun h84 => ?_)
    · skip
      exact absurd wa h84
    · skip
      refine dropA1 hS W cs s2 (hQ.fr hf2 (by decide) (by decide)) Fr.rf (fun s3 hQ3 hf3 => ?_)
      refine r_ald0 (pc := 103) dX6_qGoesOnTest_103 ?_
      refine m_getR hS (pc := 104) dX6_qGoesOnTest_104 fl_X6_225 ar103 ?_
      refine r_ald0 (pc := 107) dX6_qGoesOnTest_107 ?_
      refine m_getI hS (pc := 108) dX6_qGoesOnTest_108 fl_X6_330 ?_
      refine Bd.eqI hQ3.2.2.1 ?_
      have hq7 := hQ3.2.2.2.2.2.2
      refine r_bipush (v := nI 10) (pc := 111) dX6_qGoesOnTest_111 (by decide) ?_
      refine m_iast hS (pc := 113) dX6_qGoesOnTest_113 ar103 (by omega) (by omega) ?_
      refine r_ald0 (pc := 114) dX6_qGoesOnTest_114 ?_
      refine r_dup (pc := 115) dX6_qGoesOnTest_115 rfl ?_
      refine m_getI hS (pc := 116) dX6_qGoesOnTest_116 fl_X6_330 ?_
      refine Bd.eqI (x' := nI (popW gA1 W).2.length) hQ3.2.2.1 ?_
      refine r_iconst (v := nI 1) (pc := 119) dX6_qGoesOnTest_119 (by decide) ?_
      refine r_iaddN (pc := 120) dX6_qGoesOnTest_120 ?_
      refine m_putI hS (pc := 121) dX6_qGoesOnTest_121 fl_X6_330 fw_X6_104 rfl rfl ?_
      refine r_iconst (v := nI 1) (pc := 124) dX6_qGoesOnTest_124 (by decide) ?_
      refine r_zret (pc := 125) dX6_qGoesOnTest_125 rfl ?_
      exact sign (p + 3) 10 gA1 s2 s3 (by decide) hwe (by omega) hst hR2 (hf.trans (hf2.mono (by decide) (by decide) (by decide) (by decide))) ((hf2.1 106 (by decide)).trans h106) ((hf2.1 54 (by decide)).trans h54) hQ3 hf3
  · have hto : ∀ {s2 : MS}, RP s2 f n p → _ := fun {s2} hR2 => ct_X6_takes (a := p) hS hR2 ar84 (w := wOr) (by decide)
    rw [hp] at hto
    by_cases wo : word f n p = some wOr
    · have hst : stpT f n x (false, p, cs, W, op) = .inl (true, p + 2, cs ++ (popW gA2 W).1, 11 :: (popW gA2 W).2, op) := by
        rw [hstp]; unfold stpV; rw [if_neg hcl, hp, if_neg wa, if_pos wo]
      have hwe : p + 2 ≤ n := by have := (word_end wo).1; simpa using this
      refine r_ald0 (pc := 76) dX6_qGoesOnTest_76 ?_
      refine r_ald0 (pc := 77) dX6_qGoesOnTest_77 ?_
      refine m_getR hS (pc := 78) dX6_qGoesOnTest_78 fl_X6_168 ar83 ?_
      refine r_cV (pc := 81) dX6_qGoesOnTest_81 cv_X6_264 hS.k hta rfl rfl (Nat.le_of_ble_eq_true rfl) (by decide) ?_
      rintro _ _ ⟨s9, rfl, rfl, hR9, hf9⟩
      rw [if_neg wa] at hR9
      first | refine r_if_eqZ (pc := 84) (tgt := 126) dX6_qGoesOnTest_84 (by decide) (fun h84 => ?_) (fun h84 => ?_) | refine r_if_eqN (pc := 84) (tgt := 126) dX6_qGoesOnTest_84 (by decide) (by omega) (fun h84 => ?_) (fun h84 => ?_) | refine r_if_eq (pc := 84) (tgt := 126) dX6_qGoesOnTest_84 (by decide) (fun h84 => ?_) (fun h84 => ?_)
      · skip
        refine r_ald0 (pc := 126) dX6_qGoesOnTest_126 ?_
        refine r_ald0 (pc := 127) dX6_qGoesOnTest_127 ?_
        refine m_getR hS (pc := 128) dX6_qGoesOnTest_128 fl_X6_171 ar84 ?_
        refine r_cV (pc := 131) dX6_qGoesOnTest_131 cv_X6_264 hS.k (hto hR9) rfl rfl (Nat.le_of_ble_eq_true rfl) (by decide) ?_
        rintro _ _ ⟨s2, rfl, rfl, hR2, hf2⟩
        rw [if_pos wo] at hR2
        have hf2 := hf9.trans hf2
        first | refine r_if_eqZ (pc := 134) (tgt := 185) dX6_qGoesOnTest_134 (by decide) (fun h134 => ?_) (fun h134 => ?_) | refine r_if_eqN (pc := 134) (tgt := 185) dX6_qGoesOnTest_134 (by decide) (by omega) (fun h134 => ?_) (fun h134 => ?_) | refine r_if_eq (pc := 134) (tgt := 185) dX6_qGoesOnTest_134 (by decide) (fun h134 => ?_) (fun h134 => ?_)
        · skip
          exact absurd wo h134
        · skip
          refine dropA2 hS W cs s2 (hQ.fr hf2 (by decide) (by decide)) Fr.rf (fun s3 hQ3 hf3 => ?_)
          refine r_ald0 (pc := 162) dX6_qGoesOnTest_162 ?_
          refine m_getR hS (pc := 163) dX6_qGoesOnTest_163 fl_X6_225 ar103 ?_
          refine r_ald0 (pc := 166) dX6_qGoesOnTest_166 ?_
          refine m_getI hS (pc := 167) dX6_qGoesOnTest_167 fl_X6_330 ?_
          refine Bd.eqI hQ3.2.2.1 ?_
          have hq7 := hQ3.2.2.2.2.2.2
          refine r_bipush (v := nI 11) (pc := 170) dX6_qGoesOnTest_170 (by decide) ?_
          refine m_iast hS (pc := 172) dX6_qGoesOnTest_172 ar103 (by omega) (by omega) ?_
          refine r_ald0 (pc := 173) dX6_qGoesOnTest_173 ?_
          refine r_dup (pc := 174) dX6_qGoesOnTest_174 rfl ?_
          refine m_getI hS (pc := 175) dX6_qGoesOnTest_175 fl_X6_330 ?_
          refine Bd.eqI (x' := nI (popW gA2 W).2.length) hQ3.2.2.1 ?_
          refine r_iconst (v := nI 1) (pc := 178) dX6_qGoesOnTest_178 (by decide) ?_
          refine r_iaddN (pc := 179) dX6_qGoesOnTest_179 ?_
          refine m_putI hS (pc := 180) dX6_qGoesOnTest_180 fl_X6_330 fw_X6_104 rfl rfl ?_
          refine r_iconst (v := nI 1) (pc := 183) dX6_qGoesOnTest_183 (by decide) ?_
          refine r_zret (pc := 184) dX6_qGoesOnTest_184 rfl ?_
          exact sign (p + 2) 11 gA2 s2 s3 (by decide) hwe (by omega) hst hR2 (hf.trans (hf2.mono (by decide) (by decide) (by decide) (by decide))) ((hf2.1 106 (by decide)).trans h106) ((hf2.1 54 (by decide)).trans h54) hQ3 hf3
      · skip
        exact absurd h84 wa
    · have hst : stpT f n x (false, p, cs, W, op) = if 25 ∈ W then .inr (.error (1, p)) else .inr (.ok (p, cs ++ W, op)) := by
        rw [hstp]; unfold stpV; rw [if_neg hcl, hp, if_neg wa, if_neg wo]
      by_cases c25 : 25 ∈ W
      · rw [if_pos c25] at hst
        rw [hst] at hr2
        rcases hr2 with ⟨d, hd, hrun2⟩ | hd
        · cases hd
        · cases hd
          refine r_ald0 (pc := 76) dX6_qGoesOnTest_76 ?_
          refine r_ald0 (pc := 77) dX6_qGoesOnTest_77 ?_
          refine m_getR hS (pc := 78) dX6_qGoesOnTest_78 fl_X6_168 ar83 ?_
          refine r_cV (pc := 81) dX6_qGoesOnTest_81 cv_X6_264 hS.k hta rfl rfl (Nat.le_of_ble_eq_true rfl) (by decide) ?_
          rintro _ _ ⟨s9, rfl, rfl, hR9, hf9⟩
          rw [if_neg wa] at hR9
          first | refine r_if_eqZ (pc := 84) (tgt := 126) dX6_qGoesOnTest_84 (by decide) (fun h84 => ?_) (fun h84 => ?_) | refine r_if_eqN (pc := 84) (tgt := 126) dX6_qGoesOnTest_84 (by decide) (by omega) (fun h84 => ?_) (fun h84 => ?_) | refine r_if_eq (pc := 84) (tgt := 126) dX6_qGoesOnTest_84 (by decide) (fun h84 => ?_) (fun h84 => ?_)
          · skip
            refine r_ald0 (pc := 126) dX6_qGoesOnTest_126 ?_
            refine r_ald0 (pc := 127) dX6_qGoesOnTest_127 ?_
            refine m_getR hS (pc := 128) dX6_qGoesOnTest_128 fl_X6_171 ar84 ?_
            refine r_cV (pc := 131) dX6_qGoesOnTest_131 cv_X6_264 hS.k (hto hR9) rfl rfl (Nat.le_of_ble_eq_true rfl) (by decide) ?_
            rintro _ _ ⟨s2, rfl, rfl, hR2, hf2⟩
            rw [if_neg wo] at hR2
            have hf2 := hf9.trans hf2
            have hQ2 := hQ.fr hf2 (by decide) (by decide)
            first | refine r_if_eqZ (pc := 134) (tgt := 185) dX6_qGoesOnTest_134 (by decide) (fun h134 => ?_) (fun h134 => ?_) | refine r_if_eqN (pc := 134) (tgt := 185) dX6_qGoesOnTest_134 (by decide) (by omega) (fun h134 => ?_) (fun h134 => ?_) | refine r_if_eq (pc := 134) (tgt := 185) dX6_qGoesOnTest_134 (by decide) (fun h134 => ?_) (fun h134 => ?_)
            · skip
              refine r_ald0 (pc := 185) dX6_qGoesOnTest_185 ?_
              refine m_getI hS (pc := 186) dX6_qGoesOnTest_186 fl_X6_237 ?_
              refine Bd.eqI hR2.2.1 ?_
              first | refine r_if_neZ (pc := 189) (tgt := 208) dX6_qGoesOnTest_189 (by decide) (fun h189 => ?_) (fun h189 => ?_) | refine r_if_neN (pc := 189) (tgt := 208) dX6_qGoesOnTest_189 (by decide) (by omega) (fun h189 => ?_) (fun h189 => ?_) | refine r_if_ne (pc := 189) (tgt := 208) dX6_qGoesOnTest_189 (by decide) (fun h189 => ?_) (fun h189 => ?_)
              · skip
                exact absurd rfl h189
              · skip
                refine r_ald0 (pc := 192) dX6_qGoesOnTest_192 ?_
                refine r_cV (pc := 193) dX6_qGoesOnTest_193 cv_X6_650 hS.k (ct_X6_qHasSquare hS hQ2) rfl rfl (Nat.le_of_ble_eq_true rfl) (by decide) ?_
                rintro _ _ ⟨rfl, rfl⟩
                first | refine r_if_eqZ (pc := 196) (tgt := 208) dX6_qGoesOnTest_196 (by decide) (fun h196 => ?_) (fun h196 => ?_) | refine r_if_eqN (pc := 196) (tgt := 208) dX6_qGoesOnTest_196 (by decide) (by omega) (fun h196 => ?_) (fun h196 => ?_) | refine r_if_eq (pc := 196) (tgt := 208) dX6_qGoesOnTest_196 (by decide) (fun h196 => ?_) (fun h196 => ?_)
                · skip
                  exact absurd c25 h196
                · skip
                  refine r_ald0 (pc := 199) dX6_qGoesOnTest_199 ?_
                  refine r_iconst (v := nI 1) (pc := 200) dX6_qGoesOnTest_200 (by decide) ?_
                  refine r_ald0 (pc := 201) dX6_qGoesOnTest_201 ?_
                  refine m_getI hS (pc := 202) dX6_qGoesOnTest_202 fl_X6_243 ?_
                  refine Bd.eqI hR2.1.2.1 ?_
                  refine r_cV (pc := 205) dX6_qGoesOnTest_205 cv_X6_267 hS.k (ct_X6_failP hS hR2.2.1 (by decide) (by omega)) rfl rfl (Nat.le_of_ble_eq_true rfl) (by decide) ?_
                  rintro _ _ ⟨s3, rfl, rfl, hB3, hf3⟩
                  refine r_iconst (v := nI 0) (pc := 208) dX6_qGoesOnTest_208 (by decide) ?_
                  refine r_zret (pc := 209) dX6_qGoesOnTest_209 (by first | rfl | exact zI_nar | assumption) ?_
                  exact ⟨_, rfl, hf.trans ((hf2.mono (by decide) (by decide) (by decide) (by decide)).trans (hf3.mono (by decide) (by decide) (by decide) (by decide))), Or.inr ⟨rfl, Or.inl ⟨_, rfl, hB3, cs.length, by omega, (hf3.1 102 (by decide)).trans hQ2.1⟩⟩⟩
            · skip
              exact absurd h134 wo
          · skip
            exact absurd h84 wa
      · rw [if_neg c25] at hst
        rw [hst] at hr2
        rcases hr2 with ⟨d, hd, hrun2⟩ | hd
        · cases hd
        · cases hd
          refine r_ald0 (pc := 76) dX6_qGoesOnTest_76 ?_
          refine r_ald0 (pc := 77) dX6_qGoesOnTest_77 ?_
          refine m_getR hS (pc := 78) dX6_qGoesOnTest_78 fl_X6_168 ar83 ?_
          refine r_cV (pc := 81) dX6_qGoesOnTest_81 cv_X6_264 hS.k hta rfl rfl (Nat.le_of_ble_eq_true rfl) (by decide) ?_
          rintro _ _ ⟨s9, rfl, rfl, hR9, hf9⟩
          rw [if_neg wa] at hR9
          first | refine r_if_eqZ (pc := 84) (tgt := 126) dX6_qGoesOnTest_84 (by decide) (fun h84 => ?_) (fun h84 => ?_) | refine r_if_eqN (pc := 84) (tgt := 126) dX6_qGoesOnTest_84 (by decide) (by omega) (fun h84 => ?_) (fun h84 => ?_) | refine r_if_eq (pc := 84) (tgt := 126) dX6_qGoesOnTest_84 (by decide) (fun h84 => ?_) (fun h84 => ?_)
          · skip
            refine r_ald0 (pc := 126) dX6_qGoesOnTest_126 ?_
            refine r_ald0 (pc := 127) dX6_qGoesOnTest_127 ?_
            refine m_getR hS (pc := 128) dX6_qGoesOnTest_128 fl_X6_171 ar84 ?_
            refine r_cV (pc := 131) dX6_qGoesOnTest_131 cv_X6_264 hS.k (hto hR9) rfl rfl (Nat.le_of_ble_eq_true rfl) (by decide) ?_
            rintro _ _ ⟨s2, rfl, rfl, hR2, hf2⟩
            rw [if_neg wo] at hR2
            have hf2 := hf9.trans hf2
            have hQ2 := hQ.fr hf2 (by decide) (by decide)
            first | refine r_if_eqZ (pc := 134) (tgt := 185) dX6_qGoesOnTest_134 (by decide) (fun h134 => ?_) (fun h134 => ?_) | refine r_if_eqN (pc := 134) (tgt := 185) dX6_qGoesOnTest_134 (by decide) (by omega) (fun h134 => ?_) (fun h134 => ?_) | refine r_if_eq (pc := 134) (tgt := 185) dX6_qGoesOnTest_134 (by decide) (fun h134 => ?_) (fun h134 => ?_)
            · skip
              refine r_ald0 (pc := 185) dX6_qGoesOnTest_185 ?_
              refine m_getI hS (pc := 186) dX6_qGoesOnTest_186 fl_X6_237 ?_
              refine Bd.eqI hR2.2.1 ?_
              first | refine r_if_neZ (pc := 189) (tgt := 208) dX6_qGoesOnTest_189 (by decide) (fun h189 => ?_) (fun h189 => ?_) | refine r_if_neN (pc := 189) (tgt := 208) dX6_qGoesOnTest_189 (by decide) (by omega) (fun h189 => ?_) (fun h189 => ?_) | refine r_if_ne (pc := 189) (tgt := 208) dX6_qGoesOnTest_189 (by decide) (fun h189 => ?_) (fun h189 => ?_)
              · skip
                exact absurd rfl h189
              · skip
                refine r_ald0 (pc := 192) dX6_qGoesOnTest_192 ?_
                refine r_cV (pc := 193) dX6_qGoesOnTest_193 cv_X6_650 hS.k (ct_X6_qHasSquare hS hQ2) rfl rfl (Nat.le_of_ble_eq_true rfl) (by decide) ?_
                rintro _ _ ⟨rfl, rfl⟩
                first | refine r_if_eqZ (pc := 196) (tgt := 208) dX6_qGoesOnTest_196 (by decide) (fun h196 => ?_) (fun h196 => ?_) | refine r_if_eqN (pc := 196) (tgt := 208) dX6_qGoesOnTest_196 (by decide) (by omega) (fun h196 => ?_) (fun h196 => ?_) | refine r_if_eq (pc := 196) (tgt := 208) dX6_qGoesOnTest_196 (by decide) (fun h196 => ?_) (fun h196 => ?_)
                · skip
                  refine r_iconst (v := nI 0) (pc := 208) dX6_qGoesOnTest_208 (by decide) ?_
                  refine r_zret (pc := 209) dX6_qGoesOnTest_209 (by first | rfl | exact zI_nar | assumption) ?_
                  exact ⟨_, rfl, hf.trans (hf2.mono (by decide) (by decide) (by decide) (by decide)), Or.inr ⟨rfl, Or.inr ⟨p, cs, W, op, rfl, CFT.mk hR2 hQ2 ((hf2.1 106 (by decide)).trans h106) ((hf2.1 54 (by decide)).trans h54) hi0 hx⟩⟩⟩
                · skip
                  exact absurd h196 c25
            · skip
              exact absurd h134 wo
          · skip
            exact absurd h84 wa
/-- a square is closed, from 23 on -/
theorem got23 {cs W : List Nat} {op k p a0 e0 : Nat} {r : Ou} {s1 : MS} (hS : ShM g M o) (hp : skip f n p = p) (hC : CFT s1 f n x a0 e0 (false, p, cs, W, op)) (hl : lookO f n p = some 93) (h25 : 25 ∈ W) (hf : FQ s s1)
    (hk : ∀ s2, CFT s2 f n x a0 e0 (false, p + 1, cs ++ (popW gSq W).1 ++ (popW gN (popW gSq W).2.tail).1, (popW gN (popW gSq W).2.tail).2, op - 1 - (popW gN (popW gSq W).2.tail).1.length) → FQ s s2 → Bd g yX6_qGoesOnTest cX6_qGoesOnTest 1 (some Jvm.ClassFile.FieldType.boolean) [] 3 0 0 (putM M o s2) 0 [some (.ref o)] [] (QM M o (GtQ f n x a0 e0 k r s)) noX) :
    Bd g yX6_qGoesOnTest cX6_qGoesOnTest 1 (some Jvm.ClassFile.FieldType.boolean) [] 3 0 0 (putM M o s1) 23 [some (.ref o)] [] (QM M o (GtQ f n x a0 e0 k r s)) noX := by
  obtain ⟨hR, hQ, h106, h54, hi, hx⟩ := hC
  have hR : RP s1 f n p := hR
  have hQ : RQ s1 cs W op := hQ
  have hn := hR.1.2.2.2.1
  have hst : stpT f n x (false, p, cs, W, op) = .inl (false, p + 1, cs ++ (popW gSq W).1 ++ (popW gN (popW gSq W).2.tail).1, (popW gN (popW gSq W).2.tail).2, op - 1 - (popW gN (popW gSq W).2.tail).1.length) := by
    show stpV f n p cs W op = _
    unfold stpV
    rw [if_pos ⟨hl, h25⟩, hp]
  have hiC := stpT_inv (a0 := a0) hst hi
  obtain ⟨i1, i2, i3, i4, i5⟩ := hi
  have i1 : cs.length + W.length + a0 ≤ p := i1
  have i2 : p ≤ n := i2
  have i3 : cT W ≤ op := i3
  have i4 : op ≤ 6 := i4
  obtain ⟨f1, f2⟩ := lookO_some hl
  rw [hp] at f1 f2
  have e1 := sq_some h25
  have p1 := popW_len gSq W
  have p2 := cT_pop gSq W
  have p3 : (popW gSq W).2.length = (popW gSq W).2.tail.length + 1 := by rw [e1]; simp
  have p4 : cT (popW gSq W).2 = 1 + cT (popW gSq W).2.tail := by rw [e1, cT_cons]; simp
  have p6 := cT_pop gN (popW gSq W).2.tail
  have p7 := popN_len (popW gSq W).2.tail
  have hR1' : RP (tF s1 2 (nI (p + 1))) f n (p + 1) := hR.step f1 f2 (sgOk_all 93 (by decide)) rfl (by rintro i (rfl | rfl | rfl) <;> rfl) rfl rfl
  have hQ1' := hQ.fr (fr_at2 (s := s1) (v := nI (p + 1))) (by decide) (by decide)
  refine r_ald0 (pc := 23) dX6_qGoesOnTest_23 ?_
  refine r_dup (pc := 24) dX6_qGoesOnTest_24 rfl ?_
  refine m_getI hS (pc := 25) dX6_qGoesOnTest_25 fl_X6_243 ?_
  refine Bd.eqI hR.1.2.1 ?_
  refine r_iconst (v := nI 1) (pc := 28) dX6_qGoesOnTest_28 (by decide) ?_
  first | refine r_iaddN (pc := 29) dX6_qGoesOnTest_29 ?_ | refine r_iaddJ (pc := 29) dX6_qGoesOnTest_29 ?_ | refine r_iadd (pc := 29) dX6_qGoesOnTest_29 ?_
  refine m_putI hS (pc := 30) dX6_qGoesOnTest_30 fl_X6_243 fw_X6_2 rfl rfl ?_
  refine dropSq (s := tF s1 2 (nI (p + 1))) hS W cs _ h25 hQ1' Fr.rf (fun s4 hQ4 hf4 => ?_)
  rw [e1] at hQ4
  have hl4 : mF s4 104 = nI ((popW gSq W).2.tail.length + 1) := hQ4.2.2.1
  have hq7 : (cs ++ (popW gSq W).1).length + ((popW gSq W).2.tail.length + 1) ≤ 1601 := hQ4.2.2.2.2.2.2
  have hR4 := hR1'.fr hf4 (by decide) (by decide)
  have hF6 : Fr [104, 105] [] [] [] s4 (tF (tF s4 104 (nI (popW gSq W).2.tail.length)) 105 (nI (op - 1))) := Fr.tF (Fr.tF Fr.rf (by decide)) (by decide)
  have hR6 := hR4.fr hF6 (by decide) (by decide)
  have hQ6 : RQ (tF (tF s4 104 (nI (popW gSq W).2.tail.length)) 105 (nI (op - 1))) (cs ++ (popW gSq W).1) (popW gSq W).2.tail (op - 1) := ⟨hQ4.1, hQ4.2.1, rfl, hQ4.2.2.2.1.2, rfl, fun u hu => hQ4.2.2.2.2.2.1 u (List.mem_cons_of_mem _ hu), by omega⟩
  have hf6 : FQ s (tF (tF s4 104 (nI (popW gSq W).2.tail.length)) 105 (nI (op - 1))) := (Fr.tF hf (by decide)).trans ((hf4.mono (by decide) (by decide) (by decide) (by decide)).trans (hF6.mono (by decide) (by decide) (by decide) (by decide)))
  refine r_ald0 (pc := 49) dX6_qGoesOnTest_49 ?_
  refine r_dup (pc := 50) dX6_qGoesOnTest_50 rfl ?_
  refine m_getI hS (pc := 51) dX6_qGoesOnTest_51 fl_X6_330 ?_
  refine Bd.eqI hl4 ?_
  refine r_iconst (v := nI 1) (pc := 54) dX6_qGoesOnTest_54 (by decide) ?_
  refine r_isubN (pc := 55) dX6_qGoesOnTest_55 (by omega) ?_
  rw [Nat.add_sub_cancel]
  refine m_putI hS (pc := 56) dX6_qGoesOnTest_56 fl_X6_330 fw_X6_104 rfl rfl ?_
  refine r_ald0 (pc := 59) dX6_qGoesOnTest_59 ?_
  refine r_dup (pc := 60) dX6_qGoesOnTest_60 rfl ?_
  refine m_getI hS (pc := 61) dX6_qGoesOnTest_61 fl_X6_333 ?_
  refine Bd.eqI (x' := nI op) hQ4.2.2.2.2.1 ?_
  refine r_iconst (v := nI 1) (pc := 64) dX6_qGoesOnTest_64 (by decide) ?_
  refine r_isubN (pc := 65) dX6_qGoesOnTest_65 (by omega) ?_
  refine m_putI hS (pc := 66) dX6_qGoesOnTest_66 fl_X6_333 fw_X6_105 rfl rfl ?_
  refine r_ald0 (pc := 69) dX6_qGoesOnTest_69 ?_
  refine r_cV (pc := 70) dX6_qGoesOnTest_70 cv_X6_644 hS.k (ct_X6_qDropsNots hS hQ6 hR6.2.1 (by omega) (by omega)) rfl rfl (Nat.le_of_ble_eq_true rfl) (by decide) ?_
  rintro _ _ ⟨s7, rfl, rfl, hQ7, hf7⟩
  refine r_goto (pc := 73) (tgt := 0) dX6_qGoesOnTest_73 (by decide) ?_
  exact hk s7 (CFT.mk (hR6.fr hf7 (by decide) (by decide)) hQ7 ((hf7.1 106 (by decide)).trans ((hF6.1 106 (by decide)).trans ((hf4.1 106 (by decide)).trans h106))) ((hf7.1 54 (by decide)).trans ((hF6.1 54 (by decide)).trans ((hf4.1 54 (by decide)).trans h54))) hiC hx) (hf6.trans (hf7.mono (by decide) (by decide) (by decide) (by decide)))
theorem gotLoop {r : Ou} {a0 e0 : Nat} (hS : ShM g M o) : ∀ (k a : Nat) (cs W : List Nat) (op : Nat) (s1 : MS), CFT s1 f n x a0 e0 (false, a, cs, W, op) → runT f n x k (false, a, cs, W, op) = some r → FQ s s1 →
    Bd g yX6_qGoesOnTest cX6_qGoesOnTest 1 (some Jvm.ClassFile.FieldType.boolean) [] 3 0 0 (putM M o s1) 0 [some (.ref o)] [] (QM M o (GtQ f n x a0 e0 k r s)) noX := by
  intro k
  induction k with
  | zero => intro a cs W op s1 hC hrun hf; cases hrun
  | succ k ih =>
    intro a cs W op s1 hC hrun hf
    obtain ⟨hR, hQ, h106, h54, hi, hx⟩ := hC
    have hR : RP s1 f n a := hR
    have hQ : RQ s1 cs W op := hQ
    have hp := skip_idem f n a
    have hsl := skip_le (f := f) hR.1.2.2.1
    have hsg := skip_ge f n a
    obtain ⟨i1, i2, i3, i4, i5⟩ := hi
    have i1 : cs.length + W.length + a0 ≤ a := i1
    have hiP : iT n a0 (false, skip f n a, cs, W, op) := ⟨(by show cs.length + W.length + a0 ≤ skip f n a; omega), hsl, i3, i4, i5⟩
    have hstP : stpT f n x (false, skip f n a, cs, W, op) = stpT f n x (false, a, cs, W, op) := stpV_skip a cs W op
    have hrunP : runT f n x (k + 1) (false, skip f n a, cs, W, op) = some r := by
      show (match stpT f n x (false, skip f n a, cs, W, op) with | .inl d => runT f n x k d | .inr r => some r) = _
      rw [hstP]; exact hrun
    have hlk := ct_X6_lookP hS hR
    have hCP : ∀ s2, RP s2 f n (skip f n a) → Fr [2] [] [] [] s1 s2 → CFT s2 f n x a0 e0 (false, skip f n a, cs, W, op) := fun s2 hR2 hf2 => CFT.mk hR2 (hQ.fr hf2 (by decide) (by decide)) ((hf2.1 106 (by decide)).trans h106) ((hf2.1 54 (by decide)).trans h54) hiP hx
    by_cases hl : lookO f n a = some 93
    · have hlP : lookO f n (skip f n a) = some 93 := by rw [lookO_skip]; exact hl
      rw [hl] at hlk
      rw [show oI (some 93) = nI 93 from rfl] at hlk
      by_cases c25 : 25 ∈ W
      · have hst : stpT f n x (false, skip f n a, cs, W, op) = .inl (false, skip f n a + 1, cs ++ (popW gSq W).1 ++ (popW gN (popW gSq W).2.tail).1, (popW gN (popW gSq W).2.tail).2, op - 1 - (popW gN (popW gSq W).2.tail).1.length) := by
          show stpV f n (skip f n a) cs W op = _
          unfold stpV
          rw [if_pos ⟨hlP, c25⟩, hp]
        have hcl : ∀ s2, RP s2 f n (skip f n a) → Fr [2] [] [] [] s1 s2 → Bd g yX6_qGoesOnTest cX6_qGoesOnTest 1 (some Jvm.ClassFile.FieldType.boolean) [] 3 0 0 (putM M o s2) 23 [some (.ref o)] [] (QM M o (GtQ f n x a0 e0 (k + 1) r s)) noX := by
          intro s2 hR2 hf2
          refine got23 hS hp (hCP s2 hR2 hf2) hlP c25 (hf.trans (hf2.mono (by decide) (by decide) (by decide) (by decide))) (fun s3 hC3 hf3 => ?_)
          have hrun3 : runT f n x k (false, skip f n a + 1, cs ++ (popW gSq W).1 ++ (popW gN (popW gSq W).2.tail).1, (popW gN (popW gSq W).2.tail).2, op - 1 - (popW gN (popW gSq W).2.tail).1.length) = some r := by
            have h : (match stpT f n x (false, skip f n a, cs, W, op) with | .inl d => runT f n x k d | .inr r => some r) = some r := hrunP
            rw [hst] at h; exact h
          refine Bd.post ?_ (fun _ _ h => h) (ih _ _ _ _ s3 hC3 hrun3 hf3)
          rintro v M' ⟨s9, rfl, h9⟩
          exact ⟨s9, rfl, h9.mono (Nat.le_succ _)⟩
        refine r_ald0 (pc := 0) dX6_qGoesOnTest_0 ?_
        refine m_getI hS (pc := 1) dX6_qGoesOnTest_1 fl_X6_237 ?_
        refine Bd.eqI hR.2.1 ?_
        first | refine r_if_neZ (pc := 4) (tgt := 76) dX6_qGoesOnTest_4 (by decide) (fun h4 => ?_) (fun h4 => ?_) | refine r_if_neN (pc := 4) (tgt := 76) dX6_qGoesOnTest_4 (by decide) (by omega) (fun h4 => ?_) (fun h4 => ?_) | refine r_if_ne (pc := 4) (tgt := 76) dX6_qGoesOnTest_4 (by decide) (fun h4 => ?_) (fun h4 => ?_)
        · skip
          exact absurd rfl h4
        · skip
          refine r_ald0 (pc := 7) dX6_qGoesOnTest_7 ?_
          refine r_cV (pc := 8) dX6_qGoesOnTest_8 cv_X6_249 hS.k hlk rfl rfl (Nat.le_of_ble_eq_true rfl) (by decide) ?_
          rintro _ _ ⟨s2, rfl, rfl, hR2, hf2⟩
          refine r_bipush (v := nI 93) (pc := 11) dX6_qGoesOnTest_11 (by decide) ?_
          first | refine r_icmp_neN (pc := 13) (tgt := 76) dX6_qGoesOnTest_13 (by decide) (by omega) (by omega) (fun h13 => ?_) (fun h13 => ?_) | refine r_icmp_ne (pc := 13) (tgt := 76) dX6_qGoesOnTest_13 (by decide) (fun h13 => ?_) (fun h13 => ?_)
          · skip
            exact absurd rfl h13
          · skip
            refine r_ald0 (pc := 16) dX6_qGoesOnTest_16 ?_
            refine r_cV (pc := 17) dX6_qGoesOnTest_17 cv_X6_650 hS.k (ct_X6_qHasSquare hS (hQ.fr hf2 (by decide) (by decide))) rfl rfl (Nat.le_of_ble_eq_true rfl) (by decide) ?_
            rintro _ _ ⟨rfl, rfl⟩
            first | refine r_if_eqZ (pc := 20) (tgt := 76) dX6_qGoesOnTest_20 (by decide) (fun h20 => ?_) (fun h20 => ?_) | refine r_if_eqN (pc := 20) (tgt := 76) dX6_qGoesOnTest_20 (by decide) (by omega) (fun h20 => ?_) (fun h20 => ?_) | refine r_if_eq (pc := 20) (tgt := 76) dX6_qGoesOnTest_20 (by decide) (fun h20 => ?_) (fun h20 => ?_)
            · skip
              exact absurd c25 h20
            · skip
              exact hcl s2 hR2 hf2
      · skip
        refine r_ald0 (pc := 0) dX6_qGoesOnTest_0 ?_
        refine m_getI hS (pc := 1) dX6_qGoesOnTest_1 fl_X6_237 ?_
        refine Bd.eqI hR.2.1 ?_
        first | refine r_if_neZ (pc := 4) (tgt := 76) dX6_qGoesOnTest_4 (by decide) (fun h4 => ?_) (fun h4 => ?_) | refine r_if_neN (pc := 4) (tgt := 76) dX6_qGoesOnTest_4 (by decide) (by omega) (fun h4 => ?_) (fun h4 => ?_) | refine r_if_ne (pc := 4) (tgt := 76) dX6_qGoesOnTest_4 (by decide) (fun h4 => ?_) (fun h4 => ?_)
        · skip
          exact absurd rfl h4
        · skip
          refine r_ald0 (pc := 7) dX6_qGoesOnTest_7 ?_
          refine r_cV (pc := 8) dX6_qGoesOnTest_8 cv_X6_249 hS.k hlk rfl rfl (Nat.le_of_ble_eq_true rfl) (by decide) ?_
          rintro _ _ ⟨s2, rfl, rfl, hR2, hf2⟩
          refine r_bipush (v := nI 93) (pc := 11) dX6_qGoesOnTest_11 (by decide) ?_
          first | refine r_icmp_neN (pc := 13) (tgt := 76) dX6_qGoesOnTest_13 (by decide) (by omega) (by omega) (fun h13 => ?_) (fun h13 => ?_) | refine r_icmp_ne (pc := 13) (tgt := 76) dX6_qGoesOnTest_13 (by decide) (fun h13 => ?_) (fun h13 => ?_)
          · skip
            exact absurd rfl h13
          · skip
            refine r_ald0 (pc := 16) dX6_qGoesOnTest_16 ?_
            refine r_cV (pc := 17) dX6_qGoesOnTest_17 cv_X6_650 hS.k (ct_X6_qHasSquare hS (hQ.fr hf2 (by decide) (by decide))) rfl rfl (Nat.le_of_ble_eq_true rfl) (by decide) ?_
            rintro _ _ ⟨rfl, rfl⟩
            first | refine r_if_eqZ (pc := 20) (tgt := 76) dX6_qGoesOnTest_20 (by decide) (fun h20 => ?_) (fun h20 => ?_) | refine r_if_eqN (pc := 20) (tgt := 76) dX6_qGoesOnTest_20 (by decide) (by omega) (fun h20 => ?_) (fun h20 => ?_) | refine r_if_eq (pc := 20) (tgt := 76) dX6_qGoesOnTest_20 (by decide) (fun h20 => ?_) (fun h20 => ?_)
            · skip
              exact got76 hS hp (hCP s2 hR2 hf2) hrunP (hf.trans (hf2.mono (by decide) (by decide) (by decide) (by decide))) (fun q => c25 q.2)
            · skip
              exact absurd h20 c25
    · skip
      refine r_ald0 (pc := 0) dX6_qGoesOnTest_0 ?_
      refine m_getI hS (pc := 1) dX6_qGoesOnTest_1 fl_X6_237 ?_
      refine Bd.eqI hR.2.1 ?_
      first | refine r_if_neZ (pc := 4) (tgt := 76) dX6_qGoesOnTest_4 (by decide) (fun h4 => ?_) (fun h4 => ?_) | refine r_if_neN (pc := 4) (tgt := 76) dX6_qGoesOnTest_4 (by decide) (by omega) (fun h4 => ?_) (fun h4 => ?_) | refine r_if_ne (pc := 4) (tgt := 76) dX6_qGoesOnTest_4 (by decide) (fun h4 => ?_) (fun h4 => ?_)
      · skip
        exact absurd rfl h4
      · skip
        refine r_ald0 (pc := 7) dX6_qGoesOnTest_7 ?_
        refine r_cV (pc := 8) dX6_qGoesOnTest_8 cv_X6_249 hS.k hlk rfl rfl (Nat.le_of_ble_eq_true rfl) (by decide) ?_
        rintro _ _ ⟨s2, rfl, rfl, hR2, hf2⟩
        refine r_bipush (v := nI 93) (pc := 11) dX6_qGoesOnTest_11 (by decide) ?_
        refine r_icmp_ne (pc := 13) (tgt := 76) dX6_qGoesOnTest_13 (by decide) (fun h13 => ?_) (fun h13 => ?_)
        · skip
          exact got76 hS hp (hCP s2 hR2 hf2) hrunP (hf.trans (hf2.mono (by decide) (by decide) (by decide) (by decide))) (by rw [lookO_skip]; exact fun q => hl q.1)
        · skip
          exact absurd (oI_inj (fun c hc => by have := (lookO_lt hR hc).1; omega) (by decide) h13) hl
theorem ct_X6_qGoesOnTest {cs W : List Nat} {op k a0 e0 : Nat} {r : Ou} (hS : ShM g M o) (hC : CFT s f n x a0 e0 (false, a, cs, W, op)) (hrun : runT f n x k (false, a, cs, W, op) = some r) :
    Ct g yX6_qGoesOnTest cX6_qGoesOnTest 1 (some Jvm.ClassFile.FieldType.boolean) 3 0 0 [.ref o] (putM M o s) (QM M o (GtQ f n x a0 e0 k r s)) noX := by
  refine Ct.of (by decide) (Nat.le_of_ble_eq_true rfl) rfl ?_
  exact gotLoop hS k a cs W op s hC hrun Fr.rf
/-- what is told behind a test -/
def TuQ (f : Nat → Nat) (n a0 : Nat) (s' : MS) : Ou → Prop
  | .error e => bQ2 s' e
  | .ok z => RP s' f n z.1 ∧ RQ s' z.2.1 [] z.2.2 ∧ z.2.1.length + a0 ≤ z.1
theorem testBad {r : Ou} {a0 : Nat} {e : Nat × Nat} {s1 : MS} {w1 : Int32} {w2 : Option Value} (hS : ShM g M o) (hr : r = .error e) (hB : bQ2 s1 e) (hf : FQ s s1) :
    Bd g yX6_qTest cX6_qTest 3 none [] 8 0 0 (putM M o s1) 2 [some (.ref o), some (.int w1), w2] [] (QM M o (fun v s' => v = none ∧ FQ s s' ∧ TuQ f n a0 s' r)) noX := by
  subst hr
  have hb := hB.1.ne
  refine r_ild1 (pc := 2) dX6_qTest_2 ?_
  refine r_if_eq (pc := 3) (tgt := 110) dX6_qTest_3 (by decide) (fun h3 => ?_) (fun h3 => ?_)
  · skip
    refine r_ald0 (pc := 110) dX6_qTest_110 ?_
    refine m_getI hS (pc := 111) dX6_qTest_111 fl_X6_237 ?_
    refine r_if_ne (pc := 114) (tgt := 131) dX6_qTest_114 (by decide) (fun h114 => ?_) (fun h114 => ?_)
    · skip
      refine r_vret (pc := 131) dX6_qTest_131 ?_
      exact ⟨_, rfl, rfl, hf, hB⟩
    · skip
      exact absurd h114 hb
  · skip
    refine r_ald0 (pc := 6) dX6_qTest_6 ?_
    refine m_getI hS (pc := 7) dX6_qTest_7 fl_X6_237 ?_
    refine r_if_ne (pc := 10) (tgt := 110) dX6_qTest_10 (by decide) (fun h10 => ?_) (fun h10 => ?_)
    · skip
      refine r_ald0 (pc := 110) dX6_qTest_110 ?_
      refine m_getI hS (pc := 111) dX6_qTest_111 fl_X6_237 ?_
      refine r_if_ne (pc := 114) (tgt := 131) dX6_qTest_114 (by decide) (fun h114 => ?_) (fun h114 => ?_)
      · skip
        refine r_vret (pc := 131) dX6_qTest_131 ?_
        exact ⟨_, rfl, rfl, hf, hB⟩
      · skip
        exact absurd h114 hb
    · skip
      exact absurd h10 hb
theorem testDrop {op p a0 : Nat} {w1 w2 : Option Value} (hS : ShM g M o) :
    ∀ (W cs : List Nat) (s1 : MS), RP s1 f n p → RQ s1 cs W op → cs.length + W.length + a0 ≤ p → FQ s s1 → Bd g yX6_qTest cX6_qTest 3 none [] 8 0 0 (putM M o s1) 110 [some (.ref o), w1, w2] [] (QM M o (fun v s' => v = none ∧ FQ s s' ∧ TuQ f n a0 s' (.ok (p, cs ++ W, op)))) noX := by
  intro W
  induction W with
  | nil =>
    intro cs s1 hR hQ hl hf
    rw [List.append_nil]
    have k3 : mF s1 104 = nI 0 := hQ.2.2.1
    refine r_ald0 (pc := 110) dX6_qTest_110 ?_
    refine m_getI hS (pc := 111) dX6_qTest_111 fl_X6_237 ?_
    refine Bd.eqI hR.2.1 ?_
    first | refine r_if_neZ (pc := 114) (tgt := 131) dX6_qTest_114 (by decide) (fun h114 => ?_) (fun h114 => ?_) | refine r_if_neN (pc := 114) (tgt := 131) dX6_qTest_114 (by decide) (by omega) (fun h114 => ?_) (fun h114 => ?_) | refine r_if_ne (pc := 114) (tgt := 131) dX6_qTest_114 (by decide) (fun h114 => ?_) (fun h114 => ?_)
    · skip
      exact absurd rfl h114
    · skip
      refine r_ald0 (pc := 117) dX6_qTest_117 ?_
      refine m_getI hS (pc := 118) dX6_qTest_118 fl_X6_330 ?_
      refine Bd.eqI k3 ?_
      first | refine r_if_leN (pc := 121) (tgt := 131) dX6_qTest_121 (by decide) (by omega) (fun h121 => ?_) (fun h121 => ?_) | refine r_if_le (pc := 121) (tgt := 131) dX6_qTest_121 (by decide) (fun h121 => ?_) (fun h121 => ?_)
      · skip
        refine r_vret (pc := 131) dX6_qTest_131 ?_
        exact ⟨_, rfl, rfl, hf, hR, hQ, hl⟩
      · skip
        exact absurd h121 (by omega)
  | cons v W ih =>
    intro cs s1 hR hQ hl hf
    have k3 : mF s1 104 = nI (W.length + 1) := hQ.2.2.1
    have k7 : cs.length + (W.length + 1) ≤ 1601 := hQ.2.2.2.2.2.2
    have hl : cs.length + (W.length + 1) + a0 ≤ p := hl
    refine r_ald0 (pc := 110) dX6_qTest_110 ?_
    refine m_getI hS (pc := 111) dX6_qTest_111 fl_X6_237 ?_
    refine Bd.eqI hR.2.1 ?_
    first | refine r_if_neZ (pc := 114) (tgt := 131) dX6_qTest_114 (by decide) (fun h114 => ?_) (fun h114 => ?_) | refine r_if_neN (pc := 114) (tgt := 131) dX6_qTest_114 (by decide) (by omega) (fun h114 => ?_) (fun h114 => ?_) | refine r_if_ne (pc := 114) (tgt := 131) dX6_qTest_114 (by decide) (fun h114 => ?_) (fun h114 => ?_)
    · skip
      exact absurd rfl h114
    · skip
      refine r_ald0 (pc := 117) dX6_qTest_117 ?_
      refine m_getI hS (pc := 118) dX6_qTest_118 fl_X6_330 ?_
      refine Bd.eqI k3 ?_
      first | refine r_if_leN (pc := 121) (tgt := 131) dX6_qTest_121 (by decide) (by omega) (fun h121 => ?_) (fun h121 => ?_) | refine r_if_le (pc := 121) (tgt := 131) dX6_qTest_121 (by decide) (fun h121 => ?_) (fun h121 => ?_)
      · skip
        exact absurd h121 (by omega)
      · skip
        refine r_ald0 (pc := 124) dX6_qTest_124 ?_
        refine r_cV (pc := 125) dX6_qTest_125 cv_X6_605 hS.k (ct_X6_qDrops hS hQ) rfl rfl (Nat.le_of_ble_eq_true rfl) (by decide) ?_
        rintro _ _ ⟨s2, rfl, rfl, hQ2, hf2⟩
        refine r_goto (pc := 128) (tgt := 110) dX6_qTest_128 (by decide) ?_
        have hih := ih (cs ++ [v]) s2 (hR.fr hf2 (by decide) (by decide)) hQ2 (by rw [List.length_append]; show cs.length + 1 + W.length + a0 ≤ p; omega) (hf.trans (hf2.mono (by decide) (by decide) (by decide) (by decide)))
        rw [List.append_assoc] at hih
        exact hih
theorem testLoop {r : Ou} {a0 e0 : Nat} (hS : ShM g M o) :
    ∀ (k : Nat) (c : Cf) (s1 : MS) (w2 : Option Value), c.1 = true → CFT s1 f n x a0 e0 c → runT f n x k c = some r → FQ s s1 → Bd g yX6_qTest cX6_qTest 3 none [] 8 0 0 (putM M o s1) 2 [some (.ref o), some (.int (nI 1)), w2] [] (QM M o (fun v s' => v = none ∧ FQ s s' ∧ TuQ f n a0 s' r)) noX := by
  intro k
  induction k using Nat.strongRecOn with
  | _ k ih =>
    rintro ⟨m, a, cs, W, op⟩ s1 w2 hm hC hrun hf
    cases hm
    obtain ⟨hR, hQ, h106, h54, hi, hx⟩ := hC
    have hR : RP s1 f n a := hR
    have hQ : RQ s1 cs W op := hQ
    have hn := hR.1.2.2.2.1
    have hp := skip_idem f n a
    have hsl := skip_le (f := f) hR.1.2.2.1
    have hsg := skip_ge f n a
    have hi0 := hi
    obtain ⟨i1, i2, i3, i4, i5⟩ := hi
    have i1 : cs.length + W.length + a0 ≤ a := i1
    have i3 : cT W ≤ op := i3
    have i4 : op ≤ 6 := i4
    have hlN : (popW gN W).1.length ≤ op := by have := popN_len W; have := cT_pop gN W; omega
    obtain ⟨k1, rfl, hr2⟩ := runT_some hrun
    have hstp : stpT f n x (true, a, cs, W, op) = stpU f n x a cs W op := rfl
    have hlk := ct_X6_lookP hS hR
    have hl1 : cs.length + (W.length + 1) ≤ 1601 := by omega
    by_cases l91 : lookO f n a = some 91
    · obtain ⟨l1, l2⟩ := lookO_some l91
      rw [l91] at hlk
      rw [show oI (some 91) = nI 91 from rfl] at hlk
      have hst : stpT f n x (true, a, cs, W, op) = if op = 6 then .inr (.error (4, skip f n a)) else .inl (true, skip f n a + 1, cs, 25 :: W, op + 1) := by
        rw [hstp]; unfold stpU; rw [if_pos l91]
      by_cases e6 : op = 6
      · rw [if_pos e6] at hst
        rw [hst] at hr2
        rcases hr2 with ⟨d, hd, hrun2⟩ | hd
        · cases hd
        · cases hd
          refine r_ild1 (pc := 2) dX6_qTest_2 ?_
          refine r_if_eqN (pc := 3) (tgt := 110) dX6_qTest_3 (by decide) (by omega) (fun h3 => ?_) (fun h3 => ?_)
          · skip
            exact absurd h3 (by decide)
          · skip
            refine r_ald0 (pc := 6) dX6_qTest_6 ?_
            refine m_getI hS (pc := 7) dX6_qTest_7 fl_X6_237 ?_
            refine Bd.eqI hR.2.1 ?_
            first | refine r_if_neZ (pc := 10) (tgt := 110) dX6_qTest_10 (by decide) (fun h10 => ?_) (fun h10 => ?_) | refine r_if_neN (pc := 10) (tgt := 110) dX6_qTest_10 (by decide) (by omega) (fun h10 => ?_) (fun h10 => ?_) | refine r_if_ne (pc := 10) (tgt := 110) dX6_qTest_10 (by decide) (fun h10 => ?_) (fun h10 => ?_)
            · skip
              exact absurd rfl h10
            · skip
              refine r_ald0 (pc := 13) dX6_qTest_13 ?_
              refine r_cV (pc := 14) dX6_qTest_14 cv_X6_249 hS.k hlk rfl rfl (Nat.le_of_ble_eq_true rfl) (by decide) ?_
              rintro _ _ ⟨s2, rfl, rfl, hR2, hf2⟩
              refine r_ist2 (pc := 17) dX6_qTest_17 ?_
              refine r_ild2 (pc := 18) dX6_qTest_18 ?_
              refine r_bipush (v := nI 91) (pc := 19) dX6_qTest_19 (by decide) ?_
              first | refine r_icmp_neN (pc := 21) (tgt := 47) dX6_qTest_21 (by decide) (by omega) (by omega) (fun h21 => ?_) (fun h21 => ?_) | refine r_icmp_ne (pc := 21) (tgt := 47) dX6_qTest_21 (by decide) (fun h21 => ?_) (fun h21 => ?_)
              · skip
                exact absurd rfl h21
              · skip
                refine r_ald0 (pc := 24) dX6_qTest_24 ?_
                refine r_bipush (v := nI 25) (pc := 25) dX6_qTest_25 (by decide) ?_
                refine r_ald0 (pc := 27) dX6_qTest_27 ?_
                refine m_getI hS (pc := 28) dX6_qTest_28 fl_X6_243 ?_
                refine Bd.eqI hR2.1.2.1 ?_
                refine r_cV (pc := 31) dX6_qTest_31 cv_X6_617 hS.k (ct_X6_qOpens hS hR2.2.1 (hQ.fr hf2 (by decide) (by decide)) (by decide) i4 (by omega) hl1) rfl rfl (Nat.le_of_ble_eq_true rfl) (by decide) ?_
                rintro _ _ ⟨s4, rfl, rfl, hO, hf4⟩
                rw [if_pos e6] at hO
                refine r_ald0 (pc := 34) dX6_qTest_34 ?_
                refine r_dup (pc := 35) dX6_qTest_35 rfl ?_
                refine m_getI hS (pc := 36) dX6_qTest_36 fl_X6_243 ?_
                refine Bd.eqI (x' := nI (skip f n a)) ((hf4.1 2 (by decide)).trans hR2.1.2.1) ?_
                refine r_iconst (v := nI 1) (pc := 39) dX6_qTest_39 (by decide) ?_
                first | refine r_iaddN (pc := 40) dX6_qTest_40 ?_ | refine r_iaddJ (pc := 40) dX6_qTest_40 ?_ | refine r_iadd (pc := 40) dX6_qTest_40 ?_
                refine m_putI hS (pc := 41) dX6_qTest_41 fl_X6_243 fw_X6_2 rfl rfl ?_
                refine r_goto (pc := 44) (tgt := 2) dX6_qTest_44 (by decide) ?_
                exact testBad hS rfl ⟨hO.1.fr fr_at2 (by decide), cs.length, by omega, hO.2.1⟩ (Fr.tF (hf.trans ((hf2.mono (by decide) (by decide) (by decide) (by decide)).trans (hf4.mono (by decide) (by decide) (by decide) (by decide)))) (by decide))
      · rw [if_neg e6] at hst
        have hiC := stpT_inv (a0 := a0) hst hi0
        rw [hst] at hr2
        rcases hr2 with ⟨d, hd, hrun2⟩ | hd
        · cases hd
          refine r_ild1 (pc := 2) dX6_qTest_2 ?_
          refine r_if_eqN (pc := 3) (tgt := 110) dX6_qTest_3 (by decide) (by omega) (fun h3 => ?_) (fun h3 => ?_)
          · skip
            exact absurd h3 (by decide)
          · skip
            refine r_ald0 (pc := 6) dX6_qTest_6 ?_
            refine m_getI hS (pc := 7) dX6_qTest_7 fl_X6_237 ?_
            refine Bd.eqI hR.2.1 ?_
            first | refine r_if_neZ (pc := 10) (tgt := 110) dX6_qTest_10 (by decide) (fun h10 => ?_) (fun h10 => ?_) | refine r_if_neN (pc := 10) (tgt := 110) dX6_qTest_10 (by decide) (by omega) (fun h10 => ?_) (fun h10 => ?_) | refine r_if_ne (pc := 10) (tgt := 110) dX6_qTest_10 (by decide) (fun h10 => ?_) (fun h10 => ?_)
            · skip
              exact absurd rfl h10
            · skip
              refine r_ald0 (pc := 13) dX6_qTest_13 ?_
              refine r_cV (pc := 14) dX6_qTest_14 cv_X6_249 hS.k hlk rfl rfl (Nat.le_of_ble_eq_true rfl) (by decide) ?_
              rintro _ _ ⟨s2, rfl, rfl, hR2, hf2⟩
              refine r_ist2 (pc := 17) dX6_qTest_17 ?_
              refine r_ild2 (pc := 18) dX6_qTest_18 ?_
              refine r_bipush (v := nI 91) (pc := 19) dX6_qTest_19 (by decide) ?_
              first | refine r_icmp_neN (pc := 21) (tgt := 47) dX6_qTest_21 (by decide) (by omega) (by omega) (fun h21 => ?_) (fun h21 => ?_) | refine r_icmp_ne (pc := 21) (tgt := 47) dX6_qTest_21 (by decide) (fun h21 => ?_) (fun h21 => ?_)
              · skip
                exact absurd rfl h21
              · skip
                refine r_ald0 (pc := 24) dX6_qTest_24 ?_
                refine r_bipush (v := nI 25) (pc := 25) dX6_qTest_25 (by decide) ?_
                refine r_ald0 (pc := 27) dX6_qTest_27 ?_
                refine m_getI hS (pc := 28) dX6_qTest_28 fl_X6_243 ?_
                refine Bd.eqI hR2.1.2.1 ?_
                refine r_cV (pc := 31) dX6_qTest_31 cv_X6_617 hS.k (ct_X6_qOpens hS hR2.2.1 (hQ.fr hf2 (by decide) (by decide)) (by decide) i4 (by omega) hl1) rfl rfl (Nat.le_of_ble_eq_true rfl) (by decide) ?_
                rintro _ _ ⟨s4, rfl, rfl, hO, hf4⟩
                rw [if_neg e6] at hO
                have hR4 := hR2.fr5 hf4 hO.2 (by decide) (by decide)
                refine r_ald0 (pc := 34) dX6_qTest_34 ?_
                refine r_dup (pc := 35) dX6_qTest_35 rfl ?_
                refine m_getI hS (pc := 36) dX6_qTest_36 fl_X6_243 ?_
                refine Bd.eqI (x' := nI (skip f n a)) hR4.1.2.1 ?_
                refine r_iconst (v := nI 1) (pc := 39) dX6_qTest_39 (by decide) ?_
                first | refine r_iaddN (pc := 40) dX6_qTest_40 ?_ | refine r_iaddJ (pc := 40) dX6_qTest_40 ?_ | refine r_iadd (pc := 40) dX6_qTest_40 ?_
                refine m_putI hS (pc := 41) dX6_qTest_41 fl_X6_243 fw_X6_2 rfl rfl ?_
                refine r_goto (pc := 44) (tgt := 2) dX6_qTest_44 (by decide) ?_
                exact ih k1 (Nat.lt_succ_self _) _ _ _ rfl (CFT.mk (hR4.step l1 l2 (sgOk_all 91 (by decide)) rfl (by rintro i (rfl | rfl | rfl) <;> rfl) rfl rfl) (hO.1.fr fr_at2 (by decide) (by decide)) ((hf4.1 106 (by decide)).trans ((hf2.1 106 (by decide)).trans h106)) ((hf4.1 54 (by decide)).trans ((hf2.1 54 (by decide)).trans h54)) hiC hx) hrun2 (Fr.tF (hf.trans ((hf2.mono (by decide) (by decide) (by decide) (by decide)).trans (hf4.mono (by decide) (by decide) (by decide) (by decide)))) (by decide))
        · cases hd
    · by_cases wn : word f n (skip f n a) = some wNot
      · have hst : stpT f n x (true, a, cs, W, op) = if op = 6 then .inr (.error (4, skip f n a)) else .inl (true, skip f n a + 3, cs, 12 :: W, op + 1) := by
          rw [hstp]; unfold stpU; rw [if_neg l91, if_pos wn]
        by_cases e6 : op = 6
        · rw [if_pos e6] at hst
          rw [hst] at hr2
          rcases hr2 with ⟨d, hd, hrun2⟩ | hd
          · cases hd
          · cases hd
            refine r_ild1 (pc := 2) dX6_qTest_2 ?_
            refine r_if_eqN (pc := 3) (tgt := 110) dX6_qTest_3 (by decide) (by omega) (fun h3 => ?_) (fun h3 => ?_)
            · skip
              exact absurd h3 (by decide)
            · skip
              refine r_ald0 (pc := 6) dX6_qTest_6 ?_
              refine m_getI hS (pc := 7) dX6_qTest_7 fl_X6_237 ?_
              refine Bd.eqI hR.2.1 ?_
              first | refine r_if_neZ (pc := 10) (tgt := 110) dX6_qTest_10 (by decide) (fun h10 => ?_) (fun h10 => ?_) | refine r_if_neN (pc := 10) (tgt := 110) dX6_qTest_10 (by decide) (by omega) (fun h10 => ?_) (fun h10 => ?_) | refine r_if_ne (pc := 10) (tgt := 110) dX6_qTest_10 (by decide) (fun h10 => ?_) (fun h10 => ?_)
              · skip
                exact absurd rfl h10
              · skip
                refine r_ald0 (pc := 13) dX6_qTest_13 ?_
                refine r_cV (pc := 14) dX6_qTest_14 cv_X6_249 hS.k hlk rfl rfl (Nat.le_of_ble_eq_true rfl) (by decide) ?_
                rintro _ _ ⟨s2, rfl, rfl, hR2, hf2⟩
                refine r_ist2 (pc := 17) dX6_qTest_17 ?_
                refine r_ild2 (pc := 18) dX6_qTest_18 ?_
                refine r_bipush (v := nI 91) (pc := 19) dX6_qTest_19 (by decide) ?_
                refine r_icmp_ne (pc := 21) (tgt := 47) dX6_qTest_21 (by decide) (fun h21 => ?_) (fun h21 => ?_)
                · skip
                  refine r_ald0 (pc := 47) dX6_qTest_47 ?_
                  refine r_ald0 (pc := 48) dX6_qTest_48 ?_
                  refine m_getR hS (pc := 49) dX6_qTest_49 fl_X6_165 ar82 ?_
                  refine r_cV (pc := 52) dX6_qTest_52 cv_X6_260 hS.k (hereP hS hp hR2 ar82 (w := wNot) (by decide) hf2) rfl rfl (Nat.le_of_ble_eq_true rfl) (by decide) ?_
                  rintro _ _ ⟨s3, rfl, rfl, hR3, hf3⟩
                  first | refine r_if_eqZ (pc := 55) (tgt := 79) dX6_qTest_55 (by decide) (fun h55 => ?_) (fun h55 => ?_) | refine r_if_eqN (pc := 55) (tgt := 79) dX6_qTest_55 (by decide) (by omega) (fun h55 => ?_) (fun h55 => ?_) | refine r_if_eq (pc := 55) (tgt := 79) dX6_qTest_55 (by decide) (fun h55 => ?_) (fun h55 => ?_)
                  · skip
                    exact absurd wn h55
                  · skip
                    refine r_ald0 (pc := 58) dX6_qTest_58 ?_
                    refine r_bipush (v := nI 12) (pc := 59) dX6_qTest_59 (by decide) ?_
                    refine r_ald0 (pc := 61) dX6_qTest_61 ?_
                    refine m_getI hS (pc := 62) dX6_qTest_62 fl_X6_243 ?_
                    refine Bd.eqI hR3.1.2.1 ?_
                    refine r_cV (pc := 65) dX6_qTest_65 cv_X6_617 hS.k (ct_X6_qOpens hS hR3.2.1 (hQ.fr hf3 (by decide) (by decide)) (by decide) i4 (by omega) hl1) rfl rfl (Nat.le_of_ble_eq_true rfl) (by decide) ?_
                    rintro _ _ ⟨s4, rfl, rfl, hO, hf4⟩
                    rw [if_pos e6] at hO
                    refine r_ald0 (pc := 68) dX6_qTest_68 ?_
                    refine r_ald0 (pc := 69) dX6_qTest_69 ?_
                    refine m_getR hS (pc := 70) dX6_qTest_70 fl_X6_165 ar82 ?_
                    refine r_cV (pc := 73) dX6_qTest_73 cv_X6_309 hS.k (ct_X6_asksB (i := 0) hS hO.1.ne) rfl rfl (Nat.le_of_ble_eq_true rfl) (by decide) ?_
                    rintro _ _ ⟨rfl, rfl⟩
                    refine r_goto (pc := 76) (tgt := 2) dX6_qTest_76 (by decide) ?_
                    exact testBad hS rfl ⟨hO.1, cs.length, by omega, hO.2.1⟩ (hf.trans ((hf3.mono (by decide) (by decide) (by decide) (by decide)).trans (hf4.mono (by decide) (by decide) (by decide) (by decide))))
                · skip
                  exact absurd (oI_inj (fun c hc => by have := (lookO_lt hR hc).1; omega) (by decide) h21) l91
        · rw [if_neg e6] at hst
          have hiC := stpT_inv (a0 := a0) hst hi0
          rw [hst] at hr2
          rcases hr2 with ⟨d, hd, hrun2⟩ | hd
          · cases hd
            refine r_ild1 (pc := 2) dX6_qTest_2 ?_
            refine r_if_eqN (pc := 3) (tgt := 110) dX6_qTest_3 (by decide) (by omega) (fun h3 => ?_) (fun h3 => ?_)
            · skip
              exact absurd h3 (by decide)
            · skip
              refine r_ald0 (pc := 6) dX6_qTest_6 ?_
              refine m_getI hS (pc := 7) dX6_qTest_7 fl_X6_237 ?_
              refine Bd.eqI hR.2.1 ?_
              first | refine r_if_neZ (pc := 10) (tgt := 110) dX6_qTest_10 (by decide) (fun h10 => ?_) (fun h10 => ?_) | refine r_if_neN (pc := 10) (tgt := 110) dX6_qTest_10 (by decide) (by omega) (fun h10 => ?_) (fun h10 => ?_) | refine r_if_ne (pc := 10) (tgt := 110) dX6_qTest_10 (by decide) (fun h10 => ?_) (fun h10 => ?_)
              · skip
                exact absurd rfl h10
              · skip
                refine r_ald0 (pc := 13) dX6_qTest_13 ?_
                refine r_cV (pc := 14) dX6_qTest_14 cv_X6_249 hS.k hlk rfl rfl (Nat.le_of_ble_eq_true rfl) (by decide) ?_
                rintro _ _ ⟨s2, rfl, rfl, hR2, hf2⟩
                refine r_ist2 (pc := 17) dX6_qTest_17 ?_
                refine r_ild2 (pc := 18) dX6_qTest_18 ?_
                refine r_bipush (v := nI 91) (pc := 19) dX6_qTest_19 (by decide) ?_
                refine r_icmp_ne (pc := 21) (tgt := 47) dX6_qTest_21 (by decide) (fun h21 => ?_) (fun h21 => ?_)
                · skip
                  refine r_ald0 (pc := 47) dX6_qTest_47 ?_
                  refine r_ald0 (pc := 48) dX6_qTest_48 ?_
                  refine m_getR hS (pc := 49) dX6_qTest_49 fl_X6_165 ar82 ?_
                  refine r_cV (pc := 52) dX6_qTest_52 cv_X6_260 hS.k (hereP hS hp hR2 ar82 (w := wNot) (by decide) hf2) rfl rfl (Nat.le_of_ble_eq_true rfl) (by decide) ?_
                  rintro _ _ ⟨s3, rfl, rfl, hR3, hf3⟩
                  first | refine r_if_eqZ (pc := 55) (tgt := 79) dX6_qTest_55 (by decide) (fun h55 => ?_) (fun h55 => ?_) | refine r_if_eqN (pc := 55) (tgt := 79) dX6_qTest_55 (by decide) (by omega) (fun h55 => ?_) (fun h55 => ?_) | refine r_if_eq (pc := 55) (tgt := 79) dX6_qTest_55 (by decide) (fun h55 => ?_) (fun h55 => ?_)
                  · skip
                    exact absurd wn h55
                  · skip
                    refine r_ald0 (pc := 58) dX6_qTest_58 ?_
                    refine r_bipush (v := nI 12) (pc := 59) dX6_qTest_59 (by decide) ?_
                    refine r_ald0 (pc := 61) dX6_qTest_61 ?_
                    refine m_getI hS (pc := 62) dX6_qTest_62 fl_X6_243 ?_
                    refine Bd.eqI hR3.1.2.1 ?_
                    refine r_cV (pc := 65) dX6_qTest_65 cv_X6_617 hS.k (ct_X6_qOpens hS hR3.2.1 (hQ.fr hf3 (by decide) (by decide)) (by decide) i4 (by omega) hl1) rfl rfl (Nat.le_of_ble_eq_true rfl) (by decide) ?_
                    rintro _ _ ⟨s4, rfl, rfl, hO, hf4⟩
                    rw [if_neg e6] at hO
                    have hR4 := hR3.fr5 hf4 hO.2 (by decide) (by decide)
                    refine r_ald0 (pc := 68) dX6_qTest_68 ?_
                    refine r_ald0 (pc := 69) dX6_qTest_69 ?_
                    refine m_getR hS (pc := 70) dX6_qTest_70 fl_X6_165 ar82 ?_
                    refine r_cV (pc := 73) dX6_qTest_73 cv_X6_309 hS.k (ct_X6_asks hS hR4 ar82 (w := wNot) (by decide)) rfl rfl (Nat.le_of_ble_eq_true rfl) (by decide) ?_
                    rintro _ _ ⟨s5, rfl, rfl, hR5, hf5⟩
                    rw [kw_at hp wn] at hR5
                    refine r_goto (pc := 76) (tgt := 2) dX6_qTest_76 (by decide) ?_
                    exact ih k1 (Nat.lt_succ_self _) _ _ _ rfl (CFT.mk hR5 (hO.1.fr hf5 (by decide) (by decide)) ((hf5.1 106 (by decide)).trans ((hf4.1 106 (by decide)).trans ((hf3.1 106 (by decide)).trans h106))) ((hf5.1 54 (by decide)).trans ((hf4.1 54 (by decide)).trans ((hf3.1 54 (by decide)).trans h54))) hiC hx) hrun2 (hf.trans ((hf3.mono (by decide) (by decide) (by decide) (by decide)).trans ((hf4.mono (by decide) (by decide) (by decide) (by decide)).trans (hf5.mono (by decide) (by decide) (by decide) (by decide)))))
                · skip
                  exact absurd (oI_inj (fun c hc => by have := (lookO_lt hR hc).1; omega) (by decide) h21) l91
          · cases hd
      · have hst : stpT f n x (true, a, cs, W, op) = match facM f n x op (skip f n a) with
            | .error e => .inr (.error e)
            | .ok y => .inl (false, y.2, cs ++ y.1 ++ (popW gN W).1, (popW gN W).2, op - (popW gN W).1.length) := by
          rw [hstp]; unfold stpU; rw [if_neg l91, if_neg wn]; rfl
        have hfa : ∀ {s3 : MS}, RP s3 f n (skip f n a) → Fr [2] [] [] [] s1 s3 → _ := fun {s3} hR3 hf3 => ct_X6_qFact (x := x) (e0 := e0) hS hp hR3 (hQ.fr hf3 (by decide) (by decide)) ((hf3.1 106 (by decide)).trans h106) ((hf3.1 54 (by decide)).trans h54) hx i5 (by omega) i4
        cases hfm : facM f n x op (skip f n a) with
        | error e =>
          rw [hfm] at hst hfa
          rw [hst] at hr2
          rcases hr2 with ⟨d, hd, hrun2⟩ | hd
          · cases hd
          · cases hd
            refine r_ild1 (pc := 2) dX6_qTest_2 ?_
            refine r_if_eqN (pc := 3) (tgt := 110) dX6_qTest_3 (by decide) (by omega) (fun h3 => ?_) (fun h3 => ?_)
            · skip
              exact absurd h3 (by decide)
            · skip
              refine r_ald0 (pc := 6) dX6_qTest_6 ?_
              refine m_getI hS (pc := 7) dX6_qTest_7 fl_X6_237 ?_
              refine Bd.eqI hR.2.1 ?_
              first | refine r_if_neZ (pc := 10) (tgt := 110) dX6_qTest_10 (by decide) (fun h10 => ?_) (fun h10 => ?_) | refine r_if_neN (pc := 10) (tgt := 110) dX6_qTest_10 (by decide) (by omega) (fun h10 => ?_) (fun h10 => ?_) | refine r_if_ne (pc := 10) (tgt := 110) dX6_qTest_10 (by decide) (fun h10 => ?_) (fun h10 => ?_)
              · skip
                exact absurd rfl h10
              · skip
                refine r_ald0 (pc := 13) dX6_qTest_13 ?_
                refine r_cV (pc := 14) dX6_qTest_14 cv_X6_249 hS.k hlk rfl rfl (Nat.le_of_ble_eq_true rfl) (by decide) ?_
                rintro _ _ ⟨s2, rfl, rfl, hR2, hf2⟩
                refine r_ist2 (pc := 17) dX6_qTest_17 ?_
                refine r_ild2 (pc := 18) dX6_qTest_18 ?_
                refine r_bipush (v := nI 91) (pc := 19) dX6_qTest_19 (by decide) ?_
                refine r_icmp_ne (pc := 21) (tgt := 47) dX6_qTest_21 (by decide) (fun h21 => ?_) (fun h21 => ?_)
                · skip
                  refine r_ald0 (pc := 47) dX6_qTest_47 ?_
                  refine r_ald0 (pc := 48) dX6_qTest_48 ?_
                  refine m_getR hS (pc := 49) dX6_qTest_49 fl_X6_165 ar82 ?_
                  refine r_cV (pc := 52) dX6_qTest_52 cv_X6_260 hS.k (hereP hS hp hR2 ar82 (w := wNot) (by decide) hf2) rfl rfl (Nat.le_of_ble_eq_true rfl) (by decide) ?_
                  rintro _ _ ⟨s3, rfl, rfl, hR3, hf3⟩
                  first | refine r_if_eqZ (pc := 55) (tgt := 79) dX6_qTest_55 (by decide) (fun h55 => ?_) (fun h55 => ?_) | refine r_if_eqN (pc := 55) (tgt := 79) dX6_qTest_55 (by decide) (by omega) (fun h55 => ?_) (fun h55 => ?_) | refine r_if_eq (pc := 55) (tgt := 79) dX6_qTest_55 (by decide) (fun h55 => ?_) (fun h55 => ?_)
                  · skip
                    refine r_ald0 (pc := 79) dX6_qTest_79 ?_
                    refine r_cV (pc := 80) dX6_qTest_80 cv_X6_641 hS.k (hfa hR3 hf3) rfl rfl (Nat.le_of_ble_eq_true rfl) (by decide) ?_
                    rintro _ _ ⟨s4, rfl, rfl, hf4, hbq⟩
                    refine r_ald0 (pc := 83) dX6_qTest_83 ?_
                    refine r_cV (pc := 84) dX6_qTest_84 cv_X6_644 hS.k (ct_X6_qDropsNotsB hS hbq.1.ne) rfl rfl (Nat.le_of_ble_eq_true rfl) (by decide) ?_
                    rintro _ _ ⟨rfl, rfl⟩
                    refine r_ald0 (pc := 87) dX6_qTest_87 ?_
                    refine m_getI hS (pc := 88) dX6_qTest_88 fl_X6_237 ?_
                    refine r_if_ne (pc := 91) (tgt := 105) dX6_qTest_91 (by decide) (fun h91 => ?_) (fun h91 => ?_)
                    · skip
                      refine r_iconst (v := nI 0) (pc := 105) dX6_qTest_105 (by decide) ?_
                      refine r_ist1 (pc := 106) dX6_qTest_106 ?_
                      refine r_goto (pc := 107) (tgt := 2) dX6_qTest_107 (by decide) ?_
                      exact testBad hS rfl hbq (hf.trans ((hf3.mono (by decide) (by decide) (by decide) (by decide)).trans hf4))
                    · skip
                      exact absurd h91 hbq.1.ne
                  · skip
                    exact absurd h55 wn
                · skip
                  exact absurd (oI_inj (fun c hc => by have := (lookO_lt hR hc).1; omega) (by decide) h21) l91
        | ok y =>
          rw [hfm] at hst hfa
          have hst : stpT f n x (true, a, cs, W, op) = .inl (false, y.2, cs ++ y.1 ++ (popW gN W).1, (popW gN W).2, op - (popW gN W).1.length) := hst
          have hiC := stpT_inv (a0 := a0) hst hi0
          rw [hst] at hr2
          rcases hr2 with ⟨d, hd, hrun2⟩ | hd
          · cases hd
            refine r_ild1 (pc := 2) dX6_qTest_2 ?_
            refine r_if_eqN (pc := 3) (tgt := 110) dX6_qTest_3 (by decide) (by omega) (fun h3 => ?_) (fun h3 => ?_)
            · skip
              exact absurd h3 (by decide)
            · skip
              refine r_ald0 (pc := 6) dX6_qTest_6 ?_
              refine m_getI hS (pc := 7) dX6_qTest_7 fl_X6_237 ?_
              refine Bd.eqI hR.2.1 ?_
              first | refine r_if_neZ (pc := 10) (tgt := 110) dX6_qTest_10 (by decide) (fun h10 => ?_) (fun h10 => ?_) | refine r_if_neN (pc := 10) (tgt := 110) dX6_qTest_10 (by decide) (by omega) (fun h10 => ?_) (fun h10 => ?_) | refine r_if_ne (pc := 10) (tgt := 110) dX6_qTest_10 (by decide) (fun h10 => ?_) (fun h10 => ?_)
              · skip
                exact absurd rfl h10
              · skip
                refine r_ald0 (pc := 13) dX6_qTest_13 ?_
                refine r_cV (pc := 14) dX6_qTest_14 cv_X6_249 hS.k hlk rfl rfl (Nat.le_of_ble_eq_true rfl) (by decide) ?_
                rintro _ _ ⟨s2, rfl, rfl, hR2, hf2⟩
                refine r_ist2 (pc := 17) dX6_qTest_17 ?_
                refine r_ild2 (pc := 18) dX6_qTest_18 ?_
                refine r_bipush (v := nI 91) (pc := 19) dX6_qTest_19 (by decide) ?_
                refine r_icmp_ne (pc := 21) (tgt := 47) dX6_qTest_21 (by decide) (fun h21 => ?_) (fun h21 => ?_)
                · skip
                  refine r_ald0 (pc := 47) dX6_qTest_47 ?_
                  refine r_ald0 (pc := 48) dX6_qTest_48 ?_
                  refine m_getR hS (pc := 49) dX6_qTest_49 fl_X6_165 ar82 ?_
                  refine r_cV (pc := 52) dX6_qTest_52 cv_X6_260 hS.k (hereP hS hp hR2 ar82 (w := wNot) (by decide) hf2) rfl rfl (Nat.le_of_ble_eq_true rfl) (by decide) ?_
                  rintro _ _ ⟨s3, rfl, rfl, hR3, hf3⟩
                  first | refine r_if_eqZ (pc := 55) (tgt := 79) dX6_qTest_55 (by decide) (fun h55 => ?_) (fun h55 => ?_) | refine r_if_eqN (pc := 55) (tgt := 79) dX6_qTest_55 (by decide) (by omega) (fun h55 => ?_) (fun h55 => ?_) | refine r_if_eq (pc := 55) (tgt := 79) dX6_qTest_55 (by decide) (fun h55 => ?_) (fun h55 => ?_)
                  · skip
                    refine r_ald0 (pc := 79) dX6_qTest_79 ?_
                    refine r_cV (pc := 80) dX6_qTest_80 cv_X6_641 hS.k (hfa hR3 hf3) rfl rfl (Nat.le_of_ble_eq_true rfl) (by decide) ?_
                    rintro _ _ ⟨s4, rfl, rfl, hf4, hR4, hQ4⟩
                    refine r_ald0 (pc := 83) dX6_qTest_83 ?_
                    refine r_cV (pc := 84) dX6_qTest_84 cv_X6_644 hS.k (ct_X6_qDropsNots hS hQ4 hR4.2.1 hlN i4) rfl rfl (Nat.le_of_ble_eq_true rfl) (by decide) ?_
                    rintro _ _ ⟨s5, rfl, rfl, hQ5, hf5⟩
                    have hR5 := hR4.fr hf5 (by decide) (by decide)
                    have hC5 : CFT s5 f n x a0 e0 (false, y.2, cs ++ y.1 ++ (popW gN W).1, (popW gN W).2, op - (popW gN W).1.length) := CFT.mk hR5 hQ5 ((hf5.1 106 (by decide)).trans ((hf4.1 106 (by decide)).trans ((hf3.1 106 (by decide)).trans h106))) ((hf5.1 54 (by decide)).trans ((hf4.1 54 (by decide)).trans ((hf3.1 54 (by decide)).trans h54))) hiC hx
                    have hff := hf.trans ((hf3.mono (by decide) (by decide) (by decide) (by decide)).trans (hf4.trans (hf5.mono (by decide) (by decide) (by decide) (by decide))))
                    refine r_ald0 (pc := 87) dX6_qTest_87 ?_
                    refine m_getI hS (pc := 88) dX6_qTest_88 fl_X6_237 ?_
                    refine Bd.eqI hR5.2.1 ?_
                    first | refine r_if_neZ (pc := 91) (tgt := 105) dX6_qTest_91 (by decide) (fun h91 => ?_) (fun h91 => ?_) | refine r_if_neN (pc := 91) (tgt := 105) dX6_qTest_91 (by decide) (by omega) (fun h91 => ?_) (fun h91 => ?_) | refine r_if_ne (pc := 91) (tgt := 105) dX6_qTest_91 (by decide) (fun h91 => ?_) (fun h91 => ?_)
                    · skip
                      exact absurd rfl h91
                    · skip
                      refine r_ald0 (pc := 94) dX6_qTest_94 ?_
                      refine r_cV (pc := 95) dX6_qTest_95 cv_X6_647 hS.k (ct_X6_qGoesOnTest hS hC5 hrun2) rfl rfl (Nat.le_of_ble_eq_true rfl) (by decide) ?_
                      rintro _ _ ⟨s6, rfl, hf6, hG⟩
                      rcases hG with ⟨rfl, k3, c3, hk3, hm3, hrun3, hC3⟩ | ⟨rfl, hG⟩
                      · refine r_if_eqN (pc := 98) (tgt := 105) dX6_qTest_98 (by decide) (by omega) (fun h98 => absurd h98 (by decide)) (fun h98 => ?_)
                        refine r_iconst (v := nI 1) (pc := 101) dX6_qTest_101 (by decide) ?_
                        refine r_goto (pc := 102) (tgt := 106) dX6_qTest_102 (by decide) ?_
                        refine r_ist1 (pc := 106) dX6_qTest_106 ?_
                        refine r_goto (pc := 107) (tgt := 2) dX6_qTest_107 (by decide) ?_
                        exact ih k3 (by omega) c3 s6 _ hm3 hC3 hrun3 (hff.trans hf6)
                      refine r_if_eqN (pc := 98) (tgt := 105) dX6_qTest_98 (by decide) (by omega) (fun h98 => ?_) (fun h98 => ?_)
                      · skip
                        refine r_iconst (v := nI 0) (pc := 105) dX6_qTest_105 (by decide) ?_
                        refine r_ist1 (pc := 106) dX6_qTest_106 ?_
                        refine r_goto (pc := 107) (tgt := 2) dX6_qTest_107 (by decide) ?_
                        rcases hG with ⟨e, hr, hbq⟩ | ⟨p, cs3, W3, op3, hr, hC3⟩
                        · exact testBad hS hr hbq (hff.trans hf6)
                        · subst hr
                          refine r_ild1 (pc := 2) dX6_qTest_2 ?_
                          refine r_if_eqN (pc := 3) (tgt := 110) dX6_qTest_3 (by decide) (by omega) (fun h3 => ?_) (fun h3 => absurd rfl h3)
                          exact testDrop hS W3 cs3 s6 hC3.1 hC3.2.1 hC3.2.2.2.2.1.1 (hff.trans hf6)
                      · skip
                        exact absurd rfl h98
                  · skip
                    exact absurd h55 wn
                · skip
                  exact absurd (oI_inj (fun c hc => by have := (lookO_lt hR hc).1; omega) (by decide) h21) l91
          · cases hd
theorem ct_X6_qTest {a0 e0 k : Nat} {cs W : List Nat} {op : Nat} {r : Ou} (hS : ShM g M o) (hC : CFT s f n x a0 e0 (true, a, cs, W, op)) (hrun : runT f n x k (true, a, cs, W, op) = some r) :
    Ct g yX6_qTest cX6_qTest 3 none 8 0 0 [.ref o] (putM M o s) (QM M o (fun v s' => v = none ∧ FQ s s' ∧ TuQ f n a0 s' r)) noX := by
  refine Ct.of (by decide) (Nat.le_of_ble_eq_true rfl) rfl ?_
  refine r_iconst (v := nI 1) (pc := 0) dX6_qTest_0 (by decide) ?_
  refine r_ist1 (pc := 1) dX6_qTest_1 ?_
  exact testLoop hS k _ s _ rfl hC hrun Fr.rf
end M37
