set_option maxRecDepth 100000
/-! THE MODEL: behind a part of a sum; sums -/
section M34
variable {g : GC} {M : MM} {o : Nat} {s s' sB : MS} {M1 : MM} {q : Sg} {f : Nat → Nat} {n a x : Nat}
def GnQ (f : Nat → Nat) (n x : Nat) (B : List Nat) (k : Nat) (r : Ou) (s : MS) (v : Option Value) (s' : MS) : Prop := FQ s s' ∧ ((v = some (.int (nI 1)) ∧ ∃ k' c', k' < k ∧ c'.1 = true ∧ runC f n x k' c' = some r ∧ CFG s' f n x B c') ∨ (v = some (.int (nI 0)) ∧ ((∃ e, r = .error e ∧ bQ s' e) ∨ ∃ p cs V op, r = .ok (p, cs ++ V, op) ∧ CFG s' f n x B (false, p, cs, V, op))))
theorem GnQ.mono {B : List Nat} {k k2 : Nat} {r : Ou} {v : Option Value} (hk : k ≤ k2) (h : GnQ f n x B k r s v s') : GnQ f n x B k2 r s v s' := by
  obtain ⟨h1, h2⟩ := h
  refine ⟨h1, ?_⟩
  rcases h2 with ⟨h2, k', c', h3, h4⟩ | h2
  · exact Or.inl ⟨h2, k', c', by omega, h4⟩
  · exact Or.inr h2
theorem takesP {p c : Nat} {s1 : MS} (hS : ShM g M o) (hp : skip f n p = p) (hR : RP s1 f n p) (hc : sgOk c) (h4 : Fr [2] [] [] [] s s1) :
    Ct g yX6_takesSign cX6_takesSign 2 (some Jvm.ClassFile.FieldType.boolean) 1 0 0 [.ref o, .int (nI c)] (putM M o s1) (QM M o (fun r s' => r = some (.int (zI (lookO f n p = some c))) ∧ RP s' f n (if lookO f n p = some c then p + 1 else p) ∧ Fr [2] [] [] [] s s')) noX := by
  have := ct_X6_takesSign hS hR hc
  rw [hp] at this
  refine Ct.post ?_ (fun _ _ h => h) this
  rintro _ _ ⟨s2, rfl, h5, h6, h7⟩
  exact ⟨s2, rfl, h5, h6, h4.trans h7⟩
theorem headB {B : List Nat} {v : Nat} (hB : ∀ v ∈ B, v = 10 ∨ v = 11 ∨ v = 12 ∨ v = 25) (hv : v < 5) : ¬ B.head? = some v := by
  cases B with
  | nil => intro h; cases h
  | cons b B => intro h; have := hB b List.mem_cons_self; have := Option.some.inj h; omega
theorem dropM {B : List Nat} {op : Nat} {w1 : Int32} {Q : Option Value → MM → Prop} (hS : ShM g M o) (hB : ∀ v ∈ B, v = 10 ∨ v = 11 ∨ v = 12 ∨ v = 25) :
    ∀ (V cs : List Nat) (s1 : MS), RQ s1 cs (V ++ B) op → Fr [102, 104] [] [101] [] s s1 →
    (∀ s2, RQ s2 (cs ++ (popW gM V).1) ((popW gM V).2 ++ B) op → Fr [102, 104] [] [101] [] s s2 → Bd g yX6_qGoesOn cX6_qGoesOn 2 (some Jvm.ClassFile.FieldType.boolean) [] 3 0 0 (putM M o s2) 185 [some (.ref o), some (.int w1)] [] Q noX) →
    Bd g yX6_qGoesOn cX6_qGoesOn 2 (some Jvm.ClassFile.FieldType.boolean) [] 3 0 0 (putM M o s1) 162 [some (.ref o), some (.int w1)] [] Q noX := by
  intro V
  induction V with
  | nil =>
    intro cs s1 h hf hk
    have h' : RQ s1 cs B op := h
    have hk := hk s1 (by rw [show cs ++ (popW gM []).1 = cs from List.append_nil cs]; exact h) hf
    refine r_ald0 (pc := 162) dX6_qGoesOn_162 ?_
    refine r_iconst (v := nI 3) (pc := 163) dX6_qGoesOn_163 (by decide) ?_
    refine r_cV (pc := 164) dX6_qGoesOn_164 cv_X6_632 hS.k (ct_X6_qIsOn (v := 3) hS h' (by decide)) rfl rfl (Nat.le_of_ble_eq_true rfl) (by decide) ?_
    rintro _ _ ⟨rfl, rfl⟩
    first | refine r_if_neZ (pc := 167) (tgt := 178) dX6_qGoesOn_167 (by decide) (fun h167 => ?_) (fun h167 => ?_) | refine r_if_neN (pc := 167) (tgt := 178) dX6_qGoesOn_167 (by decide) (by omega) (fun h167 => ?_) (fun h167 => ?_) | refine r_if_ne (pc := 167) (tgt := 178) dX6_qGoesOn_167 (by decide) (fun h167 => ?_) (fun h167 => ?_)
    · skip
      exact absurd h167 (headB hB (by decide))
    · skip
      refine r_ald0 (pc := 170) dX6_qGoesOn_170 ?_
      refine r_iconst (v := nI 4) (pc := 171) dX6_qGoesOn_171 (by decide) ?_
      refine r_cV (pc := 172) dX6_qGoesOn_172 cv_X6_632 hS.k (ct_X6_qIsOn (v := 4) hS h' (by decide)) rfl rfl (Nat.le_of_ble_eq_true rfl) (by decide) ?_
      rintro _ _ ⟨rfl, rfl⟩
      first | refine r_if_eqZ (pc := 175) (tgt := 185) dX6_qGoesOn_175 (by decide) (fun h175 => ?_) (fun h175 => ?_) | refine r_if_eqN (pc := 175) (tgt := 185) dX6_qGoesOn_175 (by decide) (by omega) (fun h175 => ?_) (fun h175 => ?_) | refine r_if_eq (pc := 175) (tgt := 185) dX6_qGoesOn_175 (by decide) (fun h175 => ?_) (fun h175 => ?_)
      · skip
        exact hk
      · skip
        exact absurd h175 (headB hB (by decide))
  | cons v V ih =>
    intro cs s1 h hf hk
    have hdrop : ∀ (hg : gM v = true), Bd g yX6_qGoesOn cX6_qGoesOn 2 (some Jvm.ClassFile.FieldType.boolean) [] 3 0 0 (putM M o s1) 178 [some (.ref o), some (.int w1)] [] Q noX := by
      intro hg
      rw [show popW gM (v :: V) = (v :: (popW gM V).1, (popW gM V).2) from if_pos hg] at hk
      refine r_ald0 (pc := 178) dX6_qGoesOn_178 ?_
      refine r_cV (pc := 179) dX6_qGoesOn_179 cv_X6_605 hS.k (ct_X6_qDrops hS h) rfl rfl (Nat.le_of_ble_eq_true rfl) (by decide) ?_
      rintro _ _ ⟨s2, rfl, rfl, h2, hf2⟩
      refine r_goto (pc := 182) (tgt := 162) dX6_qGoesOn_182 (by decide) ?_
      exact ih (cs ++ [v]) s2 h2 (hf.trans hf2) (by rw [List.append_assoc]; exact hk)
    by_cases h3 : v = 3
    · subst h3
      refine r_ald0 (pc := 162) dX6_qGoesOn_162 ?_
      refine r_iconst (v := nI 3) (pc := 163) dX6_qGoesOn_163 (by decide) ?_
      refine r_cV (pc := 164) dX6_qGoesOn_164 cv_X6_632 hS.k (ct_X6_qIsOn (v := 3) hS h (by decide)) rfl rfl (Nat.le_of_ble_eq_true rfl) (by decide) ?_
      rintro _ _ ⟨rfl, rfl⟩
      first | refine r_if_neZ (pc := 167) (tgt := 178) dX6_qGoesOn_167 (by decide) (fun h167 => ?_) (fun h167 => ?_) | refine r_if_neN (pc := 167) (tgt := 178) dX6_qGoesOn_167 (by decide) (by omega) (fun h167 => ?_) (fun h167 => ?_) | refine r_if_ne (pc := 167) (tgt := 178) dX6_qGoesOn_167 (by decide) (fun h167 => ?_) (fun h167 => ?_)
      · skip
        exact hdrop rfl
      · skip
        exact absurd rfl h167
    · by_cases h4 : v = 4
      · subst h4
        refine r_ald0 (pc := 162) dX6_qGoesOn_162 ?_
        refine r_iconst (v := nI 3) (pc := 163) dX6_qGoesOn_163 (by decide) ?_
        refine r_cV (pc := 164) dX6_qGoesOn_164 cv_X6_632 hS.k (ct_X6_qIsOn (v := 3) hS h (by decide)) rfl rfl (Nat.le_of_ble_eq_true rfl) (by decide) ?_
        rintro _ _ ⟨rfl, rfl⟩
        first | refine r_if_neZ (pc := 167) (tgt := 178) dX6_qGoesOn_167 (by decide) (fun h167 => ?_) (fun h167 => ?_) | refine r_if_neN (pc := 167) (tgt := 178) dX6_qGoesOn_167 (by decide) (by omega) (fun h167 => ?_) (fun h167 => ?_) | refine r_if_ne (pc := 167) (tgt := 178) dX6_qGoesOn_167 (by decide) (fun h167 => ?_) (fun h167 => ?_)
        · skip
          exact absurd (Option.some.inj h167) (by decide)
        · skip
          refine r_ald0 (pc := 170) dX6_qGoesOn_170 ?_
          refine r_iconst (v := nI 4) (pc := 171) dX6_qGoesOn_171 (by decide) ?_
          refine r_cV (pc := 172) dX6_qGoesOn_172 cv_X6_632 hS.k (ct_X6_qIsOn (v := 4) hS h (by decide)) rfl rfl (Nat.le_of_ble_eq_true rfl) (by decide) ?_
          rintro _ _ ⟨rfl, rfl⟩
          first | refine r_if_eqZ (pc := 175) (tgt := 185) dX6_qGoesOn_175 (by decide) (fun h175 => ?_) (fun h175 => ?_) | refine r_if_eqN (pc := 175) (tgt := 185) dX6_qGoesOn_175 (by decide) (by omega) (fun h175 => ?_) (fun h175 => ?_) | refine r_if_eq (pc := 175) (tgt := 185) dX6_qGoesOn_175 (by decide) (fun h175 => ?_) (fun h175 => ?_)
          · skip
            exact absurd rfl h175
          · skip
            exact hdrop rfl
      · have hk := hk s1 (by rw [show popW gM (v :: V) = ([], v :: V) from if_neg (by unfold gM; simp [h3, h4]), List.append_nil]; exact h) hf
        refine r_ald0 (pc := 162) dX6_qGoesOn_162 ?_
        refine r_iconst (v := nI 3) (pc := 163) dX6_qGoesOn_163 (by decide) ?_
        refine r_cV (pc := 164) dX6_qGoesOn_164 cv_X6_632 hS.k (ct_X6_qIsOn (v := 3) hS h (by decide)) rfl rfl (Nat.le_of_ble_eq_true rfl) (by decide) ?_
        rintro _ _ ⟨rfl, rfl⟩
        first | refine r_if_neZ (pc := 167) (tgt := 178) dX6_qGoesOn_167 (by decide) (fun h167 => ?_) (fun h167 => ?_) | refine r_if_neN (pc := 167) (tgt := 178) dX6_qGoesOn_167 (by decide) (by omega) (fun h167 => ?_) (fun h167 => ?_) | refine r_if_ne (pc := 167) (tgt := 178) dX6_qGoesOn_167 (by decide) (fun h167 => ?_) (fun h167 => ?_)
        · skip
          exact absurd (Option.some.inj h167) h3
        · skip
          refine r_ald0 (pc := 170) dX6_qGoesOn_170 ?_
          refine r_iconst (v := nI 4) (pc := 171) dX6_qGoesOn_171 (by decide) ?_
          refine r_cV (pc := 172) dX6_qGoesOn_172 cv_X6_632 hS.k (ct_X6_qIsOn (v := 4) hS h (by decide)) rfl rfl (Nat.le_of_ble_eq_true rfl) (by decide) ?_
          rintro _ _ ⟨rfl, rfl⟩
          first | refine r_if_eqZ (pc := 175) (tgt := 185) dX6_qGoesOn_175 (by decide) (fun h175 => ?_) (fun h175 => ?_) | refine r_if_eqN (pc := 175) (tgt := 185) dX6_qGoesOn_175 (by decide) (by omega) (fun h175 => ?_) (fun h175 => ?_) | refine r_if_eq (pc := 175) (tgt := 185) dX6_qGoesOn_175 (by decide) (fun h175 => ?_) (fun h175 => ?_)
          · skip
            exact hk
          · skip
            exact absurd (Option.some.inj h175) h4
theorem dropS {B : List Nat} {op : Nat} {w1 : Int32} {Q : Option Value → MM → Prop} (hS : ShM g M o) (hB : ∀ v ∈ B, v = 10 ∨ v = 11 ∨ v = 12 ∨ v = 25) :
    ∀ (V cs : List Nat) (s1 : MS), RQ s1 cs (V ++ B) op → Fr [102, 104] [] [101] [] s s1 →
    (∀ s2, RQ s2 (cs ++ (popW gS4 V).1) ((popW gS4 V).2 ++ B) op → Fr [102, 104] [] [101] [] s s2 → Bd g yX6_qGoesOn cX6_qGoesOn 2 (some Jvm.ClassFile.FieldType.boolean) [] 3 0 0 (putM M o s2) 286 [some (.ref o), some (.int w1)] [] Q noX) →
    Bd g yX6_qGoesOn cX6_qGoesOn 2 (some Jvm.ClassFile.FieldType.boolean) [] 3 0 0 (putM M o s1) 247 [some (.ref o), some (.int w1)] [] Q noX := by
  intro V
  induction V with
  | nil =>
    intro cs s1 h hf hk
    have h' : RQ s1 cs B op := h
    have hk := hk s1 (by rw [show cs ++ (popW gS4 []).1 = cs from List.append_nil cs]; exact h) hf
    refine r_ald0 (pc := 247) dX6_qGoesOn_247 ?_
    refine r_iconst (v := nI 3) (pc := 248) dX6_qGoesOn_248 (by decide) ?_
    refine r_cV (pc := 249) dX6_qGoesOn_249 cv_X6_632 hS.k (ct_X6_qIsOn (v := 3) hS h' (by decide)) rfl rfl (Nat.le_of_ble_eq_true rfl) (by decide) ?_
    rintro _ _ ⟨rfl, rfl⟩
    first | refine r_if_neZ (pc := 252) (tgt := 279) dX6_qGoesOn_252 (by decide) (fun h252 => ?_) (fun h252 => ?_) | refine r_if_neN (pc := 252) (tgt := 279) dX6_qGoesOn_252 (by decide) (by omega) (fun h252 => ?_) (fun h252 => ?_) | refine r_if_ne (pc := 252) (tgt := 279) dX6_qGoesOn_252 (by decide) (fun h252 => ?_) (fun h252 => ?_)
    · skip
      exact absurd h252 (headB hB (by decide))
    · skip
      refine r_ald0 (pc := 255) dX6_qGoesOn_255 ?_
      refine r_iconst (v := nI 4) (pc := 256) dX6_qGoesOn_256 (by decide) ?_
      refine r_cV (pc := 257) dX6_qGoesOn_257 cv_X6_632 hS.k (ct_X6_qIsOn (v := 4) hS h' (by decide)) rfl rfl (Nat.le_of_ble_eq_true rfl) (by decide) ?_
      rintro _ _ ⟨rfl, rfl⟩
      first | refine r_if_neZ (pc := 260) (tgt := 279) dX6_qGoesOn_260 (by decide) (fun h260 => ?_) (fun h260 => ?_) | refine r_if_neN (pc := 260) (tgt := 279) dX6_qGoesOn_260 (by decide) (by omega) (fun h260 => ?_) (fun h260 => ?_) | refine r_if_ne (pc := 260) (tgt := 279) dX6_qGoesOn_260 (by decide) (fun h260 => ?_) (fun h260 => ?_)
      · skip
        exact absurd h260 (headB hB (by decide))
      · skip
        refine r_ald0 (pc := 263) dX6_qGoesOn_263 ?_
        refine r_iconst (v := nI 1) (pc := 264) dX6_qGoesOn_264 (by decide) ?_
        refine r_cV (pc := 265) dX6_qGoesOn_265 cv_X6_632 hS.k (ct_X6_qIsOn (v := 1) hS h' (by decide)) rfl rfl (Nat.le_of_ble_eq_true rfl) (by decide) ?_
        rintro _ _ ⟨rfl, rfl⟩
        first | refine r_if_neZ (pc := 268) (tgt := 279) dX6_qGoesOn_268 (by decide) (fun h268 => ?_) (fun h268 => ?_) | refine r_if_neN (pc := 268) (tgt := 279) dX6_qGoesOn_268 (by decide) (by omega) (fun h268 => ?_) (fun h268 => ?_) | refine r_if_ne (pc := 268) (tgt := 279) dX6_qGoesOn_268 (by decide) (fun h268 => ?_) (fun h268 => ?_)
        · skip
          exact absurd h268 (headB hB (by decide))
        · skip
          refine r_ald0 (pc := 271) dX6_qGoesOn_271 ?_
          refine r_iconst (v := nI 2) (pc := 272) dX6_qGoesOn_272 (by decide) ?_
          refine r_cV (pc := 273) dX6_qGoesOn_273 cv_X6_632 hS.k (ct_X6_qIsOn (v := 2) hS h' (by decide)) rfl rfl (Nat.le_of_ble_eq_true rfl) (by decide) ?_
          rintro _ _ ⟨rfl, rfl⟩
          first | refine r_if_eqZ (pc := 276) (tgt := 286) dX6_qGoesOn_276 (by decide) (fun h276 => ?_) (fun h276 => ?_) | refine r_if_eqN (pc := 276) (tgt := 286) dX6_qGoesOn_276 (by decide) (by omega) (fun h276 => ?_) (fun h276 => ?_) | refine r_if_eq (pc := 276) (tgt := 286) dX6_qGoesOn_276 (by decide) (fun h276 => ?_) (fun h276 => ?_)
          · skip
            exact hk
          · skip
            exact absurd h276 (headB hB (by decide))
  | cons v V ih =>
    intro cs s1 h hf hk
    have hdrop : ∀ (hg : gS4 v = true), Bd g yX6_qGoesOn cX6_qGoesOn 2 (some Jvm.ClassFile.FieldType.boolean) [] 3 0 0 (putM M o s1) 279 [some (.ref o), some (.int w1)] [] Q noX := by
      intro hg
      rw [show popW gS4 (v :: V) = (v :: (popW gS4 V).1, (popW gS4 V).2) from if_pos hg] at hk
      refine r_ald0 (pc := 279) dX6_qGoesOn_279 ?_
      refine r_cV (pc := 280) dX6_qGoesOn_280 cv_X6_605 hS.k (ct_X6_qDrops hS h) rfl rfl (Nat.le_of_ble_eq_true rfl) (by decide) ?_
      rintro _ _ ⟨s2, rfl, rfl, h2, hf2⟩
      refine r_goto (pc := 283) (tgt := 247) dX6_qGoesOn_283 (by decide) ?_
      exact ih (cs ++ [v]) s2 h2 (hf.trans hf2) (by rw [List.append_assoc]; exact hk)
    by_cases hg : gS4 v = true
    · have hd := hdrop hg
      refine r_ald0 (pc := 247) dX6_qGoesOn_247 ?_
      refine r_iconst (v := nI 3) (pc := 248) dX6_qGoesOn_248 (by decide) ?_
      refine r_cV (pc := 249) dX6_qGoesOn_249 cv_X6_632 hS.k (ct_X6_qIsOn (v := 3) hS h (by decide)) rfl rfl (Nat.le_of_ble_eq_true rfl) (by decide) ?_
      rintro _ _ ⟨rfl, rfl⟩
      first | refine r_if_neZ (pc := 252) (tgt := 279) dX6_qGoesOn_252 (by decide) (fun h252 => ?_) (fun h252 => ?_) | refine r_if_neN (pc := 252) (tgt := 279) dX6_qGoesOn_252 (by decide) (by omega) (fun h252 => ?_) (fun h252 => ?_) | refine r_if_ne (pc := 252) (tgt := 279) dX6_qGoesOn_252 (by decide) (fun h252 => ?_) (fun h252 => ?_)
      · skip
        exact hd
      · skip
        refine r_ald0 (pc := 255) dX6_qGoesOn_255 ?_
        refine r_iconst (v := nI 4) (pc := 256) dX6_qGoesOn_256 (by decide) ?_
        refine r_cV (pc := 257) dX6_qGoesOn_257 cv_X6_632 hS.k (ct_X6_qIsOn (v := 4) hS h (by decide)) rfl rfl (Nat.le_of_ble_eq_true rfl) (by decide) ?_
        rintro _ _ ⟨rfl, rfl⟩
        first | refine r_if_neZ (pc := 260) (tgt := 279) dX6_qGoesOn_260 (by decide) (fun h260 => ?_) (fun h260 => ?_) | refine r_if_neN (pc := 260) (tgt := 279) dX6_qGoesOn_260 (by decide) (by omega) (fun h260 => ?_) (fun h260 => ?_) | refine r_if_ne (pc := 260) (tgt := 279) dX6_qGoesOn_260 (by decide) (fun h260 => ?_) (fun h260 => ?_)
        · skip
          exact hd
        · skip
          refine r_ald0 (pc := 263) dX6_qGoesOn_263 ?_
          refine r_iconst (v := nI 1) (pc := 264) dX6_qGoesOn_264 (by decide) ?_
          refine r_cV (pc := 265) dX6_qGoesOn_265 cv_X6_632 hS.k (ct_X6_qIsOn (v := 1) hS h (by decide)) rfl rfl (Nat.le_of_ble_eq_true rfl) (by decide) ?_
          rintro _ _ ⟨rfl, rfl⟩
          first | refine r_if_neZ (pc := 268) (tgt := 279) dX6_qGoesOn_268 (by decide) (fun h268 => ?_) (fun h268 => ?_) | refine r_if_neN (pc := 268) (tgt := 279) dX6_qGoesOn_268 (by decide) (by omega) (fun h268 => ?_) (fun h268 => ?_) | refine r_if_ne (pc := 268) (tgt := 279) dX6_qGoesOn_268 (by decide) (fun h268 => ?_) (fun h268 => ?_)
          · skip
            exact hd
          · skip
            refine r_ald0 (pc := 271) dX6_qGoesOn_271 ?_
            refine r_iconst (v := nI 2) (pc := 272) dX6_qGoesOn_272 (by decide) ?_
            refine r_cV (pc := 273) dX6_qGoesOn_273 cv_X6_632 hS.k (ct_X6_qIsOn (v := 2) hS h (by decide)) rfl rfl (Nat.le_of_ble_eq_true rfl) (by decide) ?_
            rintro _ _ ⟨rfl, rfl⟩
            first | refine r_if_eqZ (pc := 276) (tgt := 286) dX6_qGoesOn_276 (by decide) (fun h276 => ?_) (fun h276 => ?_) | refine r_if_eqN (pc := 276) (tgt := 286) dX6_qGoesOn_276 (by decide) (by omega) (fun h276 => ?_) (fun h276 => ?_) | refine r_if_eq (pc := 276) (tgt := 286) dX6_qGoesOn_276 (by decide) (fun h276 => ?_) (fun h276 => ?_)
            · skip
              exact absurd (by unfold gS4 at hg; simp at hg; rcases hg with ((e | e) | e) | e <;> subst e <;> first | exact absurd rfl h252 | exact absurd rfl h260 | exact absurd rfl h268 | exact absurd rfl h276) id
            · skip
              exact hd
    · have hk := hk s1 (by rw [show popW gS4 (v :: V) = ([], v :: V) from if_neg hg, List.append_nil]; exact h) hf
      have hg : ¬ (v = 3 ∨ v = 4 ∨ v = 1 ∨ v = 2) := by rintro (e | e | e | e) <;> subst e <;> exact hg rfl
      refine r_ald0 (pc := 247) dX6_qGoesOn_247 ?_
      refine r_iconst (v := nI 3) (pc := 248) dX6_qGoesOn_248 (by decide) ?_
      refine r_cV (pc := 249) dX6_qGoesOn_249 cv_X6_632 hS.k (ct_X6_qIsOn (v := 3) hS h (by decide)) rfl rfl (Nat.le_of_ble_eq_true rfl) (by decide) ?_
      rintro _ _ ⟨rfl, rfl⟩
      first | refine r_if_neZ (pc := 252) (tgt := 279) dX6_qGoesOn_252 (by decide) (fun h252 => ?_) (fun h252 => ?_) | refine r_if_neN (pc := 252) (tgt := 279) dX6_qGoesOn_252 (by decide) (by omega) (fun h252 => ?_) (fun h252 => ?_) | refine r_if_ne (pc := 252) (tgt := 279) dX6_qGoesOn_252 (by decide) (fun h252 => ?_) (fun h252 => ?_)
      · skip
        exact absurd (Option.some.inj h252) (by omega)
      · skip
        refine r_ald0 (pc := 255) dX6_qGoesOn_255 ?_
        refine r_iconst (v := nI 4) (pc := 256) dX6_qGoesOn_256 (by decide) ?_
        refine r_cV (pc := 257) dX6_qGoesOn_257 cv_X6_632 hS.k (ct_X6_qIsOn (v := 4) hS h (by decide)) rfl rfl (Nat.le_of_ble_eq_true rfl) (by decide) ?_
        rintro _ _ ⟨rfl, rfl⟩
        first | refine r_if_neZ (pc := 260) (tgt := 279) dX6_qGoesOn_260 (by decide) (fun h260 => ?_) (fun h260 => ?_) | refine r_if_neN (pc := 260) (tgt := 279) dX6_qGoesOn_260 (by decide) (by omega) (fun h260 => ?_) (fun h260 => ?_) | refine r_if_ne (pc := 260) (tgt := 279) dX6_qGoesOn_260 (by decide) (fun h260 => ?_) (fun h260 => ?_)
        · skip
          exact absurd (Option.some.inj h260) (by omega)
        · skip
          refine r_ald0 (pc := 263) dX6_qGoesOn_263 ?_
          refine r_iconst (v := nI 1) (pc := 264) dX6_qGoesOn_264 (by decide) ?_
          refine r_cV (pc := 265) dX6_qGoesOn_265 cv_X6_632 hS.k (ct_X6_qIsOn (v := 1) hS h (by decide)) rfl rfl (Nat.le_of_ble_eq_true rfl) (by decide) ?_
          rintro _ _ ⟨rfl, rfl⟩
          first | refine r_if_neZ (pc := 268) (tgt := 279) dX6_qGoesOn_268 (by decide) (fun h268 => ?_) (fun h268 => ?_) | refine r_if_neN (pc := 268) (tgt := 279) dX6_qGoesOn_268 (by decide) (by omega) (fun h268 => ?_) (fun h268 => ?_) | refine r_if_ne (pc := 268) (tgt := 279) dX6_qGoesOn_268 (by decide) (fun h268 => ?_) (fun h268 => ?_)
          · skip
            exact absurd (Option.some.inj h268) (by omega)
          · skip
            refine r_ald0 (pc := 271) dX6_qGoesOn_271 ?_
            refine r_iconst (v := nI 2) (pc := 272) dX6_qGoesOn_272 (by decide) ?_
            refine r_cV (pc := 273) dX6_qGoesOn_273 cv_X6_632 hS.k (ct_X6_qIsOn (v := 2) hS h (by decide)) rfl rfl (Nat.le_of_ble_eq_true rfl) (by decide) ?_
            rintro _ _ ⟨rfl, rfl⟩
            first | refine r_if_eqZ (pc := 276) (tgt := 286) dX6_qGoesOn_276 (by decide) (fun h276 => ?_) (fun h276 => ?_) | refine r_if_eqN (pc := 276) (tgt := 286) dX6_qGoesOn_276 (by decide) (by omega) (fun h276 => ?_) (fun h276 => ?_) | refine r_if_eq (pc := 276) (tgt := 286) dX6_qGoesOn_276 (by decide) (fun h276 => ?_) (fun h276 => ?_)
            · skip
              exact hk
            · skip
              exact absurd (Option.some.inj h276) (by omega)
theorem CFG.mk {B cs V : List Nat} {m : Bool} {op b : Nat} {s1 : MS} (hR : RP s1 f n b) (hQ : RQ s1 cs (V ++ B) op) (h106 : mF s1 106 = nI B.length) (h54 : mF s1 54 = nI x) (hi : iC n B.length (m, b, cs, V, op)) (hB : ∀ v ∈ B, v = 10 ∨ v = 11 ∨ v = 12 ∨ v = 25) (hx : x ≤ 3) : CFG s1 f n x B (m, b, cs, V, op) := ⟨hR, hQ, h106, h54, hi, hB, hx⟩
/-- signs, from 122 on: no bracket is closed at p -/
theorem go122 {B cs V : List Nat} {op k p : Nat} {r : Ou} {s1 : MS} {w1 : Option Value} (hS : ShM g M o) (hp : skip f n p = p) (hC : CFG s1 f n x B (false, p, cs, V, op)) (hrun : runC f n x (k + 1) (false, p, cs, V, op) = some r) (hf : FQ s s1)
    (hcl : ¬ (lookO f n p = some 41 ∧ (brk V = some 20 ∨ brk V = some 23 ∨ brk V = some 24))) :
    Bd g yX6_qGoesOn cX6_qGoesOn 2 (some Jvm.ClassFile.FieldType.boolean) [] 3 0 0 (putM M o s1) 122 [some (.ref o), w1] [] (QM M o (GnQ f n x B (k + 1) r s)) noX := by
  have hC0 := hC
  obtain ⟨hR, hQ, h106, h54, hi, hB, hx⟩ := hC
  have hR : RP s1 f n p := hR
  have hQ : RQ s1 cs (V ++ B) op := hQ
  have hn := hR.1.2.2.2.1
  have hi0 := hi
  obtain ⟨i1, i2, i3, i4⟩ := hi
  have i1 : cs.length + V.length + B.length ≤ p := i1
  have i2 : p ≤ n := i2
  obtain ⟨k1, hk1, hr2⟩ := runC_some hrun
  obtain rfl : k1 = k := by omega
  have hstp : stpC f n x (false, p, cs, V, op) = stpA f n p cs V op := rfl
  have sign : ∀ (c v : Nat) (gg : Nat → Bool) (s2 s3 : MS), (c = 42 ∨ c = 47 ∨ c = 43 ∨ c = 45) → lookO f n p = some c → v < 5 → stpC f n x (false, p, cs, V, op) = .inl (true, p + 1, cs ++ (popW gg V).1, v :: (popW gg V).2, op) → RP s2 f n (p + 1) → FQ s s2 → mF s2 106 = nI B.length → mF s2 54 = nI x → RQ s3 (cs ++ (popW gg V).1) ((popW gg V).2 ++ B) op → Fr [102, 104] [] [101] [] s2 s3 →
      QM M o (GnQ f n x B (k1 + 1) r s) (some (.int (nI 1))) (putM M o (tF (tA s3 103 ((popW gg V).2 ++ B).length (nI v)) 104 (nI (((popW gg V).2 ++ B).length + 1)))) := by
    intro c v gg s2 s3 hc hl hv hst hR2 hf2 h1 h2 hQ3 hf3
    have hiC := stpC_inv (e := B.length) hst hi0
    rw [hst] at hr2
    rcases hr2 with ⟨d, hd, hrun2⟩ | hd
    · cases hd
      have hF4 : Fr [104] [] [103] [] s3 (tF (tA s3 103 ((popW gg V).2 ++ B).length (nI v)) 104 (nI (((popW gg V).2 ++ B).length + 1))) := Fr.tF (Fr.tA Fr.rf (by decide)) (by decide)
      have hl3 : (cs ++ (popW gg V).1).length + (((popW gg V).2 ++ B).length + 1) ≤ 1601 := by
        have := popW_len gg V
        simp only [List.length_append]
        omega
      refine ⟨_, rfl, hf2.trans ((hf3.mono (by decide) (by decide) (by decide) (by decide)).trans (hF4.mono (by decide) (by decide) (by decide) (by decide))), Or.inl ⟨rfl, k1, _, Nat.lt_succ_self _, rfl, hrun2, ?_⟩⟩
      exact CFG.mk ((hR2.fr hf3 (by decide) (by decide)).fr hF4 (by decide) (by decide)) (hQ3.push rfl (by omega) hl3) ((hF4.1 106 (by decide)).trans ((hf3.1 106 (by decide)).trans h1)) ((hF4.1 54 (by decide)).trans ((hf3.1 54 (by decide)).trans h2)) hiC hB hx
    · cases hd
  have hts : ∀ {c : Nat} {s2 : MS}, sgOk c → RP s2 f n p → Fr [2] [] [] [] s1 s2 → _ := fun {c s2} hc hR2 hf2 => takesP (c := c) hS hp hR2 hc hf2
  have s42 : sgOk 42 := sgOk_all 42 (by decide)
  have s47 : sgOk 47 := sgOk_all 47 (by decide)
  have s43 : sgOk 43 := sgOk_all 43 (by decide)
  have s45 : sgOk 45 := sgOk_all 45 (by decide)
  by_cases l42 : lookO f n p = some 42
  · have ho : opM f n p = some (3, p + 1) := by unfold opM; rw [if_pos l42, hp]
    have hst : stpC f n x (false, p, cs, V, op) = .inl (true, p + 1, cs ++ (popW gM V).1, 3 :: (popW gM V).2, op) := by
      rw [hstp]; unfold stpA; rw [if_neg hcl, ho]
    obtain ⟨f1, f2⟩ := lookO_some l42
    rw [hp] at f1 f2
    refine r_ald0 (pc := 122) dX6_qGoesOn_122 ?_
    refine r_bipush (v := nI 42) (pc := 123) dX6_qGoesOn_123 (by decide) ?_
    refine r_cV (pc := 125) dX6_qGoesOn_125 cv_X6_271 hS.k (hts s42 hR Fr.rf) rfl rfl (Nat.le_of_ble_eq_true rfl) (by decide) ?_
    rintro _ _ ⟨s2, rfl, rfl, hR2, hf2⟩
    rw [if_pos l42] at hR2
    first | refine r_if_neZ (pc := 128) (tgt := 140) dX6_qGoesOn_128 (by decide) (fun h128 => ?_) (fun h128 => ?_) | refine r_if_neN (pc := 128) (tgt := 140) dX6_qGoesOn_128 (by decide) (by omega) (fun h128 => ?_) (fun h128 => ?_) | refine r_if_ne (pc := 128) (tgt := 140) dX6_qGoesOn_128 (by decide) (fun h128 => ?_) (fun h128 => ?_)
    · skip
      refine r_ald0 (pc := 140) dX6_qGoesOn_140 ?_
      refine m_getR hS (pc := 141) dX6_qGoesOn_141 fl_X6_7 ar0 ?_
      refine r_ald0 (pc := 144) dX6_qGoesOn_144 ?_
      refine m_getI hS (pc := 145) dX6_qGoesOn_145 fl_X6_243 ?_
      refine Bd.eqI hR2.1.2.1 ?_
      refine r_iconst (v := nI 1) (pc := 148) dX6_qGoesOn_148 (by decide) ?_
      refine r_isubN (pc := 149) dX6_qGoesOn_149 (by omega) ?_
      rw [Nat.add_sub_cancel]
      refine m_iald hS (pc := 150) dX6_qGoesOn_150 ar0 (by omega) (by omega) ?_
      refine Bd.eqI (x' := nI 42) ((hR2.1.2.2.2.2.1 p (by omega)).trans (by rw [f2])) ?_
      refine r_bipush (v := nI 42) (pc := 151) dX6_qGoesOn_151 (by decide) ?_
      first | refine r_icmp_neN (pc := 153) (tgt := 160) dX6_qGoesOn_153 (by decide) (by omega) (by omega) (fun h153 => ?_) (fun h153 => ?_) | refine r_icmp_ne (pc := 153) (tgt := 160) dX6_qGoesOn_153 (by decide) (fun h153 => ?_) (fun h153 => ?_)
      · skip
        exact absurd rfl h153
      · skip
        refine r_iconst (v := nI 3) (pc := 156) dX6_qGoesOn_156 (by decide) ?_
        refine r_goto (pc := 157) (tgt := 161) dX6_qGoesOn_157 (by decide) ?_
        refine r_ist1 (pc := 161) dX6_qGoesOn_161 ?_
        refine dropM hS hB V cs s2 (hQ.fr hf2 (by decide) (by decide)) Fr.rf (fun s3 hQ3 hf3 => ?_)
        refine r_ald0 (pc := 185) dX6_qGoesOn_185 ?_
        refine m_getR hS (pc := 186) dX6_qGoesOn_186 fl_X6_225 ar103 ?_
        refine r_ald0 (pc := 189) dX6_qGoesOn_189 ?_
        refine m_getI hS (pc := 190) dX6_qGoesOn_190 fl_X6_330 ?_
        refine Bd.eqI hQ3.2.2.1 ?_
        have hq7 := hQ3.2.2.2.2.2.2
        refine r_ild1 (pc := 193) dX6_qGoesOn_193 ?_
        refine m_iast hS (pc := 194) dX6_qGoesOn_194 ar103 (by omega) (by omega) ?_
        refine r_ald0 (pc := 195) dX6_qGoesOn_195 ?_
        refine r_dup (pc := 196) dX6_qGoesOn_196 rfl ?_
        refine m_getI hS (pc := 197) dX6_qGoesOn_197 fl_X6_330 ?_
        refine Bd.eqI (x' := nI ((popW gM V).2 ++ B).length) hQ3.2.2.1 ?_
        refine r_iconst (v := nI 1) (pc := 200) dX6_qGoesOn_200 (by decide) ?_
        refine r_iaddN (pc := 201) dX6_qGoesOn_201 ?_
        refine m_putI hS (pc := 202) dX6_qGoesOn_202 fl_X6_330 fw_X6_104 rfl rfl ?_
        refine r_iconst (v := nI 1) (pc := 205) dX6_qGoesOn_205 (by decide) ?_
        refine r_zret (pc := 206) dX6_qGoesOn_206 rfl ?_
        exact sign 42 3 gM s2 s3 (by decide) l42 (by decide) hst hR2 (hf.trans (hf2.mono (by decide) (by decide) (by decide) (by decide))) ((hf2.1 106 (by decide)).trans h106) ((hf2.1 54 (by decide)).trans h54) hQ3 hf3
    · skip
      exact absurd l42 h128
  · by_cases l47 : lookO f n p = some 47
    · have ho : opM f n p = some (4, p + 1) := by unfold opM; rw [if_neg l42, if_pos l47, hp]
      have hst : stpC f n x (false, p, cs, V, op) = .inl (true, p + 1, cs ++ (popW gM V).1, 4 :: (popW gM V).2, op) := by
        rw [hstp]; unfold stpA; rw [if_neg hcl, ho]
      obtain ⟨f1, f2⟩ := lookO_some l47
      rw [hp] at f1 f2
      refine r_ald0 (pc := 122) dX6_qGoesOn_122 ?_
      refine r_bipush (v := nI 42) (pc := 123) dX6_qGoesOn_123 (by decide) ?_
      refine r_cV (pc := 125) dX6_qGoesOn_125 cv_X6_271 hS.k (hts s42 hR Fr.rf) rfl rfl (Nat.le_of_ble_eq_true rfl) (by decide) ?_
      rintro _ _ ⟨s9, rfl, rfl, hR9, hf9⟩
      rw [if_neg l42] at hR9
      first | refine r_if_neZ (pc := 128) (tgt := 140) dX6_qGoesOn_128 (by decide) (fun h128 => ?_) (fun h128 => ?_) | refine r_if_neN (pc := 128) (tgt := 140) dX6_qGoesOn_128 (by decide) (by omega) (fun h128 => ?_) (fun h128 => ?_) | refine r_if_ne (pc := 128) (tgt := 140) dX6_qGoesOn_128 (by decide) (fun h128 => ?_) (fun h128 => ?_)
      · skip
        exact absurd h128 l42
      · skip
        refine r_ald0 (pc := 131) dX6_qGoesOn_131 ?_
        refine r_bipush (v := nI 47) (pc := 132) dX6_qGoesOn_132 (by decide) ?_
        refine r_cV (pc := 134) dX6_qGoesOn_134 cv_X6_271 hS.k (hts s47 hR9 hf9) rfl rfl (Nat.le_of_ble_eq_true rfl) (by decide) ?_
        rintro _ _ ⟨s2, rfl, rfl, hR2, hf2⟩
        rw [if_pos l47] at hR2
        first | refine r_if_eqZ (pc := 137) (tgt := 207) dX6_qGoesOn_137 (by decide) (fun h137 => ?_) (fun h137 => ?_) | refine r_if_eqN (pc := 137) (tgt := 207) dX6_qGoesOn_137 (by decide) (by omega) (fun h137 => ?_) (fun h137 => ?_) | refine r_if_eq (pc := 137) (tgt := 207) dX6_qGoesOn_137 (by decide) (fun h137 => ?_) (fun h137 => ?_)
        · skip
          exact absurd l47 h137
        · skip
          refine r_ald0 (pc := 140) dX6_qGoesOn_140 ?_
          refine m_getR hS (pc := 141) dX6_qGoesOn_141 fl_X6_7 ar0 ?_
          refine r_ald0 (pc := 144) dX6_qGoesOn_144 ?_
          refine m_getI hS (pc := 145) dX6_qGoesOn_145 fl_X6_243 ?_
          refine Bd.eqI hR2.1.2.1 ?_
          refine r_iconst (v := nI 1) (pc := 148) dX6_qGoesOn_148 (by decide) ?_
          refine r_isubN (pc := 149) dX6_qGoesOn_149 (by omega) ?_
          rw [Nat.add_sub_cancel]
          refine m_iald hS (pc := 150) dX6_qGoesOn_150 ar0 (by omega) (by omega) ?_
          refine Bd.eqI (x' := nI 47) ((hR2.1.2.2.2.2.1 p (by omega)).trans (by rw [f2])) ?_
          refine r_bipush (v := nI 42) (pc := 151) dX6_qGoesOn_151 (by decide) ?_
          first | refine r_icmp_neN (pc := 153) (tgt := 160) dX6_qGoesOn_153 (by decide) (by omega) (by omega) (fun h153 => ?_) (fun h153 => ?_) | refine r_icmp_ne (pc := 153) (tgt := 160) dX6_qGoesOn_153 (by decide) (fun h153 => ?_) (fun h153 => ?_)
          · skip
            refine r_iconst (v := nI 4) (pc := 160) dX6_qGoesOn_160 (by decide) ?_
            refine r_ist1 (pc := 161) dX6_qGoesOn_161 ?_
            refine dropM hS hB V cs s2 (hQ.fr hf2 (by decide) (by decide)) Fr.rf (fun s3 hQ3 hf3 => ?_)
            refine r_ald0 (pc := 185) dX6_qGoesOn_185 ?_
            refine m_getR hS (pc := 186) dX6_qGoesOn_186 fl_X6_225 ar103 ?_
            refine r_ald0 (pc := 189) dX6_qGoesOn_189 ?_
            refine m_getI hS (pc := 190) dX6_qGoesOn_190 fl_X6_330 ?_
            refine Bd.eqI hQ3.2.2.1 ?_
            have hq7 := hQ3.2.2.2.2.2.2
            refine r_ild1 (pc := 193) dX6_qGoesOn_193 ?_
            refine m_iast hS (pc := 194) dX6_qGoesOn_194 ar103 (by omega) (by omega) ?_
            refine r_ald0 (pc := 195) dX6_qGoesOn_195 ?_
            refine r_dup (pc := 196) dX6_qGoesOn_196 rfl ?_
            refine m_getI hS (pc := 197) dX6_qGoesOn_197 fl_X6_330 ?_
            refine Bd.eqI (x' := nI ((popW gM V).2 ++ B).length) hQ3.2.2.1 ?_
            refine r_iconst (v := nI 1) (pc := 200) dX6_qGoesOn_200 (by decide) ?_
            refine r_iaddN (pc := 201) dX6_qGoesOn_201 ?_
            refine m_putI hS (pc := 202) dX6_qGoesOn_202 fl_X6_330 fw_X6_104 rfl rfl ?_
            refine r_iconst (v := nI 1) (pc := 205) dX6_qGoesOn_205 (by decide) ?_
            refine r_zret (pc := 206) dX6_qGoesOn_206 rfl ?_
            exact sign 47 4 gM s2 s3 (by decide) l47 (by decide) hst hR2 (hf.trans (hf2.mono (by decide) (by decide) (by decide) (by decide))) ((hf2.1 106 (by decide)).trans h106) ((hf2.1 54 (by decide)).trans h54) hQ3 hf3
          · skip
            exact absurd h153 (by decide)
    · have hoM : opM f n p = none := by unfold opM; rw [if_neg l42, if_neg l47]
      by_cases l43 : lookO f n p = some 43
      · have ho : opA f n p = some (1, p + 1) := by unfold opA; rw [if_pos l43, hp]
        have hst : stpC f n x (false, p, cs, V, op) = .inl (true, p + 1, cs ++ (popW gS4 V).1, 1 :: (popW gS4 V).2, op) := by
          rw [hstp]; unfold stpA; rw [if_neg hcl, hoM, ho]
        obtain ⟨f1, f2⟩ := lookO_some l43
        rw [hp] at f1 f2
        refine r_ald0 (pc := 122) dX6_qGoesOn_122 ?_
        refine r_bipush (v := nI 42) (pc := 123) dX6_qGoesOn_123 (by decide) ?_
        refine r_cV (pc := 125) dX6_qGoesOn_125 cv_X6_271 hS.k (hts s42 hR Fr.rf) rfl rfl (Nat.le_of_ble_eq_true rfl) (by decide) ?_
        rintro _ _ ⟨s9, rfl, rfl, hR9, hf9⟩
        rw [if_neg l42] at hR9
        first | refine r_if_neZ (pc := 128) (tgt := 140) dX6_qGoesOn_128 (by decide) (fun h128 => ?_) (fun h128 => ?_) | refine r_if_neN (pc := 128) (tgt := 140) dX6_qGoesOn_128 (by decide) (by omega) (fun h128 => ?_) (fun h128 => ?_) | refine r_if_ne (pc := 128) (tgt := 140) dX6_qGoesOn_128 (by decide) (fun h128 => ?_) (fun h128 => ?_)
        · skip
          exact absurd h128 l42
        · skip
          refine r_ald0 (pc := 131) dX6_qGoesOn_131 ?_
          refine r_bipush (v := nI 47) (pc := 132) dX6_qGoesOn_132 (by decide) ?_
          refine r_cV (pc := 134) dX6_qGoesOn_134 cv_X6_271 hS.k (hts s47 hR9 hf9) rfl rfl (Nat.le_of_ble_eq_true rfl) (by decide) ?_
          rintro _ _ ⟨s8, rfl, rfl, hR8, hf8⟩
          rw [if_neg l47] at hR8
          first | refine r_if_eqZ (pc := 137) (tgt := 207) dX6_qGoesOn_137 (by decide) (fun h137 => ?_) (fun h137 => ?_) | refine r_if_eqN (pc := 137) (tgt := 207) dX6_qGoesOn_137 (by decide) (by omega) (fun h137 => ?_) (fun h137 => ?_) | refine r_if_eq (pc := 137) (tgt := 207) dX6_qGoesOn_137 (by decide) (fun h137 => ?_) (fun h137 => ?_)
          · skip
            refine r_ald0 (pc := 207) dX6_qGoesOn_207 ?_
            refine r_bipush (v := nI 43) (pc := 208) dX6_qGoesOn_208 (by decide) ?_
            refine r_cV (pc := 210) dX6_qGoesOn_210 cv_X6_271 hS.k (hts s43 hR8 hf8) rfl rfl (Nat.le_of_ble_eq_true rfl) (by decide) ?_
            rintro _ _ ⟨s2, rfl, rfl, hR2, hf2⟩
            rw [if_pos l43] at hR2
            first | refine r_if_neZ (pc := 213) (tgt := 225) dX6_qGoesOn_213 (by decide) (fun h213 => ?_) (fun h213 => ?_) | refine r_if_neN (pc := 213) (tgt := 225) dX6_qGoesOn_213 (by decide) (by omega) (fun h213 => ?_) (fun h213 => ?_) | refine r_if_ne (pc := 213) (tgt := 225) dX6_qGoesOn_213 (by decide) (fun h213 => ?_) (fun h213 => ?_)
            · skip
              refine r_ald0 (pc := 225) dX6_qGoesOn_225 ?_
              refine m_getR hS (pc := 226) dX6_qGoesOn_226 fl_X6_7 ar0 ?_
              refine r_ald0 (pc := 229) dX6_qGoesOn_229 ?_
              refine m_getI hS (pc := 230) dX6_qGoesOn_230 fl_X6_243 ?_
              refine Bd.eqI hR2.1.2.1 ?_
              refine r_iconst (v := nI 1) (pc := 233) dX6_qGoesOn_233 (by decide) ?_
              refine r_isubN (pc := 234) dX6_qGoesOn_234 (by omega) ?_
              rw [Nat.add_sub_cancel]
              refine m_iald hS (pc := 235) dX6_qGoesOn_235 ar0 (by omega) (by omega) ?_
              refine Bd.eqI (x' := nI 43) ((hR2.1.2.2.2.2.1 p (by omega)).trans (by rw [f2])) ?_
              refine r_bipush (v := nI 43) (pc := 236) dX6_qGoesOn_236 (by decide) ?_
              first | refine r_icmp_neN (pc := 238) (tgt := 245) dX6_qGoesOn_238 (by decide) (by omega) (by omega) (fun h238 => ?_) (fun h238 => ?_) | refine r_icmp_ne (pc := 238) (tgt := 245) dX6_qGoesOn_238 (by decide) (fun h238 => ?_) (fun h238 => ?_)
              · skip
                exact absurd rfl h238
              · skip
                refine r_iconst (v := nI 1) (pc := 241) dX6_qGoesOn_241 (by decide) ?_
                refine r_goto (pc := 242) (tgt := 246) dX6_qGoesOn_242 (by decide) ?_
                refine r_ist1 (pc := 246) dX6_qGoesOn_246 ?_
                refine dropS hS hB V cs s2 (hQ.fr hf2 (by decide) (by decide)) Fr.rf (fun s3 hQ3 hf3 => ?_)
                refine r_ald0 (pc := 286) dX6_qGoesOn_286 ?_
                refine m_getR hS (pc := 287) dX6_qGoesOn_287 fl_X6_225 ar103 ?_
                refine r_ald0 (pc := 290) dX6_qGoesOn_290 ?_
                refine m_getI hS (pc := 291) dX6_qGoesOn_291 fl_X6_330 ?_
                refine Bd.eqI hQ3.2.2.1 ?_
                have hq7 := hQ3.2.2.2.2.2.2
                refine r_ild1 (pc := 294) dX6_qGoesOn_294 ?_
                refine m_iast hS (pc := 295) dX6_qGoesOn_295 ar103 (by omega) (by omega) ?_
                refine r_ald0 (pc := 296) dX6_qGoesOn_296 ?_
                refine r_dup (pc := 297) dX6_qGoesOn_297 rfl ?_
                refine m_getI hS (pc := 298) dX6_qGoesOn_298 fl_X6_330 ?_
                refine Bd.eqI (x' := nI ((popW gS4 V).2 ++ B).length) hQ3.2.2.1 ?_
                refine r_iconst (v := nI 1) (pc := 301) dX6_qGoesOn_301 (by decide) ?_
                refine r_iaddN (pc := 302) dX6_qGoesOn_302 ?_
                refine m_putI hS (pc := 303) dX6_qGoesOn_303 fl_X6_330 fw_X6_104 rfl rfl ?_
                refine r_iconst (v := nI 1) (pc := 306) dX6_qGoesOn_306 (by decide) ?_
                refine r_zret (pc := 307) dX6_qGoesOn_307 rfl ?_
                exact sign 43 1 gS4 s2 s3 (by decide) l43 (by decide) hst hR2 (hf.trans (hf2.mono (by decide) (by decide) (by decide) (by decide))) ((hf2.1 106 (by decide)).trans h106) ((hf2.1 54 (by decide)).trans h54) hQ3 hf3
            · skip
              exact absurd l43 h213
          · skip
            exact absurd h137 l47
      · by_cases l45 : lookO f n p = some 45
        · have ho : opA f n p = some (2, p + 1) := by unfold opA; rw [if_neg l43, if_pos l45, hp]
          have hst : stpC f n x (false, p, cs, V, op) = .inl (true, p + 1, cs ++ (popW gS4 V).1, 2 :: (popW gS4 V).2, op) := by
            rw [hstp]; unfold stpA; rw [if_neg hcl, hoM, ho]
          obtain ⟨f1, f2⟩ := lookO_some l45
          rw [hp] at f1 f2
          refine r_ald0 (pc := 122) dX6_qGoesOn_122 ?_
          refine r_bipush (v := nI 42) (pc := 123) dX6_qGoesOn_123 (by decide) ?_
          refine r_cV (pc := 125) dX6_qGoesOn_125 cv_X6_271 hS.k (hts s42 hR Fr.rf) rfl rfl (Nat.le_of_ble_eq_true rfl) (by decide) ?_
          rintro _ _ ⟨s9, rfl, rfl, hR9, hf9⟩
          rw [if_neg l42] at hR9
          first | refine r_if_neZ (pc := 128) (tgt := 140) dX6_qGoesOn_128 (by decide) (fun h128 => ?_) (fun h128 => ?_) | refine r_if_neN (pc := 128) (tgt := 140) dX6_qGoesOn_128 (by decide) (by omega) (fun h128 => ?_) (fun h128 => ?_) | refine r_if_ne (pc := 128) (tgt := 140) dX6_qGoesOn_128 (by decide) (fun h128 => ?_) (fun h128 => ?_)
          · skip
            exact absurd h128 l42
          · skip
            refine r_ald0 (pc := 131) dX6_qGoesOn_131 ?_
            refine r_bipush (v := nI 47) (pc := 132) dX6_qGoesOn_132 (by decide) ?_
            refine r_cV (pc := 134) dX6_qGoesOn_134 cv_X6_271 hS.k (hts s47 hR9 hf9) rfl rfl (Nat.le_of_ble_eq_true rfl) (by decide) ?_
            rintro _ _ ⟨s8, rfl, rfl, hR8, hf8⟩
            rw [if_neg l47] at hR8
            first | refine r_if_eqZ (pc := 137) (tgt := 207) dX6_qGoesOn_137 (by decide) (fun h137 => ?_) (fun h137 => ?_) | refine r_if_eqN (pc := 137) (tgt := 207) dX6_qGoesOn_137 (by decide) (by omega) (fun h137 => ?_) (fun h137 => ?_) | refine r_if_eq (pc := 137) (tgt := 207) dX6_qGoesOn_137 (by decide) (fun h137 => ?_) (fun h137 => ?_)
            · skip
              refine r_ald0 (pc := 207) dX6_qGoesOn_207 ?_
              refine r_bipush (v := nI 43) (pc := 208) dX6_qGoesOn_208 (by decide) ?_
              refine r_cV (pc := 210) dX6_qGoesOn_210 cv_X6_271 hS.k (hts s43 hR8 hf8) rfl rfl (Nat.le_of_ble_eq_true rfl) (by decide) ?_
              rintro _ _ ⟨s7, rfl, rfl, hR7, hf7⟩
              rw [if_neg l43] at hR7
              first | refine r_if_neZ (pc := 213) (tgt := 225) dX6_qGoesOn_213 (by decide) (fun h213 => ?_) (fun h213 => ?_) | refine r_if_neN (pc := 213) (tgt := 225) dX6_qGoesOn_213 (by decide) (by omega) (fun h213 => ?_) (fun h213 => ?_) | refine r_if_ne (pc := 213) (tgt := 225) dX6_qGoesOn_213 (by decide) (fun h213 => ?_) (fun h213 => ?_)
              · skip
                exact absurd h213 l43
              · skip
                refine r_ald0 (pc := 216) dX6_qGoesOn_216 ?_
                refine r_bipush (v := nI 45) (pc := 217) dX6_qGoesOn_217 (by decide) ?_
                refine r_cV (pc := 219) dX6_qGoesOn_219 cv_X6_271 hS.k (hts s45 hR7 hf7) rfl rfl (Nat.le_of_ble_eq_true rfl) (by decide) ?_
                rintro _ _ ⟨s2, rfl, rfl, hR2, hf2⟩
                rw [if_pos l45] at hR2
                first | refine r_if_eqZ (pc := 222) (tgt := 308) dX6_qGoesOn_222 (by decide) (fun h222 => ?_) (fun h222 => ?_) | refine r_if_eqN (pc := 222) (tgt := 308) dX6_qGoesOn_222 (by decide) (by omega) (fun h222 => ?_) (fun h222 => ?_) | refine r_if_eq (pc := 222) (tgt := 308) dX6_qGoesOn_222 (by decide) (fun h222 => ?_) (fun h222 => ?_)
                · skip
                  exact absurd l45 h222
                · skip
                  refine r_ald0 (pc := 225) dX6_qGoesOn_225 ?_
                  refine m_getR hS (pc := 226) dX6_qGoesOn_226 fl_X6_7 ar0 ?_
                  refine r_ald0 (pc := 229) dX6_qGoesOn_229 ?_
                  refine m_getI hS (pc := 230) dX6_qGoesOn_230 fl_X6_243 ?_
                  refine Bd.eqI hR2.1.2.1 ?_
                  refine r_iconst (v := nI 1) (pc := 233) dX6_qGoesOn_233 (by decide) ?_
                  refine r_isubN (pc := 234) dX6_qGoesOn_234 (by omega) ?_
                  rw [Nat.add_sub_cancel]
                  refine m_iald hS (pc := 235) dX6_qGoesOn_235 ar0 (by omega) (by omega) ?_
                  refine Bd.eqI (x' := nI 45) ((hR2.1.2.2.2.2.1 p (by omega)).trans (by rw [f2])) ?_
                  refine r_bipush (v := nI 43) (pc := 236) dX6_qGoesOn_236 (by decide) ?_
                  first | refine r_icmp_neN (pc := 238) (tgt := 245) dX6_qGoesOn_238 (by decide) (by omega) (by omega) (fun h238 => ?_) (fun h238 => ?_) | refine r_icmp_ne (pc := 238) (tgt := 245) dX6_qGoesOn_238 (by decide) (fun h238 => ?_) (fun h238 => ?_)
                  · skip
                    refine r_iconst (v := nI 2) (pc := 245) dX6_qGoesOn_245 (by decide) ?_
                    refine r_ist1 (pc := 246) dX6_qGoesOn_246 ?_
                    refine dropS hS hB V cs s2 (hQ.fr hf2 (by decide) (by decide)) Fr.rf (fun s3 hQ3 hf3 => ?_)
                    refine r_ald0 (pc := 286) dX6_qGoesOn_286 ?_
                    refine m_getR hS (pc := 287) dX6_qGoesOn_287 fl_X6_225 ar103 ?_
                    refine r_ald0 (pc := 290) dX6_qGoesOn_290 ?_
                    refine m_getI hS (pc := 291) dX6_qGoesOn_291 fl_X6_330 ?_
                    refine Bd.eqI hQ3.2.2.1 ?_
                    have hq7 := hQ3.2.2.2.2.2.2
                    refine r_ild1 (pc := 294) dX6_qGoesOn_294 ?_
                    refine m_iast hS (pc := 295) dX6_qGoesOn_295 ar103 (by omega) (by omega) ?_
                    refine r_ald0 (pc := 296) dX6_qGoesOn_296 ?_
                    refine r_dup (pc := 297) dX6_qGoesOn_297 rfl ?_
                    refine m_getI hS (pc := 298) dX6_qGoesOn_298 fl_X6_330 ?_
                    refine Bd.eqI (x' := nI ((popW gS4 V).2 ++ B).length) hQ3.2.2.1 ?_
                    refine r_iconst (v := nI 1) (pc := 301) dX6_qGoesOn_301 (by decide) ?_
                    refine r_iaddN (pc := 302) dX6_qGoesOn_302 ?_
                    refine m_putI hS (pc := 303) dX6_qGoesOn_303 fl_X6_330 fw_X6_104 rfl rfl ?_
                    refine r_iconst (v := nI 1) (pc := 306) dX6_qGoesOn_306 (by decide) ?_
                    refine r_zret (pc := 307) dX6_qGoesOn_307 rfl ?_
                    exact sign 45 2 gS4 s2 s3 (by decide) l45 (by decide) hst hR2 (hf.trans (hf2.mono (by decide) (by decide) (by decide) (by decide))) ((hf2.1 106 (by decide)).trans h106) ((hf2.1 54 (by decide)).trans h54) hQ3 hf3
                  · skip
                    exact absurd h238 (by decide)
            · skip
              exact absurd h137 l47
        · have hoA : opA f n p = none := by unfold opA; rw [if_neg l43, if_neg l45]
          have hst : stpC f n x (false, p, cs, V, op) = match brk V with
              | some b => if b = 21 ∨ b = 22 then (if lookO f n p = some 44 then .inl (true, p + 1, cs ++ (popW gB V).1, (b + 2) :: (popW gB V).2.tail, op) else .inr (.error (1, p))) else .inr (.error (1, p))
              | none => .inr (.ok (p, cs ++ V, op)) := by
            rw [hstp]; unfold stpA; rw [if_neg hcl, hoM, hoA, hp]; rfl
          have fin308 : ∀ (s2 : MS) (w1 : Option Value), RP s2 f n p → Fr [2] [] [] [] s1 s2 → Bd g yX6_qGoesOn cX6_qGoesOn 2 (some Jvm.ClassFile.FieldType.boolean) [] 3 0 0 (putM M o s2) 308 [some (.ref o), w1] [] (QM M o (GnQ f n x B (k1 + 1) r s)) noX := by
            intro s2 w1 hR2 hf2
            have hQ2 := hQ.fr hf2 (by decide) (by decide)
            have h1062 := (hf2.1 106 (by decide)).trans h106
            have h542 := (hf2.1 54 (by decide)).trans h54
            have hff := hf.trans (hf2.mono (by decide) (by decide) (by decide) (by decide))
            have hbk := ct_X6_qBracket hS hQ2 h1062
            cases hb : brk V with
            | none =>
              rw [hb] at hst hbk
              rw [hst] at hr2
              rcases hr2 with ⟨d, hd, hrun2⟩ | hd
              · cases hd
              · cases hd
                refine r_ald0 (pc := 308) dX6_qGoesOn_308 ?_
                refine r_cV (pc := 309) dX6_qGoesOn_309 cv_X6_626 hS.k hbk rfl rfl (Nat.le_of_ble_eq_true rfl) (by decide) ?_
                rintro _ _ ⟨rfl, rfl⟩
                refine r_bipush (v := nI 21) (pc := 312) dX6_qGoesOn_312 (by decide) ?_
                refine r_icmp_eq (pc := 314) (tgt := 326) dX6_qGoesOn_314 (by decide) (fun h314 => ?_) (fun h314 => ?_)
                · skip
                  exact absurd h314 (by decide)
                · skip
                  refine r_ald0 (pc := 317) dX6_qGoesOn_317 ?_
                  refine r_cV (pc := 318) dX6_qGoesOn_318 cv_X6_626 hS.k hbk rfl rfl (Nat.le_of_ble_eq_true rfl) (by decide) ?_
                  rintro _ _ ⟨rfl, rfl⟩
                  refine r_bipush (v := nI 22) (pc := 321) dX6_qGoesOn_321 (by decide) ?_
                  refine r_icmp_ne (pc := 323) (tgt := 362) dX6_qGoesOn_323 (by decide) (fun h323 => ?_) (fun h323 => ?_)
                  · skip
                    refine r_ald0 (pc := 362) dX6_qGoesOn_362 ?_
                    refine r_cV (pc := 363) dX6_qGoesOn_363 cv_X6_626 hS.k hbk rfl rfl (Nat.le_of_ble_eq_true rfl) (by decide) ?_
                    rintro _ _ ⟨rfl, rfl⟩
                    refine r_iconst (v := -1) (pc := 366) dX6_qGoesOn_366 (by decide) ?_
                    refine r_icmp_eq (pc := 367) (tgt := 386) dX6_qGoesOn_367 (by decide) (fun h367 => ?_) (fun h367 => ?_)
                    · skip
                      refine r_iconst (v := nI 0) (pc := 386) dX6_qGoesOn_386 (by decide) ?_
                      refine r_zret (pc := 387) dX6_qGoesOn_387 (by first | rfl | exact zI_nar | assumption) ?_
                      exact ⟨_, rfl, hff, Or.inr ⟨rfl, Or.inr ⟨p, cs, V, op, rfl, CFG.mk hR2 hQ2 h1062 h542 hi0 hB hx⟩⟩⟩
                    · skip
                      exact absurd rfl h367
                  · skip
                    exact absurd h323 (by decide)
            | some b =>
              rw [hb] at hst hbk
              obtain ⟨b1, b2, b3⟩ := brk_some hb
              rw [show oI (some b) = nI b from rfl] at hbk
              have hst : stpC f n x (false, p, cs, V, op) = if b = 21 ∨ b = 22 then (if lookO f n p = some 44 then .inl (true, p + 1, cs ++ (popW gB V).1, (b + 2) :: (popW gB V).2.tail, op) else .inr (.error (1, p))) else .inr (.error (1, p)) := hst
              by_cases hb2 : b = 21 ∨ b = 22
              · rw [if_pos hb2] at hst
                have f326 : Bd g yX6_qGoesOn cX6_qGoesOn 2 (some Jvm.ClassFile.FieldType.boolean) [] 3 0 0 (putM M o s2) 326 [some (.ref o), w1] [] (QM M o (GnQ f n x B (k1 + 1) r s)) noX := by
                  have hsg := ct_X6_asksSign (c := 44) hS hR2 (sgOk_all 44 (by decide))
                  by_cases l44 : lookO f n p = some 44
                  · rw [if_pos l44] at hst
                    have hiC := stpC_inv (e := B.length) hst hi0
                    rw [hst] at hr2
                    rw [show sgP f n 44 p = .ok (p + 1) by unfold sgP; rw [if_pos l44, hp]] at hsg
                    rcases hr2 with ⟨d, hd, hrun2⟩ | hd
                    · cases hd
                      have hp7 := hQ2.2.2.2.2.2.2
                      have hpl := popW_len gB V
                      have hlt : (popW gB V).2.length = (popW gB V).2.tail.length + 1 := by rw [b1]; simp
                      rw [List.length_append] at hp7
                      refine r_ald0 (pc := 326) dX6_qGoesOn_326 ?_
                      refine r_bipush (v := nI 44) (pc := 327) dX6_qGoesOn_327 (by decide) ?_
                      refine r_cV (pc := 329) dX6_qGoesOn_329 cv_X6_320 hS.k hsg rfl rfl (Nat.le_of_ble_eq_true rfl) (by decide) ?_
                      rintro _ _ ⟨s3, rfl, rfl, hR3, hf3⟩
                      have hR3 : RP s3 f n (p + 1) := hR3
                      refine r_ald0 (pc := 332) dX6_qGoesOn_332 ?_
                      refine m_getI hS (pc := 333) dX6_qGoesOn_333 fl_X6_237 ?_
                      refine Bd.eqI hR3.2.1 ?_
                      first | refine r_if_eqZ (pc := 336) (tgt := 341) dX6_qGoesOn_336 (by decide) (fun h336 => ?_) (fun h336 => ?_) | refine r_if_eqN (pc := 336) (tgt := 341) dX6_qGoesOn_336 (by decide) (by omega) (fun h336 => ?_) (fun h336 => ?_) | refine r_if_eq (pc := 336) (tgt := 341) dX6_qGoesOn_336 (by decide) (fun h336 => ?_) (fun h336 => ?_)
                      · skip
                        refine r_ald0 (pc := 341) dX6_qGoesOn_341 ?_
                        refine r_cV (pc := 342) dX6_qGoesOn_342 cv_X6_629 hS.k (ct_X6_qDropsToBracket hS (hQ2.fr hf3 (by decide) (by decide)) ((hf3.1 106 (by decide)).trans h1062)) rfl rfl (Nat.le_of_ble_eq_true rfl) (by decide) ?_
                        rintro _ _ ⟨s4, rfl, rfl, hQ4, hf4⟩
                        rw [b1] at hQ4
                        have hQ4 : RQ s4 (cs ++ (popW gB V).1) (b :: ((popW gB V).2.tail ++ B)) op := hQ4
                        have hl4 : mF s4 104 = nI (((popW gB V).2.tail ++ B).length + 1) := hQ4.2.2.1
                        have hl5 : ((popW gB V).2.tail ++ B).length = (popW gB V).2.tail.length + B.length := List.length_append
                        refine r_ald0 (pc := 345) dX6_qGoesOn_345 ?_
                        refine m_getR hS (pc := 346) dX6_qGoesOn_346 fl_X6_225 ar103 ?_
                        refine r_ald0 (pc := 349) dX6_qGoesOn_349 ?_
                        refine m_getI hS (pc := 350) dX6_qGoesOn_350 fl_X6_330 ?_
                        refine Bd.eqI hl4 ?_
                        refine r_iconst (v := nI 1) (pc := 353) dX6_qGoesOn_353 (by decide) ?_
                        refine r_isubN (pc := 354) dX6_qGoesOn_354 (by omega) ?_
                        rw [Nat.add_sub_cancel]
                        refine r_dup2 (pc := 355) dX6_qGoesOn_355 rfl rfl ?_
                        refine m_iald hS (pc := 356) dX6_qGoesOn_356 ar103 (by omega) (by omega) ?_
                        refine Bd.eqI hQ4.2.2.2.1.1 ?_
                        refine r_iconst (v := nI 2) (pc := 357) dX6_qGoesOn_357 (by decide) ?_
                        first | refine r_iaddN (pc := 358) dX6_qGoesOn_358 ?_ | refine r_iaddJ (pc := 358) dX6_qGoesOn_358 ?_ | refine r_iadd (pc := 358) dX6_qGoesOn_358 ?_
                        refine m_iast hS (pc := 359) dX6_qGoesOn_359 ar103 (by omega) (by omega) ?_
                        refine r_iconst (v := nI 1) (pc := 360) dX6_qGoesOn_360 (by decide) ?_
                        refine r_zret (pc := 361) dX6_qGoesOn_361 (by first | rfl | exact zI_nar | assumption) ?_
                        have hF5 : Fr [] [] [103] [] s4 (tA s4 103 ((popW gB V).2.tail ++ B).length (nI (b + 2))) := Fr.tA Fr.rf (by decide)
                        refine ⟨_, rfl, hff.trans ((hf3.mono (by decide) (by decide) (by decide) (by decide)).trans ((hf4.mono (by decide) (by decide) (by decide) (by decide)).trans (hF5.mono (by decide) (by decide) (by decide) (by decide)))), Or.inl ⟨rfl, k1, _, Nat.lt_succ_self _, rfl, hrun2, ?_⟩⟩
                        refine CFG.mk ((hR3.fr hf4 (by decide) (by decide)).fr hF5 (by decide) (by decide)) ?_ ((hF5.1 106 (by decide)).trans ((hf4.1 106 (by decide)).trans ((hf3.1 106 (by decide)).trans h1062))) ((hF5.1 54 (by decide)).trans ((hf4.1 54 (by decide)).trans ((hf3.1 54 (by decide)).trans h542))) hiC hB hx
                        refine ⟨hQ4.1, hQ4.2.1, hl4, ⟨?_, pilN_congr (fun i hi => tA_ne2 (Nat.ne_of_lt hi)) hQ4.2.2.2.1.2⟩, hQ4.2.2.2.2.1, ?_, hQ4.2.2.2.2.2.2⟩
                        exact (mA_tA _ _ _ _ _ _).trans (if_pos ⟨rfl, rfl⟩)
                        intro u hu; rcases List.mem_cons.mp hu with e | e; exact (by omega); exact hQ4.2.2.2.2.2.1 u (List.mem_cons_of_mem _ e)
                      · skip
                        exact absurd rfl h336
                    · cases hd
                  · rw [if_neg l44] at hst
                    rw [hst] at hr2
                    rw [show sgP f n 44 p = .error (1, p) by unfold sgP; rw [if_neg l44, hp]] at hsg
                    rcases hr2 with ⟨d, hd, hrun2⟩ | hd
                    · cases hd
                    · cases hd
                      refine r_ald0 (pc := 326) dX6_qGoesOn_326 ?_
                      refine r_bipush (v := nI 44) (pc := 327) dX6_qGoesOn_327 (by decide) ?_
                      refine r_cV (pc := 329) dX6_qGoesOn_329 cv_X6_320 hS.k hsg rfl rfl (Nat.le_of_ble_eq_true rfl) (by decide) ?_
                      rintro _ _ ⟨s3, rfl, rfl, hB3, hf3⟩
                      have hB3 : BD s3 (1, p) := hB3
                      refine r_ald0 (pc := 332) dX6_qGoesOn_332 ?_
                      refine m_getI hS (pc := 333) dX6_qGoesOn_333 fl_X6_237 ?_
                      refine r_if_eq (pc := 336) (tgt := 341) dX6_qGoesOn_336 (by decide) (fun h336 => ?_) (fun h336 => ?_)
                      · skip
                        exact absurd h336 hB3.ne
                      · skip
                        refine r_iconst (v := nI 0) (pc := 339) dX6_qGoesOn_339 (by decide) ?_
                        refine r_zret (pc := 340) dX6_qGoesOn_340 (by first | rfl | exact zI_nar | assumption) ?_
                        exact ⟨_, rfl, hff.trans (hf3.mono (by decide) (by decide) (by decide) (by decide)), Or.inr ⟨rfl, Or.inl ⟨_, rfl, hB3, cs.length, by omega, (hf3.1 102 (by decide)).trans hQ2.1⟩⟩⟩
                by_cases b21 : b = 21
                · subst b21
                  refine r_ald0 (pc := 308) dX6_qGoesOn_308 ?_
                  refine r_cV (pc := 309) dX6_qGoesOn_309 cv_X6_626 hS.k hbk rfl rfl (Nat.le_of_ble_eq_true rfl) (by decide) ?_
                  rintro _ _ ⟨rfl, rfl⟩
                  refine r_bipush (v := nI 21) (pc := 312) dX6_qGoesOn_312 (by decide) ?_
                  first | refine r_icmp_eqN (pc := 314) (tgt := 326) dX6_qGoesOn_314 (by decide) (by omega) (by omega) (fun h314 => ?_) (fun h314 => ?_) | refine r_icmp_eq (pc := 314) (tgt := 326) dX6_qGoesOn_314 (by decide) (fun h314 => ?_) (fun h314 => ?_)
                  · skip
                    exact f326
                  · skip
                    exact absurd rfl h314
                · obtain rfl : b = 22 := by omega
                  refine r_ald0 (pc := 308) dX6_qGoesOn_308 ?_
                  refine r_cV (pc := 309) dX6_qGoesOn_309 cv_X6_626 hS.k hbk rfl rfl (Nat.le_of_ble_eq_true rfl) (by decide) ?_
                  rintro _ _ ⟨rfl, rfl⟩
                  refine r_bipush (v := nI 21) (pc := 312) dX6_qGoesOn_312 (by decide) ?_
                  first | refine r_icmp_eqN (pc := 314) (tgt := 326) dX6_qGoesOn_314 (by decide) (by omega) (by omega) (fun h314 => ?_) (fun h314 => ?_) | refine r_icmp_eq (pc := 314) (tgt := 326) dX6_qGoesOn_314 (by decide) (fun h314 => ?_) (fun h314 => ?_)
                  · skip
                    exact absurd h314 (by decide)
                  · skip
                    refine r_ald0 (pc := 317) dX6_qGoesOn_317 ?_
                    refine r_cV (pc := 318) dX6_qGoesOn_318 cv_X6_626 hS.k hbk rfl rfl (Nat.le_of_ble_eq_true rfl) (by decide) ?_
                    rintro _ _ ⟨rfl, rfl⟩
                    refine r_bipush (v := nI 22) (pc := 321) dX6_qGoesOn_321 (by decide) ?_
                    first | refine r_icmp_neN (pc := 323) (tgt := 362) dX6_qGoesOn_323 (by decide) (by omega) (by omega) (fun h323 => ?_) (fun h323 => ?_) | refine r_icmp_ne (pc := 323) (tgt := 362) dX6_qGoesOn_323 (by decide) (fun h323 => ?_) (fun h323 => ?_)
                    · skip
                      exact absurd rfl h323
                    · skip
                      exact f326
              · rw [if_neg hb2] at hst
                rw [hst] at hr2
                rcases hr2 with ⟨d, hd, hrun2⟩ | hd
                · cases hd
                · cases hd
                  refine r_ald0 (pc := 308) dX6_qGoesOn_308 ?_
                  refine r_cV (pc := 309) dX6_qGoesOn_309 cv_X6_626 hS.k hbk rfl rfl (Nat.le_of_ble_eq_true rfl) (by decide) ?_
                  rintro _ _ ⟨rfl, rfl⟩
                  refine r_bipush (v := nI 21) (pc := 312) dX6_qGoesOn_312 (by decide) ?_
                  first | refine r_icmp_eqN (pc := 314) (tgt := 326) dX6_qGoesOn_314 (by decide) (by omega) (by omega) (fun h314 => ?_) (fun h314 => ?_) | refine r_icmp_eq (pc := 314) (tgt := 326) dX6_qGoesOn_314 (by decide) (fun h314 => ?_) (fun h314 => ?_)
                  · skip
                    exact absurd h314 (by omega)
                  · skip
                    refine r_ald0 (pc := 317) dX6_qGoesOn_317 ?_
                    refine r_cV (pc := 318) dX6_qGoesOn_318 cv_X6_626 hS.k hbk rfl rfl (Nat.le_of_ble_eq_true rfl) (by decide) ?_
                    rintro _ _ ⟨rfl, rfl⟩
                    refine r_bipush (v := nI 22) (pc := 321) dX6_qGoesOn_321 (by decide) ?_
                    first | refine r_icmp_neN (pc := 323) (tgt := 362) dX6_qGoesOn_323 (by decide) (by omega) (by omega) (fun h323 => ?_) (fun h323 => ?_) | refine r_icmp_ne (pc := 323) (tgt := 362) dX6_qGoesOn_323 (by decide) (fun h323 => ?_) (fun h323 => ?_)
                    · skip
                      refine r_ald0 (pc := 362) dX6_qGoesOn_362 ?_
                      refine r_cV (pc := 363) dX6_qGoesOn_363 cv_X6_626 hS.k hbk rfl rfl (Nat.le_of_ble_eq_true rfl) (by decide) ?_
                      rintro _ _ ⟨rfl, rfl⟩
                      refine r_iconst (v := -1) (pc := 366) dX6_qGoesOn_366 (by decide) ?_
                      refine r_icmp_eq (pc := 367) (tgt := 386) dX6_qGoesOn_367 (by decide) (fun h367 => ?_) (fun h367 => ?_)
                      · skip
                        exact absurd h367 (nI_m1 (by omega))
                      · skip
                        refine r_ald0 (pc := 370) dX6_qGoesOn_370 ?_
                        refine m_getI hS (pc := 371) dX6_qGoesOn_371 fl_X6_237 ?_
                        refine Bd.eqI hR2.2.1 ?_
                        first | refine r_if_neZ (pc := 374) (tgt := 386) dX6_qGoesOn_374 (by decide) (fun h374 => ?_) (fun h374 => ?_) | refine r_if_neN (pc := 374) (tgt := 386) dX6_qGoesOn_374 (by decide) (by omega) (fun h374 => ?_) (fun h374 => ?_) | refine r_if_ne (pc := 374) (tgt := 386) dX6_qGoesOn_374 (by decide) (fun h374 => ?_) (fun h374 => ?_)
                        · skip
                          exact absurd rfl h374
                        · skip
                          refine r_ald0 (pc := 377) dX6_qGoesOn_377 ?_
                          refine r_iconst (v := nI 1) (pc := 378) dX6_qGoesOn_378 (by decide) ?_
                          refine r_ald0 (pc := 379) dX6_qGoesOn_379 ?_
                          refine m_getI hS (pc := 380) dX6_qGoesOn_380 fl_X6_243 ?_
                          refine Bd.eqI hR2.1.2.1 ?_
                          refine r_cV (pc := 383) dX6_qGoesOn_383 cv_X6_267 hS.k (ct_X6_failP hS hR2.2.1 (by decide) (by omega)) rfl rfl (Nat.le_of_ble_eq_true rfl) (by decide) ?_
                          rintro _ _ ⟨s3, rfl, rfl, hB3, hf3⟩
                          refine r_iconst (v := nI 0) (pc := 386) dX6_qGoesOn_386 (by decide) ?_
                          refine r_zret (pc := 387) dX6_qGoesOn_387 (by first | rfl | exact zI_nar | assumption) ?_
                          exact ⟨_, rfl, hff.trans (hf3.mono (by decide) (by decide) (by decide) (by decide)), Or.inr ⟨rfl, Or.inl ⟨_, rfl, hB3, cs.length, by omega, (hf3.1 102 (by decide)).trans hQ2.1⟩⟩⟩
                    · skip
                      exact absurd h323 (by omega)
          refine r_ald0 (pc := 122) dX6_qGoesOn_122 ?_
          refine r_bipush (v := nI 42) (pc := 123) dX6_qGoesOn_123 (by decide) ?_
          refine r_cV (pc := 125) dX6_qGoesOn_125 cv_X6_271 hS.k (hts s42 hR Fr.rf) rfl rfl (Nat.le_of_ble_eq_true rfl) (by decide) ?_
          rintro _ _ ⟨s9, rfl, rfl, hR9, hf9⟩
          rw [if_neg l42] at hR9
          first | refine r_if_neZ (pc := 128) (tgt := 140) dX6_qGoesOn_128 (by decide) (fun h128 => ?_) (fun h128 => ?_) | refine r_if_neN (pc := 128) (tgt := 140) dX6_qGoesOn_128 (by decide) (by omega) (fun h128 => ?_) (fun h128 => ?_) | refine r_if_ne (pc := 128) (tgt := 140) dX6_qGoesOn_128 (by decide) (fun h128 => ?_) (fun h128 => ?_)
          · skip
            exact absurd h128 l42
          · skip
            refine r_ald0 (pc := 131) dX6_qGoesOn_131 ?_
            refine r_bipush (v := nI 47) (pc := 132) dX6_qGoesOn_132 (by decide) ?_
            refine r_cV (pc := 134) dX6_qGoesOn_134 cv_X6_271 hS.k (hts s47 hR9 hf9) rfl rfl (Nat.le_of_ble_eq_true rfl) (by decide) ?_
            rintro _ _ ⟨s8, rfl, rfl, hR8, hf8⟩
            rw [if_neg l47] at hR8
            first | refine r_if_eqZ (pc := 137) (tgt := 207) dX6_qGoesOn_137 (by decide) (fun h137 => ?_) (fun h137 => ?_) | refine r_if_eqN (pc := 137) (tgt := 207) dX6_qGoesOn_137 (by decide) (by omega) (fun h137 => ?_) (fun h137 => ?_) | refine r_if_eq (pc := 137) (tgt := 207) dX6_qGoesOn_137 (by decide) (fun h137 => ?_) (fun h137 => ?_)
            · skip
              refine r_ald0 (pc := 207) dX6_qGoesOn_207 ?_
              refine r_bipush (v := nI 43) (pc := 208) dX6_qGoesOn_208 (by decide) ?_
              refine r_cV (pc := 210) dX6_qGoesOn_210 cv_X6_271 hS.k (hts s43 hR8 hf8) rfl rfl (Nat.le_of_ble_eq_true rfl) (by decide) ?_
              rintro _ _ ⟨s7, rfl, rfl, hR7, hf7⟩
              rw [if_neg l43] at hR7
              first | refine r_if_neZ (pc := 213) (tgt := 225) dX6_qGoesOn_213 (by decide) (fun h213 => ?_) (fun h213 => ?_) | refine r_if_neN (pc := 213) (tgt := 225) dX6_qGoesOn_213 (by decide) (by omega) (fun h213 => ?_) (fun h213 => ?_) | refine r_if_ne (pc := 213) (tgt := 225) dX6_qGoesOn_213 (by decide) (fun h213 => ?_) (fun h213 => ?_)
              · skip
                exact absurd h213 l43
              · skip
                refine r_ald0 (pc := 216) dX6_qGoesOn_216 ?_
                refine r_bipush (v := nI 45) (pc := 217) dX6_qGoesOn_217 (by decide) ?_
                refine r_cV (pc := 219) dX6_qGoesOn_219 cv_X6_271 hS.k (hts s45 hR7 hf7) rfl rfl (Nat.le_of_ble_eq_true rfl) (by decide) ?_
                rintro _ _ ⟨s6, rfl, rfl, hR6, hf6⟩
                rw [if_neg l45] at hR6
                first | refine r_if_eqZ (pc := 222) (tgt := 308) dX6_qGoesOn_222 (by decide) (fun h222 => ?_) (fun h222 => ?_) | refine r_if_eqN (pc := 222) (tgt := 308) dX6_qGoesOn_222 (by decide) (by omega) (fun h222 => ?_) (fun h222 => ?_) | refine r_if_eq (pc := 222) (tgt := 308) dX6_qGoesOn_222 (by decide) (fun h222 => ?_) (fun h222 => ?_)
                · skip
                  exact fin308 s6 _ hR6 hf6
                · skip
                  exact absurd h222 l45
            · skip
              exact absurd h137 l47
/-- a bracket is closed, from 43 on -/
theorem go43 {B cs V : List Nat} {op k p b : Nat} {r : Ou} {s1 : MS} {w1 : Option Value} (hS : ShM g M o) (hp : skip f n p = p) (hC : CFG s1 f n x B (false, p, cs, V, op)) (hl : lookO f n p = some 41) (hb : brk V = some b) (hb3 : b = 20 ∨ b = 23 ∨ b = 24) (hf : FQ s s1)
    (hk : ∀ s2, CFG s2 f n x B (false, p + 1, cs ++ clC V, clB V, op - 1 - (popW gO (popW gB V).2.tail).1.length) → FQ s s2 → Bd g yX6_qGoesOn cX6_qGoesOn 2 (some Jvm.ClassFile.FieldType.boolean) [] 3 0 0 (putM M o s2) 0 [some (.ref o), w1] [] (QM M o (GnQ f n x B k r s)) noX) :
    Bd g yX6_qGoesOn cX6_qGoesOn 2 (some Jvm.ClassFile.FieldType.boolean) [] 3 0 0 (putM M o s1) 43 [some (.ref o), w1] [] (QM M o (GnQ f n x B k r s)) noX := by
  have hC0 := hC
  obtain ⟨hR, hQ, h106, h54, hi, hB, hx⟩ := hC
  have hR : RP s1 f n p := hR
  have hQ : RQ s1 cs (V ++ B) op := hQ
  have hn := hR.1.2.2.2.1
  have hst : stpC f n x (false, p, cs, V, op) = .inl (false, p + 1, cs ++ clC V, clB V, op - 1 - (popW gO (popW gB V).2.tail).1.length) := by
    show stpA f n p cs V op = _
    unfold stpA
    rw [if_pos ⟨hl, by rcases hb3 with e | e | e <;> rw [hb, e] <;> simp⟩, hp]
  have hiC := stpC_inv (e := B.length) hst hi
  obtain ⟨i1, i2, i3, i4⟩ := hi
  have i1 : cs.length + V.length + B.length ≤ p := i1
  have i2 : p ≤ n := i2
  have i3 : cO V ≤ op := i3
  have i4 : op ≤ 6 := i4
  obtain ⟨f1, f2⟩ := lookO_some hl
  rw [hp] at f1 f2
  obtain ⟨b1, b2, b3⟩ := brk_some hb
  have p1 := popW_len gB V
  have p2 := cO_pop gB V
  have p3 : (popW gB V).2.length = (popW gB V).2.tail.length + 1 := by rw [b1]; simp
  have p4 : cO (popW gB V).2 = 1 + cO (popW gB V).2.tail := by rw [b1, cO_cons, if_pos b2]; rfl
  have p6 := cO_pop gO (popW gB V).2.tail
  have p7 : cO (popW gO (popW gB V).2.tail).1 = (popW gO (popW gB V).2.tail).1.length := cO_all (fun v hv => by
    have := popW_all gO _ v hv
    unfold gO at this
    have : 60 ≤ v := by simpa using this
    omega)
  have hl5 : ((popW gB V).2.tail ++ B).length = (popW gB V).2.tail.length + B.length := List.length_append
  have fin : ∀ (cs9 : List Nat) (s2 : MS), cs9 ++ (popW gO (popW gB V).2.tail).1 = cs ++ clC V → RP s2 f n (p + 1) → RQ s2 cs9 ((popW gB V).2.tail ++ B) (op - 1) → mF s2 106 = nI B.length → mF s2 54 = nI x → FQ s s2 → Bd g yX6_qGoesOn cX6_qGoesOn 2 (some Jvm.ClassFile.FieldType.boolean) [] 3 0 0 (putM M o s2) 115 [some (.ref o), w1] [] (QM M o (GnQ f n x B k r s)) noX := by
    intro cs9 s2 hcs hR2 hQ2 h1 h2 hf2
    refine r_ald0 (pc := 115) dX6_qGoesOn_115 ?_
    refine r_cV (pc := 116) dX6_qGoesOn_116 cv_X6_623 hS.k (ct_X6_qEndsPart hS hQ2 h1 hR2.2.1 (by omega) (by omega)) rfl rfl (Nat.le_of_ble_eq_true rfl) (by decide) ?_
    rintro _ _ ⟨s3, rfl, rfl, hQ3, hf3⟩
    rw [hcs] at hQ3
    refine r_goto (pc := 119) (tgt := 0) dX6_qGoesOn_119 (by decide) ?_
    exact hk s3 (CFG.mk (hR2.fr hf3 (by decide) (by decide)) hQ3 ((hf3.1 106 (by decide)).trans h1) ((hf3.1 54 (by decide)).trans h2) hiC hB hx) (hf2.trans (hf3.mono (by decide) (by decide) (by decide) (by decide)))
  have hR1' : RP (tF s1 2 (nI (p + 1))) f n (p + 1) := hR.step f1 f2 (sgOk_all 41 (by decide)) rfl (by rintro i (rfl | rfl | rfl) <;> rfl) rfl rfl
  have hQ1' := hQ.fr (fr_at2 (s := s1) (v := nI (p + 1))) (by decide) (by decide)
  refine r_ald0 (pc := 43) dX6_qGoesOn_43 ?_
  refine r_dup (pc := 44) dX6_qGoesOn_44 rfl ?_
  refine m_getI hS (pc := 45) dX6_qGoesOn_45 fl_X6_243 ?_
  refine Bd.eqI hR.1.2.1 ?_
  refine r_iconst (v := nI 1) (pc := 48) dX6_qGoesOn_48 (by decide) ?_
  first | refine r_iaddN (pc := 49) dX6_qGoesOn_49 ?_ | refine r_iaddJ (pc := 49) dX6_qGoesOn_49 ?_ | refine r_iadd (pc := 49) dX6_qGoesOn_49 ?_
  refine m_putI hS (pc := 50) dX6_qGoesOn_50 fl_X6_243 fw_X6_2 rfl rfl ?_
  refine r_ald0 (pc := 53) dX6_qGoesOn_53 ?_
  refine r_cV (pc := 54) dX6_qGoesOn_54 cv_X6_629 hS.k (ct_X6_qDropsToBracket hS hQ1' h106) rfl rfl (Nat.le_of_ble_eq_true rfl) (by decide) ?_
  rintro _ _ ⟨s4, rfl, rfl, hQ4, hf4⟩
  rw [b1] at hQ4
  have hQ4 : RQ s4 (cs ++ (popW gB V).1) (b :: ((popW gB V).2.tail ++ B)) op := hQ4
  have hl4 : mF s4 104 = nI (((popW gB V).2.tail ++ B).length + 1) := hQ4.2.2.1
  have hq7 : (cs ++ (popW gB V).1).length + (((popW gB V).2.tail ++ B).length + 1) ≤ 1601 := hQ4.2.2.2.2.2.2
  have hR4 := hR1'.fr hf4 (by decide) (by decide)
  refine r_ald0 (pc := 57) dX6_qGoesOn_57 ?_
  refine r_dup (pc := 58) dX6_qGoesOn_58 rfl ?_
  refine m_getI hS (pc := 59) dX6_qGoesOn_59 fl_X6_330 ?_
  refine Bd.eqI hl4 ?_
  refine r_iconst (v := nI 1) (pc := 62) dX6_qGoesOn_62 (by decide) ?_
  refine r_isubN (pc := 63) dX6_qGoesOn_63 (by omega) ?_
  rw [Nat.add_sub_cancel]
  refine m_putI hS (pc := 64) dX6_qGoesOn_64 fl_X6_330 fw_X6_104 rfl rfl ?_
  refine r_ald0 (pc := 67) dX6_qGoesOn_67 ?_
  refine r_dup (pc := 68) dX6_qGoesOn_68 rfl ?_
  refine m_getI hS (pc := 69) dX6_qGoesOn_69 fl_X6_333 ?_
  refine Bd.eqI (x' := nI op) hQ4.2.2.2.2.1 ?_
  refine r_iconst (v := nI 1) (pc := 72) dX6_qGoesOn_72 (by decide) ?_
  refine r_isubN (pc := 73) dX6_qGoesOn_73 (by omega) ?_
  refine m_putI hS (pc := 74) dX6_qGoesOn_74 fl_X6_333 fw_X6_105 rfl rfl ?_
  have hF6 : Fr [104, 105] [] [] [] s4 (tF (tF s4 104 (nI ((popW gB V).2.tail ++ B).length)) 105 (nI (op - 1))) := Fr.tF (Fr.tF Fr.rf (by decide)) (by decide)
  have hR6 := hR4.fr hF6 (by decide) (by decide)
  have hQ6 : RQ (tF (tF s4 104 (nI ((popW gB V).2.tail ++ B).length)) 105 (nI (op - 1))) (cs ++ (popW gB V).1) ((popW gB V).2.tail ++ B) (op - 1) := ⟨hQ4.1, hQ4.2.1, rfl, hQ4.2.2.2.1.2, rfl, fun u hu => hQ4.2.2.2.2.2.1 u (List.mem_cons_of_mem _ hu), by omega⟩
  have h1066 := (hF6.1 106 (by decide)).trans ((hf4.1 106 (by decide)).trans h106)
  have h546 := (hF6.1 54 (by decide)).trans ((hf4.1 54 (by decide)).trans h54)
  have hf6 : FQ s (tF (tF s4 104 (nI ((popW gB V).2.tail ++ B).length)) 105 (nI (op - 1))) := (Fr.tF hf (by decide)).trans ((hf4.mono (by decide) (by decide) (by decide) (by decide)).trans (hF6.mono (by decide) (by decide) (by decide) (by decide)))
  refine r_ald0 (pc := 77) dX6_qGoesOn_77 ?_
  refine m_getR hS (pc := 78) dX6_qGoesOn_78 fl_X6_225 ar103 ?_
  refine r_ald0 (pc := 81) dX6_qGoesOn_81 ?_
  refine m_getI hS (pc := 82) dX6_qGoesOn_82 fl_X6_330 ?_
  refine Bd.eqI (x' := nI ((popW gB V).2.tail ++ B).length) rfl ?_
  refine m_iald hS (pc := 85) dX6_qGoesOn_85 ar103 (by omega) (by omega) ?_
  refine Bd.eqI (x' := nI b) hQ4.2.2.2.1.1 ?_
  refine r_bipush (v := nI 20) (pc := 86) dX6_qGoesOn_86 (by decide) ?_
  first | refine r_icmp_eqN (pc := 88) (tgt := 115) dX6_qGoesOn_88 (by decide) (by omega) (by omega) (fun h88 => ?_) (fun h88 => ?_) | refine r_icmp_eq (pc := 88) (tgt := 115) dX6_qGoesOn_88 (by decide) (fun h88 => ?_) (fun h88 => ?_)
  · skip
    exact fin _ _ (by unfold clC; rw [hb, h88]; simp) hR6 hQ6 h1066 h546 hf6
    skip
  · skip
    refine r_ald0 (pc := 91) dX6_qGoesOn_91 ?_
    refine r_ald0 (pc := 92) dX6_qGoesOn_92 ?_
    refine m_getR hS (pc := 93) dX6_qGoesOn_93 fl_X6_225 ar103 ?_
    refine r_ald0 (pc := 96) dX6_qGoesOn_96 ?_
    refine m_getI hS (pc := 97) dX6_qGoesOn_97 fl_X6_330 ?_
    refine Bd.eqI (x' := nI ((popW gB V).2.tail ++ B).length) rfl ?_
    refine m_iald hS (pc := 100) dX6_qGoesOn_100 ar103 (by omega) (by omega) ?_
    refine Bd.eqI (x' := nI b) hQ4.2.2.2.1.1 ?_
    refine r_bipush (v := nI 23) (pc := 101) dX6_qGoesOn_101 (by decide) ?_
    first | refine r_icmp_neN (pc := 103) (tgt := 110) dX6_qGoesOn_103 (by decide) (by omega) (by omega) (fun h103 => ?_) (fun h103 => ?_) | refine r_icmp_ne (pc := 103) (tgt := 110) dX6_qGoesOn_103 (by decide) (fun h103 => ?_) (fun h103 => ?_)
    · skip
      refine r_bipush (v := nI 6) (pc := 110) dX6_qGoesOn_110 (by decide) ?_
      refine r_cV (pc := 112) dX6_qGoesOn_112 cv_X6_599 hS.k (ct_X6_qCode hS hQ6 (by omega)) rfl rfl (Nat.le_of_ble_eq_true rfl) (by decide) ?_
      rintro _ _ ⟨s7, rfl, rfl, hQ7, hf7⟩
      refine fin _ s7 ?_ (hR6.fr hf7 (by decide) (by decide)) hQ7 ((hf7.1 106 (by decide)).trans h1066) ((hf7.1 54 (by decide)).trans h546) (hf6.trans (hf7.mono (by decide) (by decide) (by decide) (by decide)))
      first | (unfold clC; rw [hb, h103]; simp; done) | (unfold clC; rw [hb, show b = 24 by omega]; simp; done)
    · skip
      refine r_iconst (v := nI 5) (pc := 106) dX6_qGoesOn_106 (by decide) ?_
      refine r_goto (pc := 107) (tgt := 112) dX6_qGoesOn_107 (by decide) ?_
      refine r_cV (pc := 112) dX6_qGoesOn_112 cv_X6_599 hS.k (ct_X6_qCode hS hQ6 (by omega)) rfl rfl (Nat.le_of_ble_eq_true rfl) (by decide) ?_
      rintro _ _ ⟨s7, rfl, rfl, hQ7, hf7⟩
      refine fin _ s7 ?_ (hR6.fr hf7 (by decide) (by decide)) hQ7 ((hf7.1 106 (by decide)).trans h1066) ((hf7.1 54 (by decide)).trans h546) (hf6.trans (hf7.mono (by decide) (by decide) (by decide) (by decide)))
      first | (unfold clC; rw [hb, h103]; simp; done) | (unfold clC; rw [hb, show b = 24 by omega]; simp; done)
theorem goLoop {B : List Nat} {r : Ou} (hS : ShM g M o) : ∀ (k a : Nat) (cs V : List Nat) (op : Nat) (s1 : MS) (w1 : Option Value), CFG s1 f n x B (false, a, cs, V, op) → runC f n x k (false, a, cs, V, op) = some r → FQ s s1 →
    Bd g yX6_qGoesOn cX6_qGoesOn 2 (some Jvm.ClassFile.FieldType.boolean) [] 3 0 0 (putM M o s1) 0 [some (.ref o), w1] [] (QM M o (GnQ f n x B k r s)) noX := by
  intro k
  induction k with
  | zero => intro a cs V op s1 w1 hC hrun hf; cases hrun
  | succ k ih =>
    intro a cs V op s1 w1 hC hrun hf
    obtain ⟨hR, hQ, h106, h54, hi, hB, hx⟩ := hC
    have hR : RP s1 f n a := hR
    have hQ : RQ s1 cs (V ++ B) op := hQ
    have hp := skip_idem f n a
    have hsl := skip_le (f := f) hR.1.2.2.1
    have hsg := skip_ge f n a
    obtain ⟨i1, i2, i3, i4⟩ := hi
    have i1 : cs.length + V.length + B.length ≤ a := i1
    have hiP : iC n B.length (false, skip f n a, cs, V, op) := ⟨(by show cs.length + V.length + B.length ≤ skip f n a; omega), hsl, i3, i4⟩
    have hstP : stpC f n x (false, skip f n a, cs, V, op) = stpC f n x (false, a, cs, V, op) := stpA_skip a cs V op
    have hrunP : runC f n x (k + 1) (false, skip f n a, cs, V, op) = some r := by
      show (match stpC f n x (false, skip f n a, cs, V, op) with | .inl d => runC f n x k d | .inr r => some r) = _
      rw [hstP]; exact hrun
    have hlk := ct_X6_lookP hS hR
    have hCP : ∀ s2, RP s2 f n (skip f n a) → Fr [2] [] [] [] s1 s2 → CFG s2 f n x B (false, skip f n a, cs, V, op) := fun s2 hR2 hf2 => CFG.mk hR2 (hQ.fr hf2 (by decide) (by decide)) ((hf2.1 106 (by decide)).trans h106) ((hf2.1 54 (by decide)).trans h54) hiP hB hx
    by_cases hl : lookO f n a = some 41
    · have hlP : lookO f n (skip f n a) = some 41 := by rw [lookO_skip]; exact hl
      rw [hl] at hlk
      rw [show oI (some 41) = nI 41 from rfl] at hlk
      have hbk : ∀ {s2 : MS}, RP s2 f n (skip f n a) → Fr [2] [] [] [] s1 s2 → _ := fun {s2} hR2 hf2 => ct_X6_qBracket (V := V) (B := B) hS (hQ.fr hf2 (by decide) (by decide)) ((hf2.1 106 (by decide)).trans h106)
      cases hb : brk V with
      | none =>
        rw [hb] at hbk
        refine r_ald0 (pc := 0) dX6_qGoesOn_0 ?_
        refine m_getI hS (pc := 1) dX6_qGoesOn_1 fl_X6_237 ?_
        refine Bd.eqI hR.2.1 ?_
        first | refine r_if_neZ (pc := 4) (tgt := 122) dX6_qGoesOn_4 (by decide) (fun h4 => ?_) (fun h4 => ?_) | refine r_if_neN (pc := 4) (tgt := 122) dX6_qGoesOn_4 (by decide) (by omega) (fun h4 => ?_) (fun h4 => ?_) | refine r_if_ne (pc := 4) (tgt := 122) dX6_qGoesOn_4 (by decide) (fun h4 => ?_) (fun h4 => ?_)
        · skip
          exact absurd rfl h4
        · skip
          refine r_ald0 (pc := 7) dX6_qGoesOn_7 ?_
          refine r_cV (pc := 8) dX6_qGoesOn_8 cv_X6_249 hS.k hlk rfl rfl (Nat.le_of_ble_eq_true rfl) (by decide) ?_
          rintro _ _ ⟨s2, rfl, rfl, hR2, hf2⟩
          refine r_bipush (v := nI 41) (pc := 11) dX6_qGoesOn_11 (by decide) ?_
          first | refine r_icmp_neN (pc := 13) (tgt := 122) dX6_qGoesOn_13 (by decide) (by omega) (by omega) (fun h13 => ?_) (fun h13 => ?_) | refine r_icmp_ne (pc := 13) (tgt := 122) dX6_qGoesOn_13 (by decide) (fun h13 => ?_) (fun h13 => ?_)
          · skip
            exact absurd rfl h13
          · skip
            refine r_ald0 (pc := 16) dX6_qGoesOn_16 ?_
            refine r_cV (pc := 17) dX6_qGoesOn_17 cv_X6_626 hS.k (hbk hR2 hf2) rfl rfl (Nat.le_of_ble_eq_true rfl) (by decide) ?_
            rintro _ _ ⟨rfl, rfl⟩
            refine r_bipush (v := nI 20) (pc := 20) dX6_qGoesOn_20 (by decide) ?_
            refine r_icmp_eq (pc := 22) (tgt := 43) dX6_qGoesOn_22 (by decide) (fun h22 => ?_) (fun h22 => ?_)
            · skip
              exact absurd h22 (by decide)
            · skip
              refine r_ald0 (pc := 25) dX6_qGoesOn_25 ?_
              refine r_cV (pc := 26) dX6_qGoesOn_26 cv_X6_626 hS.k (hbk hR2 hf2) rfl rfl (Nat.le_of_ble_eq_true rfl) (by decide) ?_
              rintro _ _ ⟨rfl, rfl⟩
              refine r_bipush (v := nI 23) (pc := 29) dX6_qGoesOn_29 (by decide) ?_
              refine r_icmp_eq (pc := 31) (tgt := 43) dX6_qGoesOn_31 (by decide) (fun h31 => ?_) (fun h31 => ?_)
              · skip
                exact absurd h31 (by decide)
              · skip
                refine r_ald0 (pc := 34) dX6_qGoesOn_34 ?_
                refine r_cV (pc := 35) dX6_qGoesOn_35 cv_X6_626 hS.k (hbk hR2 hf2) rfl rfl (Nat.le_of_ble_eq_true rfl) (by decide) ?_
                rintro _ _ ⟨rfl, rfl⟩
                refine r_bipush (v := nI 24) (pc := 38) dX6_qGoesOn_38 (by decide) ?_
                refine r_icmp_ne (pc := 40) (tgt := 122) dX6_qGoesOn_40 (by decide) (fun h40 => ?_) (fun h40 => ?_)
                · skip
                  exact go122 hS hp (hCP s2 hR2 hf2) hrunP (hf.trans (hf2.mono (by decide) (by decide) (by decide) (by decide))) (by rw [hb]; rintro ⟨-, e | e | e⟩ <;> cases e)
                · skip
                  exact absurd h40 (by decide)
      | some b =>
        rw [hb] at hbk
        obtain ⟨b1, b2, b3⟩ := brk_some hb
        rw [show oI (some b) = nI b from rfl] at hbk
        by_cases hb3 : b = 20 ∨ b = 23 ∨ b = 24
        · have hst : stpC f n x (false, skip f n a, cs, V, op) = .inl (false, skip f n a + 1, cs ++ clC V, clB V, op - 1 - (popW gO (popW gB V).2.tail).1.length) := by
            show stpA f n (skip f n a) cs V op = _
            unfold stpA
            rw [if_pos ⟨hlP, by rcases hb3 with e | e | e <;> rw [hb, e] <;> simp⟩, hp]
          have hcl : ∀ s2, RP s2 f n (skip f n a) → Fr [2] [] [] [] s1 s2 → Bd g yX6_qGoesOn cX6_qGoesOn 2 (some Jvm.ClassFile.FieldType.boolean) [] 3 0 0 (putM M o s2) 43 [some (.ref o), w1] [] (QM M o (GnQ f n x B (k + 1) r s)) noX := by
            intro s2 hR2 hf2
            refine go43 hS hp (hCP s2 hR2 hf2) hlP hb hb3 (hf.trans (hf2.mono (by decide) (by decide) (by decide) (by decide))) (fun s3 hC3 hf3 => ?_)
            have hrun3 : runC f n x k (false, skip f n a + 1, cs ++ clC V, clB V, op - 1 - (popW gO (popW gB V).2.tail).1.length) = some r := by
              have h : (match stpC f n x (false, skip f n a, cs, V, op) with | .inl d => runC f n x k d | .inr r => some r) = some r := hrunP
              rw [hst] at h; exact h
            refine Bd.post ?_ (fun _ _ h => h) (ih _ _ _ _ s3 w1 hC3 hrun3 hf3)
            rintro v M' ⟨s9, rfl, h9⟩
            exact ⟨s9, rfl, h9.mono (Nat.le_succ _)⟩
          refine r_ald0 (pc := 0) dX6_qGoesOn_0 ?_
          refine m_getI hS (pc := 1) dX6_qGoesOn_1 fl_X6_237 ?_
          refine Bd.eqI hR.2.1 ?_
          first | refine r_if_neZ (pc := 4) (tgt := 122) dX6_qGoesOn_4 (by decide) (fun h4 => ?_) (fun h4 => ?_) | refine r_if_neN (pc := 4) (tgt := 122) dX6_qGoesOn_4 (by decide) (by omega) (fun h4 => ?_) (fun h4 => ?_) | refine r_if_ne (pc := 4) (tgt := 122) dX6_qGoesOn_4 (by decide) (fun h4 => ?_) (fun h4 => ?_)
          · skip
            exact absurd rfl h4
          · skip
            refine r_ald0 (pc := 7) dX6_qGoesOn_7 ?_
            refine r_cV (pc := 8) dX6_qGoesOn_8 cv_X6_249 hS.k hlk rfl rfl (Nat.le_of_ble_eq_true rfl) (by decide) ?_
            rintro _ _ ⟨s2, rfl, rfl, hR2, hf2⟩
            refine r_bipush (v := nI 41) (pc := 11) dX6_qGoesOn_11 (by decide) ?_
            first | refine r_icmp_neN (pc := 13) (tgt := 122) dX6_qGoesOn_13 (by decide) (by omega) (by omega) (fun h13 => ?_) (fun h13 => ?_) | refine r_icmp_ne (pc := 13) (tgt := 122) dX6_qGoesOn_13 (by decide) (fun h13 => ?_) (fun h13 => ?_)
            · skip
              exact absurd rfl h13
            · skip
              refine r_ald0 (pc := 16) dX6_qGoesOn_16 ?_
              refine r_cV (pc := 17) dX6_qGoesOn_17 cv_X6_626 hS.k (hbk hR2 hf2) rfl rfl (Nat.le_of_ble_eq_true rfl) (by decide) ?_
              rintro _ _ ⟨rfl, rfl⟩
              refine r_bipush (v := nI 20) (pc := 20) dX6_qGoesOn_20 (by decide) ?_
              first | refine r_icmp_eqN (pc := 22) (tgt := 43) dX6_qGoesOn_22 (by decide) (by omega) (by omega) (fun h22 => ?_) (fun h22 => ?_) | refine r_icmp_eq (pc := 22) (tgt := 43) dX6_qGoesOn_22 (by decide) (fun h22 => ?_) (fun h22 => ?_)
              · skip
                exact hcl s2 hR2 hf2
              · skip
                refine r_ald0 (pc := 25) dX6_qGoesOn_25 ?_
                refine r_cV (pc := 26) dX6_qGoesOn_26 cv_X6_626 hS.k (hbk hR2 hf2) rfl rfl (Nat.le_of_ble_eq_true rfl) (by decide) ?_
                rintro _ _ ⟨rfl, rfl⟩
                refine r_bipush (v := nI 23) (pc := 29) dX6_qGoesOn_29 (by decide) ?_
                first | refine r_icmp_eqN (pc := 31) (tgt := 43) dX6_qGoesOn_31 (by decide) (by omega) (by omega) (fun h31 => ?_) (fun h31 => ?_) | refine r_icmp_eq (pc := 31) (tgt := 43) dX6_qGoesOn_31 (by decide) (fun h31 => ?_) (fun h31 => ?_)
                · skip
                  exact hcl s2 hR2 hf2
                · skip
                  refine r_ald0 (pc := 34) dX6_qGoesOn_34 ?_
                  refine r_cV (pc := 35) dX6_qGoesOn_35 cv_X6_626 hS.k (hbk hR2 hf2) rfl rfl (Nat.le_of_ble_eq_true rfl) (by decide) ?_
                  rintro _ _ ⟨rfl, rfl⟩
                  refine r_bipush (v := nI 24) (pc := 38) dX6_qGoesOn_38 (by decide) ?_
                  first | refine r_icmp_neN (pc := 40) (tgt := 122) dX6_qGoesOn_40 (by decide) (by omega) (by omega) (fun h40 => ?_) (fun h40 => ?_) | refine r_icmp_ne (pc := 40) (tgt := 122) dX6_qGoesOn_40 (by decide) (fun h40 => ?_) (fun h40 => ?_)
                  · skip
                    exact absurd hb3 (by omega)
                  · skip
                    exact hcl s2 hR2 hf2
        · skip
          refine r_ald0 (pc := 0) dX6_qGoesOn_0 ?_
          refine m_getI hS (pc := 1) dX6_qGoesOn_1 fl_X6_237 ?_
          refine Bd.eqI hR.2.1 ?_
          first | refine r_if_neZ (pc := 4) (tgt := 122) dX6_qGoesOn_4 (by decide) (fun h4 => ?_) (fun h4 => ?_) | refine r_if_neN (pc := 4) (tgt := 122) dX6_qGoesOn_4 (by decide) (by omega) (fun h4 => ?_) (fun h4 => ?_) | refine r_if_ne (pc := 4) (tgt := 122) dX6_qGoesOn_4 (by decide) (fun h4 => ?_) (fun h4 => ?_)
          · skip
            exact absurd rfl h4
          · skip
            refine r_ald0 (pc := 7) dX6_qGoesOn_7 ?_
            refine r_cV (pc := 8) dX6_qGoesOn_8 cv_X6_249 hS.k hlk rfl rfl (Nat.le_of_ble_eq_true rfl) (by decide) ?_
            rintro _ _ ⟨s2, rfl, rfl, hR2, hf2⟩
            refine r_bipush (v := nI 41) (pc := 11) dX6_qGoesOn_11 (by decide) ?_
            first | refine r_icmp_neN (pc := 13) (tgt := 122) dX6_qGoesOn_13 (by decide) (by omega) (by omega) (fun h13 => ?_) (fun h13 => ?_) | refine r_icmp_ne (pc := 13) (tgt := 122) dX6_qGoesOn_13 (by decide) (fun h13 => ?_) (fun h13 => ?_)
            · skip
              exact absurd rfl h13
            · skip
              refine r_ald0 (pc := 16) dX6_qGoesOn_16 ?_
              refine r_cV (pc := 17) dX6_qGoesOn_17 cv_X6_626 hS.k (hbk hR2 hf2) rfl rfl (Nat.le_of_ble_eq_true rfl) (by decide) ?_
              rintro _ _ ⟨rfl, rfl⟩
              refine r_bipush (v := nI 20) (pc := 20) dX6_qGoesOn_20 (by decide) ?_
              first | refine r_icmp_eqN (pc := 22) (tgt := 43) dX6_qGoesOn_22 (by decide) (by omega) (by omega) (fun h22 => ?_) (fun h22 => ?_) | refine r_icmp_eq (pc := 22) (tgt := 43) dX6_qGoesOn_22 (by decide) (fun h22 => ?_) (fun h22 => ?_)
              · skip
                exact absurd h22 (by omega)
              · skip
                refine r_ald0 (pc := 25) dX6_qGoesOn_25 ?_
                refine r_cV (pc := 26) dX6_qGoesOn_26 cv_X6_626 hS.k (hbk hR2 hf2) rfl rfl (Nat.le_of_ble_eq_true rfl) (by decide) ?_
                rintro _ _ ⟨rfl, rfl⟩
                refine r_bipush (v := nI 23) (pc := 29) dX6_qGoesOn_29 (by decide) ?_
                first | refine r_icmp_eqN (pc := 31) (tgt := 43) dX6_qGoesOn_31 (by decide) (by omega) (by omega) (fun h31 => ?_) (fun h31 => ?_) | refine r_icmp_eq (pc := 31) (tgt := 43) dX6_qGoesOn_31 (by decide) (fun h31 => ?_) (fun h31 => ?_)
                · skip
                  exact absurd h31 (by omega)
                · skip
                  refine r_ald0 (pc := 34) dX6_qGoesOn_34 ?_
                  refine r_cV (pc := 35) dX6_qGoesOn_35 cv_X6_626 hS.k (hbk hR2 hf2) rfl rfl (Nat.le_of_ble_eq_true rfl) (by decide) ?_
                  rintro _ _ ⟨rfl, rfl⟩
                  refine r_bipush (v := nI 24) (pc := 38) dX6_qGoesOn_38 (by decide) ?_
                  first | refine r_icmp_neN (pc := 40) (tgt := 122) dX6_qGoesOn_40 (by decide) (by omega) (by omega) (fun h40 => ?_) (fun h40 => ?_) | refine r_icmp_ne (pc := 40) (tgt := 122) dX6_qGoesOn_40 (by decide) (fun h40 => ?_) (fun h40 => ?_)
                  · skip
                    exact go122 hS hp (hCP s2 hR2 hf2) hrunP (hf.trans (hf2.mono (by decide) (by decide) (by decide) (by decide))) (by rw [hb]; rintro ⟨-, e | e | e⟩ <;> (have := Option.some.inj e; omega))
                  · skip
                    exact absurd h40 (by omega)
    · skip
      refine r_ald0 (pc := 0) dX6_qGoesOn_0 ?_
      refine m_getI hS (pc := 1) dX6_qGoesOn_1 fl_X6_237 ?_
      refine Bd.eqI hR.2.1 ?_
      first | refine r_if_neZ (pc := 4) (tgt := 122) dX6_qGoesOn_4 (by decide) (fun h4 => ?_) (fun h4 => ?_) | refine r_if_neN (pc := 4) (tgt := 122) dX6_qGoesOn_4 (by decide) (by omega) (fun h4 => ?_) (fun h4 => ?_) | refine r_if_ne (pc := 4) (tgt := 122) dX6_qGoesOn_4 (by decide) (fun h4 => ?_) (fun h4 => ?_)
      · skip
        exact absurd rfl h4
      · skip
        refine r_ald0 (pc := 7) dX6_qGoesOn_7 ?_
        refine r_cV (pc := 8) dX6_qGoesOn_8 cv_X6_249 hS.k hlk rfl rfl (Nat.le_of_ble_eq_true rfl) (by decide) ?_
        rintro _ _ ⟨s2, rfl, rfl, hR2, hf2⟩
        refine r_bipush (v := nI 41) (pc := 11) dX6_qGoesOn_11 (by decide) ?_
        refine r_icmp_ne (pc := 13) (tgt := 122) dX6_qGoesOn_13 (by decide) (fun h13 => ?_) (fun h13 => ?_)
        · skip
          exact go122 hS hp (hCP s2 hR2 hf2) hrunP (hf.trans (hf2.mono (by decide) (by decide) (by decide) (by decide))) (by rw [lookO_skip]; exact fun q => hl q.1)
        · skip
          exact absurd (oI_inj (fun c hc => by have := (lookO_lt hR hc).1; omega) (by decide) h13) hl
theorem ct_X6_qGoesOn {B cs V : List Nat} {op k : Nat} {r : Ou} (hS : ShM g M o) (hC : CFG s f n x B (false, a, cs, V, op)) (hrun : runC f n x k (false, a, cs, V, op) = some r) :
    Ct g yX6_qGoesOn cX6_qGoesOn 2 (some Jvm.ClassFile.FieldType.boolean) 3 0 0 [.ref o] (putM M o s) (QM M o (GnQ f n x B k r s)) noX := by
  refine Ct.of (by decide) (Nat.le_of_ble_eq_true rfl) rfl ?_
  exact goLoop hS k a cs V op s _ hC hrun Fr.rf
end M34
