set_option maxRecDepth 100000
/-! THE MODEL: on -/
section M27
variable {g : GC} {M : MM} {o : Nat} {s sB : MS} {M1 : MM} {q : Sg} {T : Te} {t : St} {K : List Ev}
/-- where one's thought of another stands in the image, by how many came before -/
def thAt (p k : Nat) : Nat := if k ≤ p then k else k - 1
/-- the state with people below p on, and of p the thoughts below k -/
def onP (f : Nat → Nat) (n : Nat) (t : St) (p j k : Nat) : St := (256 * f 0 + f 1, (fun r => if r < p ∨ (r = p ∧ 0 < j) then f (2 + (2 + n) * r) else hs t r), (fun r => if r < p ∨ (r = p ∧ 1 < j) then f (2 + (2 + n) * r + 1) else lk t r), (fun r => if r < p ∨ (r = p ∧ 2 < j) then f (2 + (2 + n) * r + 2) else sp t r), fun r i => if i ≠ r ∧ (r < p ∨ (r = p ∧ i < k)) then f (2 + (2 + n) * r + 3 + thAt r i) else th t r i)
theorem RN.congr {n : Nat} {t' : St} (h : RN s n t) (h0 : yr t = yr t') (h1 : ∀ p, p < n → hs t p = hs t' p) (h2 : ∀ p, p < n → lk t p = lk t' p) (h3 : ∀ p, p < n → sp t p = sp t' p) (h4 : ∀ p, p < n → ∀ k, k < n → th t p k = th t' p k) : RN s n t' :=
  ⟨h.1.trans (congrArg nI h0), fun p hp => (h.2.1 p hp).trans (congrArg nI (h1 p hp)), fun p hp => (h.2.2.1 p hp).trans (congrArg nI (h2 p hp)), fun p hp => (h.2.2.2.1 p hp).trans (congrArg nI (h3 p hp)), fun p hp k hk => (h.2.2.2.2 p hp k hk).trans (congrArg nI (h4 p hp k hk))⟩
theorem onThLoop {f : Nat → Nat} {n p : Nat} {w1 : Int32} {Q : Option Value → MM → Prop} (hS : ShM g M o) (hn8 : n ≤ 8) (hp : p < n) (hn : mF s 40 = nI n) (hf : ∀ j, j < 1600 → mA s 0 j = nI (f j))
    (hk : ∀ s1 w4, RN s1 n (onP f n t p 3 n) → (∀ j, 89 ≤ j → mA s1 55 j = mA s 55 j) → Fr [] [] [55] [] s s1 → Bd g yX6_on cX6_on 5 (some Jvm.ClassFile.FieldType.boolean) [] 4 0 0 (putM M o s1) 156 [some (.ref o), some (.int w1), some (.int (nI (2 + (2 + n) * (p + 1)))), some (.int (nI p)), w4] [] Q noX) :
    ∀ (m k : Nat) (s1 : MS), k + m = n → RN s1 n (onP f n t p 3 k) → (∀ j, 89 ≤ j → mA s1 55 j = mA s 55 j) → Fr [] [] [55] [] s s1 → Bd g yX6_on cX6_on 5 (some Jvm.ClassFile.FieldType.boolean) [] 4 0 0 (putM M o s1) 108 [some (.ref o), some (.int w1), some (.int (nI (2 + (2 + n) * p + 3 + thAt p k))), some (.int (nI p)), some (.int (nI k))] [] Q noX := by
  have hmp : (2 + n) * p ≤ 10 * 7 := Nat.mul_le_mul (by omega) (by omega)
  intro m
  induction m with
  | zero =>
    intro k s1 hkm hN hh hf1
    have hkm : k = n := hkm
    subst hkm
    have e : 2 + (2 + k) * p + 3 + thAt p k = 2 + (2 + k) * (p + 1) := by unfold thAt; rw [if_neg (by omega), Nat.mul_succ]; omega
    rw [e]
    refine r_ild4 (pc := 108) dX6_on_108 ?_
    refine r_ald0 (pc := 110) dX6_on_110 ?_
    refine m_getI hS (pc := 111) dX6_on_111 fl_X6_382 ?_
    refine Bd.eqI ((hf1.1 40 (by decide)).trans hn) ?_
    first | refine r_icmp_geN (pc := 114) (tgt := 156) dX6_on_114 (by decide) (by omega) (by omega) (fun h114 => ?_) (fun h114 => ?_) | refine r_icmp_ge (pc := 114) (tgt := 156) dX6_on_114 (by decide) (fun h114 => ?_) (fun h114 => ?_)
    · skip
      exact hk s1 _ hN hh hf1
    · skip
      exact absurd h114 (by omega)
  | succ m ih =>
    intro k s1 hkm hN hh hf1
    have hta : thAt p k ≤ 8 := by unfold thAt; split <;> omega
    by_cases e : k = p
    · subst e
      have hih := ih (k + 1) s1 (by omega) (hN.congr rfl (fun _ _ => rfl) (fun _ _ => rfl) (fun _ _ => rfl) (fun r hr i hi => by
        show (if i ≠ r ∧ (r < k ∨ (r = k ∧ i < k)) then _ else _) = (if i ≠ r ∧ (r < k ∨ (r = k ∧ i < k + 1)) then _ else _)
        by_cases c : i ≠ r ∧ (r < k ∨ (r = k ∧ i < k))
        · rw [if_pos c, if_pos (by omega)]
        · rw [if_neg c, if_neg (by omega)])) hh hf1
      rw [show thAt k (k + 1) = thAt k k by unfold thAt; rw [if_neg (by omega), if_pos (by omega)]; omega] at hih
      refine r_ild4 (pc := 108) dX6_on_108 ?_
      refine r_ald0 (pc := 110) dX6_on_110 ?_
      refine m_getI hS (pc := 111) dX6_on_111 fl_X6_382 ?_
      refine Bd.eqI ((hf1.1 40 (by decide)).trans hn) ?_
      first | refine r_icmp_geN (pc := 114) (tgt := 156) dX6_on_114 (by decide) (by omega) (by omega) (fun h114 => ?_) (fun h114 => ?_) | refine r_icmp_ge (pc := 114) (tgt := 156) dX6_on_114 (by decide) (fun h114 => ?_) (fun h114 => ?_)
      · skip
        exact absurd h114 (by omega)
      · skip
        refine r_ild4 (pc := 117) dX6_on_117 ?_
        refine r_ild3 (pc := 119) dX6_on_119 ?_
        first | refine r_icmp_neN (pc := 120) (tgt := 126) dX6_on_120 (by decide) (by omega) (by omega) (fun h120 => ?_) (fun h120 => ?_) | refine r_icmp_ne (pc := 120) (tgt := 126) dX6_on_120 (by decide) (fun h120 => ?_) (fun h120 => ?_)
        · skip
          exact absurd rfl h120
        · skip
          refine r_goto (pc := 123) (tgt := 150) dX6_on_123 (by decide) ?_
          first | refine r_iinc4N (j := 1) (pc := 150) dX6_on_150 rfl ?_ | refine r_iinc4 (pc := 150) dX6_on_150 ?_
          refine r_goto (pc := 153) (tgt := 108) dX6_on_153 (by decide) ?_
          exact hih
    · have hta2 : thAt p (k + 1) = thAt p k + 1 := by unfold thAt; split <;> split <;> omega
      have hN2 : RN (tA s1 55 (25 + 8 * p + k) (nI (f (2 + (2 + n) * p + 3 + thAt p k)))) n (onP f n t p 3 (k + 1)) := by
        refine (RN.setTh hn8 hp (by omega) hN (v := f (2 + (2 + n) * p + 3 + thAt p k)) (q := k)).congr rfl (fun _ _ => rfl) (fun _ _ => rfl) (fun _ _ => rfl) (fun r hr i hi => ?_)
        show va_up (th (onP f n t p 3 k)) p (va_up (th (onP f n t p 3 k) p) k (f (2 + (2 + n) * p + 3 + thAt p k))) r i = (if i ≠ r ∧ (r < p ∨ (r = p ∧ i < k + 1)) then f (2 + (2 + n) * r + 3 + thAt r i) else th t r i)
        unfold va_up
        by_cases c : r = p
        · subst c
          rw [if_pos rfl]
          show (if i = k then f (2 + (2 + n) * r + 3 + thAt r k) else (if i ≠ r ∧ (r < r ∨ (r = r ∧ i < k)) then f (2 + (2 + n) * r + 3 + thAt r i) else th t r i)) = _
          by_cases c2 : i = k
          · subst c2; rw [if_pos rfl, if_pos (by omega)]
          · rw [if_neg c2]
            by_cases c3 : i ≠ r ∧ (r < r ∨ (r = r ∧ i < k))
            · rw [if_pos c3, if_pos (by omega)]
            · rw [if_neg c3, if_neg (by omega)]
        · rw [if_neg c]
          show (if i ≠ r ∧ (r < p ∨ (r = p ∧ i < k)) then f (2 + (2 + n) * r + 3 + thAt r i) else th t r i) = _
          by_cases c3 : i ≠ r ∧ (r < p ∨ (r = p ∧ i < k))
          · rw [if_pos c3, if_pos (by omega)]
          · rw [if_neg c3, if_neg (by omega)]
      have hih := ih (k + 1) _ (by omega) hN2 (fun j hj => (tA_ne (by omega)).trans (hh j hj)) (Fr.tA hf1 (by decide))
      rw [hta2, ← Nat.add_assoc] at hih
      refine r_ild4 (pc := 108) dX6_on_108 ?_
      refine r_ald0 (pc := 110) dX6_on_110 ?_
      refine m_getI hS (pc := 111) dX6_on_111 fl_X6_382 ?_
      refine Bd.eqI ((hf1.1 40 (by decide)).trans hn) ?_
      first | refine r_icmp_geN (pc := 114) (tgt := 156) dX6_on_114 (by decide) (by omega) (by omega) (fun h114 => ?_) (fun h114 => ?_) | refine r_icmp_ge (pc := 114) (tgt := 156) dX6_on_114 (by decide) (fun h114 => ?_) (fun h114 => ?_)
      · skip
        exact absurd h114 (by omega)
      · skip
        refine r_ild4 (pc := 117) dX6_on_117 ?_
        refine r_ild3 (pc := 119) dX6_on_119 ?_
        first | refine r_icmp_neN (pc := 120) (tgt := 126) dX6_on_120 (by decide) (by omega) (by omega) (fun h120 => ?_) (fun h120 => ?_) | refine r_icmp_ne (pc := 120) (tgt := 126) dX6_on_120 (by decide) (fun h120 => ?_) (fun h120 => ?_)
        · skip
          refine r_ald0 (pc := 126) dX6_on_126 ?_
          refine m_getR hS (pc := 127) dX6_on_127 fl_X6_121 ar55 ?_
          refine r_bipush (v := nI 25) (pc := 130) dX6_on_130 (by decide) ?_
          refine r_bipush (v := nI 8) (pc := 132) dX6_on_132 (by decide) ?_
          refine r_ild3 (pc := 134) dX6_on_134 ?_
          first | refine r_imulN (pc := 135) dX6_on_135 ?_ | refine r_imulJ (pc := 135) dX6_on_135 ?_ | refine r_imul (pc := 135) dX6_on_135 ?_
          first | refine r_iaddN (pc := 136) dX6_on_136 ?_ | refine r_iaddJ (pc := 136) dX6_on_136 ?_ | refine r_iadd (pc := 136) dX6_on_136 ?_
          refine r_ild4 (pc := 137) dX6_on_137 ?_
          first | refine r_iaddN (pc := 139) dX6_on_139 ?_ | refine r_iaddJ (pc := 139) dX6_on_139 ?_ | refine r_iadd (pc := 139) dX6_on_139 ?_
          refine r_ald0 (pc := 140) dX6_on_140 ?_
          refine m_getR hS (pc := 141) dX6_on_141 fl_X6_7 ar0 ?_
          refine r_ild2 (pc := 144) dX6_on_144 ?_
          refine m_iald hS (pc := 145) dX6_on_145 ar0 (by omega) (by omega) ?_
          refine Bd.eqI ((congrFun (hf1.2.2.1 0 (by decide)) _).trans (hf _ (by omega))) ?_
          refine m_iast hS (pc := 146) dX6_on_146 ar55 (by omega) (by omega) ?_
          first | refine r_iinc2N (j := 1) (pc := 147) dX6_on_147 rfl ?_ | refine r_iinc2 (pc := 147) dX6_on_147 ?_
          first | refine r_iinc4N (j := 1) (pc := 150) dX6_on_150 rfl ?_ | refine r_iinc4 (pc := 150) dX6_on_150 ?_
          refine r_goto (pc := 153) (tgt := 108) dX6_on_153 (by decide) ?_
          exact hih
        · skip
          exact absurd h120 e
theorem onUp {f : Nat → Nat} {a : Nat → Nat} {p j j' c r : Nat} {g1 : Nat → Nat} (hc : j = c) (hj : j' = c + 1) :
    va_up (fun r => if r < p ∨ (r = p ∧ c < j) then g1 r else a r) p (g1 p) r = if r < p ∨ (r = p ∧ c < j') then g1 r else a r := by
  unfold va_up
  by_cases e : r = p
  · subst e; rw [if_pos rfl, if_pos (by omega)]
  · rw [if_neg e]
    show (if r < p ∨ (r = p ∧ c < j) then g1 r else a r) = _
    by_cases e2 : r < p
    · rw [if_pos (by omega), if_pos (by omega)]
    · rw [if_neg (by omega), if_neg (by omega)]
theorem onSame {a : Nat → Nat} {p j j' c r : Nat} {g1 : Nat → Nat} (h : c < j ↔ c < j') : (if r < p ∨ (r = p ∧ c < j) then g1 r else a r) = if r < p ∨ (r = p ∧ c < j') then g1 r else a r := by
  by_cases e : r < p ∨ (r = p ∧ c < j)
  · rw [if_pos e, if_pos (by omega)]
  · rw [if_neg e, if_neg (by omega)]
theorem RN.on1 {f : Nat → Nat} {n p k : Nat} {s1 : MS} (hn8 : n ≤ 8) (hp : p < n) (hk : k < 3) (h : RN s1 n (onP f n t p k 0)) : RN (tA s1 55 (1 + 3 * p + k) (nI (f (2 + (2 + n) * p + k)))) n (onP f n t p (k + 1) 0) := by
  match k, hk with
  | 0, _ =>
    exact (RN.setHs hn8 hp h (v := f (2 + (2 + n) * p))).congr rfl (fun r hr => onUp (f := f) (a := hs t) (p := p) (j := 0) (j' := 1) (c := 0) (r := r) (g1 := fun r => f (2 + (2 + n) * r)) rfl rfl) (fun r hr => onSame (a := lk t) (p := p) (j := 0) (j' := 1) (c := 1) (r := r) (g1 := fun r => f (2 + (2 + n) * r + 1)) (by omega)) (fun r hr => onSame (a := sp t) (p := p) (j := 0) (j' := 1) (c := 2) (r := r) (g1 := fun r => f (2 + (2 + n) * r + 2)) (by omega)) (fun _ _ _ _ => rfl)
  | 1, _ =>
    rw [show 1 + 3 * p + 1 = 2 + 3 * p by omega]
    exact (RN.setLk hn8 hp h (v := f (2 + (2 + n) * p + 1))).congr rfl (fun r hr => onSame (a := hs t) (p := p) (j := 1) (j' := 2) (c := 0) (r := r) (g1 := fun r => f (2 + (2 + n) * r)) (by omega)) (fun r hr => onUp (f := f) (a := lk t) (p := p) (j := 1) (j' := 2) (c := 1) (r := r) (g1 := fun r => f (2 + (2 + n) * r + 1)) rfl rfl) (fun r hr => onSame (a := sp t) (p := p) (j := 1) (j' := 2) (c := 2) (r := r) (g1 := fun r => f (2 + (2 + n) * r + 2)) (by omega)) (fun _ _ _ _ => rfl)
  | 2, _ =>
    rw [show 1 + 3 * p + 2 = 3 + 3 * p by omega]
    exact (RN.setSp hn8 hp h (v := f (2 + (2 + n) * p + 2))).congr rfl (fun r hr => onSame (a := hs t) (p := p) (j := 2) (j' := 3) (c := 0) (r := r) (g1 := fun r => f (2 + (2 + n) * r)) (by omega)) (fun r hr => onSame (a := lk t) (p := p) (j := 2) (j' := 3) (c := 1) (r := r) (g1 := fun r => f (2 + (2 + n) * r + 1)) (by omega)) (fun r hr => onUp (f := f) (a := sp t) (p := p) (j := 2) (j' := 3) (c := 2) (r := r) (g1 := fun r => f (2 + (2 + n) * r + 2)) rfl rfl) (fun _ _ _ _ => rfl)
theorem on3Loop {f : Nat → Nat} {n p : Nat} {w1 : Int32} {Q : Option Value → MM → Prop} (hS : ShM g M o) (hn8 : n ≤ 8) (hp : p < n) (hf : ∀ j, j < 1600 → mA s 0 j = nI (f j))
    (hk : ∀ s1 w4, RN s1 n (onP f n t p 3 0) → (∀ j, 89 ≤ j → mA s1 55 j = mA s 55 j) → Fr [] [] [55] [] s s1 → Bd g yX6_on cX6_on 5 (some Jvm.ClassFile.FieldType.boolean) [] 4 0 0 (putM M o s1) 102 [some (.ref o), some (.int w1), some (.int (nI (2 + (2 + n) * p))), some (.int (nI p)), w4] [] Q noX) :
    ∀ (m k : Nat) (s1 : MS), k + m = 3 → RN s1 n (onP f n t p k 0) → (∀ j, 89 ≤ j → mA s1 55 j = mA s 55 j) → Fr [] [] [55] [] s s1 → Bd g yX6_on cX6_on 5 (some Jvm.ClassFile.FieldType.boolean) [] 4 0 0 (putM M o s1) 68 [some (.ref o), some (.int w1), some (.int (nI (2 + (2 + n) * p))), some (.int (nI p)), some (.int (nI k))] [] Q noX := by
  have hmp : (2 + n) * p ≤ 10 * 7 := Nat.mul_le_mul (by omega) (by omega)
  intro m
  induction m with
  | zero =>
    intro k s1 hkm hN hh hf1
    have hkm : k = 3 := hkm
    subst hkm
    refine r_ild4 (pc := 68) dX6_on_68 ?_
    refine r_iconst (v := nI 3) (pc := 70) dX6_on_70 (by decide) ?_
    first | refine r_icmp_geN (pc := 71) (tgt := 102) dX6_on_71 (by decide) (by omega) (by omega) (fun h71 => ?_) (fun h71 => ?_) | refine r_icmp_ge (pc := 71) (tgt := 102) dX6_on_71 (by decide) (fun h71 => ?_) (fun h71 => ?_)
    · skip
      exact hk s1 _ hN hh hf1
    · skip
      exact absurd h71 (by omega)
  | succ m ih =>
    intro k s1 hkm hN hh hf1
    refine r_ild4 (pc := 68) dX6_on_68 ?_
    refine r_iconst (v := nI 3) (pc := 70) dX6_on_70 (by decide) ?_
    first | refine r_icmp_geN (pc := 71) (tgt := 102) dX6_on_71 (by decide) (by omega) (by omega) (fun h71 => ?_) (fun h71 => ?_) | refine r_icmp_ge (pc := 71) (tgt := 102) dX6_on_71 (by decide) (fun h71 => ?_) (fun h71 => ?_)
    · skip
      exact absurd h71 (by omega)
    · skip
      refine r_ald0 (pc := 74) dX6_on_74 ?_
      refine m_getR hS (pc := 75) dX6_on_75 fl_X6_121 ar55 ?_
      refine r_iconst (v := nI 1) (pc := 78) dX6_on_78 (by decide) ?_
      refine r_iconst (v := nI 3) (pc := 79) dX6_on_79 (by decide) ?_
      refine r_ild3 (pc := 80) dX6_on_80 ?_
      first | refine r_imulN (pc := 81) dX6_on_81 ?_ | refine r_imulJ (pc := 81) dX6_on_81 ?_ | refine r_imul (pc := 81) dX6_on_81 ?_
      first | refine r_iaddN (pc := 82) dX6_on_82 ?_ | refine r_iaddJ (pc := 82) dX6_on_82 ?_ | refine r_iadd (pc := 82) dX6_on_82 ?_
      refine r_ild4 (pc := 83) dX6_on_83 ?_
      first | refine r_iaddN (pc := 85) dX6_on_85 ?_ | refine r_iaddJ (pc := 85) dX6_on_85 ?_ | refine r_iadd (pc := 85) dX6_on_85 ?_
      refine r_ald0 (pc := 86) dX6_on_86 ?_
      refine m_getR hS (pc := 87) dX6_on_87 fl_X6_7 ar0 ?_
      refine r_ild2 (pc := 90) dX6_on_90 ?_
      refine r_ild4 (pc := 91) dX6_on_91 ?_
      first | refine r_iaddN (pc := 93) dX6_on_93 ?_ | refine r_iaddJ (pc := 93) dX6_on_93 ?_ | refine r_iadd (pc := 93) dX6_on_93 ?_
      refine m_iald hS (pc := 94) dX6_on_94 ar0 (by omega) (by omega) ?_
      refine Bd.eqI ((congrFun (hf1.2.2.1 0 (by decide)) _).trans (hf _ (by omega))) ?_
      refine m_iast hS (pc := 95) dX6_on_95 ar55 (by omega) (by omega) ?_
      first | refine r_iinc4N (j := 1) (pc := 96) dX6_on_96 rfl ?_ | refine r_iinc4 (pc := 96) dX6_on_96 ?_
      refine r_goto (pc := 99) (tgt := 68) dX6_on_99 (by decide) ?_
      exact ih (k + 1) _ (by omega) (RN.on1 hn8 hp (by omega) hN) (fun j hj => (tA_ne (by omega)).trans (hh j hj)) (Fr.tA hf1 (by decide))
theorem onPLoop {f : Nat → Nat} {n : Nat} {w1 : Int32} {Q : Option Value → MM → Prop} (hS : ShM g M o) (hn8 : n ≤ 8) (hn : mF s 40 = nI n) (hf : ∀ j, j < 1600 → mA s 0 j = nI (f j))
    (hk : ∀ s1 w2 w3 w4, RN s1 n (onP f n t n 0 0) → (∀ j, 89 ≤ j → mA s1 55 j = mA s 55 j) → Fr [] [] [55] [] s s1 → Bd g yX6_on cX6_on 5 (some Jvm.ClassFile.FieldType.boolean) [] 4 0 0 (putM M o s1) 162 [some (.ref o), some (.int w1), w2, w3, w4] [] Q noX) :
    ∀ (m p : Nat) (s1 : MS) (w4 : Option Value), p + m = n → RN s1 n (onP f n t p 0 0) → (∀ j, 89 ≤ j → mA s1 55 j = mA s 55 j) → Fr [] [] [55] [] s s1 → Bd g yX6_on cX6_on 5 (some Jvm.ClassFile.FieldType.boolean) [] 4 0 0 (putM M o s1) 57 [some (.ref o), some (.int w1), some (.int (nI (2 + (2 + n) * p))), some (.int (nI p)), w4] [] Q noX := by
  intro m
  induction m with
  | zero =>
    intro p s1 w4 hpm hN hh hf1
    have hpm : p = n := hpm
    subst hpm
    refine r_ild3 (pc := 57) dX6_on_57 ?_
    refine r_ald0 (pc := 58) dX6_on_58 ?_
    refine m_getI hS (pc := 59) dX6_on_59 fl_X6_382 ?_
    refine Bd.eqI ((hf1.1 40 (by decide)).trans hn) ?_
    first | refine r_icmp_geN (pc := 62) (tgt := 162) dX6_on_62 (by decide) (by omega) (by omega) (fun h62 => ?_) (fun h62 => ?_) | refine r_icmp_ge (pc := 62) (tgt := 162) dX6_on_62 (by decide) (fun h62 => ?_) (fun h62 => ?_)
    · skip
      exact hk s1 _ _ w4 hN hh hf1
    · skip
      exact absurd h62 (by omega)
  | succ m ih =>
    intro p s1 w4 hpm hN hh hf1
    have hC : ∀ s3 w4, RN s3 n (onP f n t p 3 n) → (∀ j, 89 ≤ j → mA s3 55 j = mA s1 55 j) → Fr [] [] [55] [] s1 s3 → Bd g yX6_on cX6_on 5 (some Jvm.ClassFile.FieldType.boolean) [] 4 0 0 (putM M o s3) 156 [some (.ref o), some (.int w1), some (.int (nI (2 + (2 + n) * (p + 1)))), some (.int (nI p)), w4] [] Q noX := by
      intro s3 w4 hN3 hh3 hf3
      have hN4 : RN s3 n (onP f n t (p + 1) 0 0) := by
        refine hN3.congr rfl (fun r hr => ?_) (fun r hr => ?_) (fun r hr => ?_) (fun r hr i hi => ?_)
        · show (if r < p ∨ (r = p ∧ 0 < 3) then _ else _) = (if r < p + 1 ∨ (r = p + 1 ∧ 0 < 0) then _ else _)
          by_cases c : r < p + 1
          · rw [if_pos (by omega), if_pos (by omega)]
          · rw [if_neg (by omega), if_neg (by omega)]
        · show (if r < p ∨ (r = p ∧ 1 < 3) then _ else _) = (if r < p + 1 ∨ (r = p + 1 ∧ 1 < 0) then _ else _)
          by_cases c : r < p + 1
          · rw [if_pos (by omega), if_pos (by omega)]
          · rw [if_neg (by omega), if_neg (by omega)]
        · show (if r < p ∨ (r = p ∧ 2 < 3) then _ else _) = (if r < p + 1 ∨ (r = p + 1 ∧ 2 < 0) then _ else _)
          by_cases c : r < p + 1
          · rw [if_pos (by omega), if_pos (by omega)]
          · rw [if_neg (by omega), if_neg (by omega)]
        · show (if i ≠ r ∧ (r < p ∨ (r = p ∧ i < n)) then _ else _) = (if i ≠ r ∧ (r < p + 1 ∨ (r = p + 1 ∧ i < 0)) then _ else _)
          by_cases c : i ≠ r ∧ r < p + 1
          · rw [if_pos (by omega), if_pos (by omega)]
          · rw [if_neg (by omega), if_neg (by omega)]
      first | refine r_iinc3N (j := 1) (pc := 156) dX6_on_156 rfl ?_ | refine r_iinc3 (pc := 156) dX6_on_156 ?_
      refine r_goto (pc := 159) (tgt := 57) dX6_on_159 (by decide) ?_
      exact ih (p + 1) s3 w4 (by omega) hN4 (fun j hj => (hh3 j hj).trans (hh j hj)) (hf1.trans hf3)
    have hA : ∀ s2 w4, RN s2 n (onP f n t p 3 0) → (∀ j, 89 ≤ j → mA s2 55 j = mA s1 55 j) → Fr [] [] [55] [] s1 s2 → Bd g yX6_on cX6_on 5 (some Jvm.ClassFile.FieldType.boolean) [] 4 0 0 (putM M o s2) 102 [some (.ref o), some (.int w1), some (.int (nI (2 + (2 + n) * p))), some (.int (nI p)), w4] [] Q noX := by
      intro s2 w4 hN2 hh2 hf2
      have hl := onThLoop (w1 := w1) (Q := Q) (t := t) hS hn8 (by omega) (((hf1.trans hf2).1 40 (by decide)).trans hn) (fun j hj => (congrFun ((hf1.trans hf2).2.2.1 0 (by decide)) j).trans (hf j hj)) (fun s3 w4 hN3 hh3 hf3 => hC s3 w4 hN3 (fun j hj => (hh3 j hj).trans (hh2 j hj)) (hf2.trans hf3)) n 0 s2 (by omega) hN2 (fun _ _ => rfl) Fr.rf
      first | refine r_iinc2N (j := 3) (pc := 102) dX6_on_102 rfl ?_ | refine r_iinc2 (pc := 102) dX6_on_102 ?_
      refine r_iconst (v := nI 0) (pc := 105) dX6_on_105 (by decide) ?_
      refine r_ist4 (pc := 106) dX6_on_106 ?_
      exact hl
    refine r_ild3 (pc := 57) dX6_on_57 ?_
    refine r_ald0 (pc := 58) dX6_on_58 ?_
    refine m_getI hS (pc := 59) dX6_on_59 fl_X6_382 ?_
    refine Bd.eqI ((hf1.1 40 (by decide)).trans hn) ?_
    first | refine r_icmp_geN (pc := 62) (tgt := 162) dX6_on_62 (by decide) (by omega) (by omega) (fun h62 => ?_) (fun h62 => ?_) | refine r_icmp_ge (pc := 62) (tgt := 162) dX6_on_62 (by decide) (fun h62 => ?_) (fun h62 => ?_)
    · skip
      exact absurd h62 (by omega)
    · skip
      refine r_iconst (v := nI 0) (pc := 65) dX6_on_65 (by decide) ?_
      refine r_ist4 (pc := 66) dX6_on_66 ?_
      exact on3Loop (t := t) hS hn8 (by omega) (fun j hj => (congrFun (hf1.2.2.1 0 (by decide)) j).trans (hf j hj)) hA 3 0 s1 (by omega) hN (fun _ _ => rfl) Fr.rf
theorem pm_on (hS : ShM g M o) (hI : IM s q) (hG : GI q) : Ct g yX6_on cX6_on 5 (some Jvm.ClassFile.FieldType.boolean) 4 0 0 [.ref o] (putM M o s) (PM M o (onQ q).2 (.int (onQ q).1)) noX := by
  have hd : gTd q ≤ 1600 := hG.1
  have hI0 : IM (tF s 1 (nI 0)) (uTp q (gTp q) 0) := hI.tape
  have hG0 : GI (uTp q (gTp q) 0) := ⟨by show 0 ≤ 1600; omega, hG.2⟩
  have hn8 := hG.2.2.1.1
  have hT := hI.2.2.2.1.1
  have hb0 := hG.2.1 0
  have hb1 := hG.2.1 1
  refine Ct.of (by decide) (Nat.le_of_ble_eq_true rfl) rfl ?_
  unfold onQ
  cases hio : imgOk q with
  | false =>
    have hio : imgOkN (uTp q (gTp q) 0) (gTd q) = false := hio
    rw [if_neg (by decide)]
    refine r_ald0 (pc := 0) dX6_on_0 ?_
    refine m_getI hS (pc := 1) dX6_on_1 fl_X6_234 ?_
    refine Bd.eqI hI.1.1 ?_
    refine r_ist1 (pc := 4) dX6_on_4 ?_
    refine r_ald0 (pc := 5) dX6_on_5 ?_
    refine r_iconst (v := nI 0) (pc := 6) dX6_on_6 (by decide) ?_
    refine m_putI hS (pc := 7) dX6_on_7 fl_X6_234 fw_X6_1 rfl rfl ?_
    refine r_ald0 (pc := 10) dX6_on_10 ?_
    refine r_ild1 (pc := 11) dX6_on_11 ?_
    refine r_cV (pc := 12) dX6_on_12 cv_X6_702 hS.k (ct_X6_isImage hS hI0 hG0 hd) rfl rfl (Nat.le_of_ble_eq_true rfl) (by decide) ?_
    rintro _ _ ⟨rfl, rfl⟩
    refine Bd.eqI (x' := 0) (by rw [hio]; rfl) ?_
    refine r_if_ne (pc := 15) (tgt := 30) dX6_on_15 (by decide) (fun h15 => ?_) (fun h15 => ?_)
    · skip
      exact absurd rfl h15
    · skip
      refine r_ald0 (pc := 18) dX6_on_18 ?_
      refine m_getR hS (pc := 19) dX6_on_19 fl_X6_17 ar9 ?_
      refine r_iconst (v := nI 5) (pc := 22) dX6_on_22 (by decide) ?_
      refine r_dup2 (pc := 23) dX6_on_23 rfl rfl ?_
      refine m_iald hS (pc := 24) dX6_on_24 ar9 (by omega) (by omega) ?_
      refine Bd.eqI (hI0.2.2.1 5 (by decide)) ?_
      refine r_iconst (v := nI 1) (pc := 25) dX6_on_25 (by decide) ?_
      first | refine r_iaddN (pc := 26) dX6_on_26 ?_ | refine r_iaddJ (pc := 26) dX6_on_26 ?_ | refine r_iadd (pc := 26) dX6_on_26 ?_
      refine m_iast hS (pc := 27) dX6_on_27 ar9 (by omega) (by omega) ?_
      refine r_iconst (v := nI 0) (pc := 28) dX6_on_28 (by decide) ?_
      refine r_zret (pc := 29) dX6_on_29 (by first | rfl | exact zI_nar | assumption) ?_
      exact ⟨_, rfl, rfl, hI0.ref (by decide) rfl⟩
  | true =>
    have hio2 : imgOkN (uTp q (gTp q) 0) (gTd q) = true := hio
    rw [if_pos rfl]
    have hE : ∀ s1 w2 w3 w4 w1, RN s1 (tn (gT q)) (onP (gTp q) (tn (gT q)) (gS q) (tn (gT q)) 0 0) → (∀ j, 89 ≤ j → mA s1 55 j = mA (tA (tF s 1 (nI 0)) 55 0 (nI (256 * gTp q 0 + gTp q 1))) 55 j) → Fr [] [] [55] [] (tA (tF s 1 (nI 0)) 55 0 (nI (256 * gTp q 0 + gTp q 1))) s1 → Bd g yX6_on cX6_on 5 (some Jvm.ClassFile.FieldType.boolean) [] 4 0 0 (putM M o s1) 162 [some (.ref o), some (.int w1), w2, w3, w4] [] (PM M o (uUn (uNw (uTp q (gTp q) 0) (onT (gTp q) (tn (gT q)) (gS q), [])) []) (.int 1)) noX := by
      intro s1 w2 w3 w4 w1 hN1 hh1 hf1
      have hf2 : Fr [73] [] [55] [] (tF s 1 (nI 0)) (tF (tA s1 55 89 (nI 0)) 73 (nI 0)) := (Fr.tA Fr.rf (by decide)).trans ((hf1.mono (by decide) (by decide) (by decide) (by decide)).trans (Fr.tF (Fr.tA Fr.rf (by decide)) (by decide)))
      refine r_ald0 (pc := 162) dX6_on_162 ?_
      refine m_getR hS (pc := 163) dX6_on_163 fl_X6_121 ar55 ?_
      refine r_bipush (v := nI 89) (pc := 166) dX6_on_166 (by decide) ?_
      refine r_iconst (v := nI 0) (pc := 168) dX6_on_168 (by decide) ?_
      refine m_iast hS (pc := 169) dX6_on_169 ar55 (by omega) (by omega) ?_
      refine r_ald0 (pc := 170) dX6_on_170 ?_
      refine r_iconst (v := nI 0) (pc := 171) dX6_on_171 (by decide) ?_
      refine m_putI hS (pc := 172) dX6_on_172 fl_X6_388 fw_X6_73 rfl rfl ?_
      refine r_iconst (v := nI 1) (pc := 175) dX6_on_175 (by decide) ?_
      refine r_zret (pc := 176) dX6_on_176 (by first | rfl | exact zI_nar | assumption) ?_
      obtain ⟨a1, a2, a3, a4, a5, a6, a7, a8, a9, a10⟩ := hI0
      refine ⟨_, rfl, rfl, a1.fr hf2 (by decide), a2.fr hf2 (by decide), a3.fr hf2 (by decide), a4.fr hf2 (by decide) (by decide) (by decide), ⟨?_, ⟨tA_eq, Nat.zero_le _, fun i a b c e => by cases e⟩, (hf2.1 64 (by decide)).trans a5.2.2⟩, ⟨rfl, ?_⟩, a7.fr hf2 (by decide), a8.fr hf2 (by decide), a9.fr hf2 (by decide), a10.fr hf2 (by decide)⟩
      · refine (RN.low hn8 hN1 (s' := tF (tA s1 55 89 (nI 0)) 73 (nI 0)) (fun j hj => tA_ne (by omega))).congr rfl (fun r hr => ?_) (fun r hr => ?_) (fun r hr => ?_) (fun r hr i hi => ?_)
        · exact if_pos (Or.inl hr)
        · exact if_pos (Or.inl hr)
        · exact if_pos (Or.inl hr)
        · show (if i ≠ r ∧ (r < tn (gT q) ∨ (r = tn (gT q) ∧ i < 0)) then gTp q (2 + (2 + tn (gT q)) * r + 3 + thAt r i) else th (gS q) r i) = (if i = r then th (gS q) r r else gTp q (2 + (2 + tn (gT q)) * r + 3 + (if i < r then i else i - 1)))
          by_cases e : i = r
          · subst e; rw [if_neg (by omega), if_pos rfl]
          · rw [if_pos (by omega), if_neg e]; unfold thAt
            by_cases e2 : i < r
            · rw [if_pos (by omega), if_pos e2]
            · rw [if_neg (by omega), if_neg e2]
      · obtain ⟨w, hw, hw2, _⟩ := a6.2; exact ⟨w, hw, (hf2.1 74 (by decide)).trans hw2, fun i x e => by cases e⟩
    have hN0 : RN (tA (tF s 1 (nI 0)) 55 0 (nI (256 * gTp q 0 + gTp q 1))) (tn (gT q)) (onP (gTp q) (tn (gT q)) (gS q) 0 0 0) := by
      have h1 := RN.setYr hn8 hI0.2.2.2.2.1.1 (v := 256 * gTp q 0 + gTp q 1)
      exact h1.congr rfl (fun r hr => (if_neg (by omega)).symm) (fun r hr => (if_neg (by omega)).symm) (fun r hr => (if_neg (by omega)).symm) (fun r hr i hi => (if_neg (by omega)).symm)
    have hl := fun w1 w4 => onPLoop (f := gTp q) (n := tn (gT q)) (t := gS q) (w1 := w1) (s := tA (tF s 1 (nI 0)) 55 0 (nI (256 * gTp q 0 + gTp q 1))) hS hn8 hT.2.1 hI.1.2 (fun s1 w2 w3 w4 h1 h2 h3 => hE s1 w2 w3 w4 w1 h1 h2 h3) (tn (gT q)) 0 _ w4 (by omega) hN0 (fun _ _ => rfl) Fr.rf
    refine r_ald0 (pc := 0) dX6_on_0 ?_
    refine m_getI hS (pc := 1) dX6_on_1 fl_X6_234 ?_
    refine Bd.eqI hI.1.1 ?_
    refine r_ist1 (pc := 4) dX6_on_4 ?_
    refine r_ald0 (pc := 5) dX6_on_5 ?_
    refine r_iconst (v := nI 0) (pc := 6) dX6_on_6 (by decide) ?_
    refine m_putI hS (pc := 7) dX6_on_7 fl_X6_234 fw_X6_1 rfl rfl ?_
    refine r_ald0 (pc := 10) dX6_on_10 ?_
    refine r_ild1 (pc := 11) dX6_on_11 ?_
    refine r_cV (pc := 12) dX6_on_12 cv_X6_702 hS.k (ct_X6_isImage hS hI0 hG0 hd) rfl rfl (Nat.le_of_ble_eq_true rfl) (by decide) ?_
    rintro _ _ ⟨rfl, rfl⟩
    refine Bd.eqI (x' := 1) (by rw [hio2]; rfl) ?_
    refine r_if_ne (pc := 15) (tgt := 30) dX6_on_15 (by decide) (fun h15 => ?_) (fun h15 => ?_)
    · skip
      refine r_ald0 (pc := 30) dX6_on_30 ?_
      refine m_getR hS (pc := 31) dX6_on_31 fl_X6_121 ar55 ?_
      refine r_iconst (v := nI 0) (pc := 34) dX6_on_34 (by decide) ?_
      refine r_sipush (v := nI 256) (pc := 35) dX6_on_35 (by decide) ?_
      refine r_ald0 (pc := 38) dX6_on_38 ?_
      refine m_getR hS (pc := 39) dX6_on_39 fl_X6_7 ar0 ?_
      refine r_iconst (v := nI 0) (pc := 42) dX6_on_42 (by decide) ?_
      refine m_iald hS (pc := 43) dX6_on_43 ar0 (by omega) (by omega) ?_
      refine Bd.eqI (hI.1.2 0 (by omega)) ?_
      first | refine r_imulN (pc := 44) dX6_on_44 ?_ | refine r_imulJ (pc := 44) dX6_on_44 ?_ | refine r_imul (pc := 44) dX6_on_44 ?_
      refine r_ald0 (pc := 45) dX6_on_45 ?_
      refine m_getR hS (pc := 46) dX6_on_46 fl_X6_7 ar0 ?_
      refine r_iconst (v := nI 1) (pc := 49) dX6_on_49 (by decide) ?_
      refine m_iald hS (pc := 50) dX6_on_50 ar0 (by omega) (by omega) ?_
      refine Bd.eqI (hI.1.2 1 (by omega)) ?_
      first | refine r_iaddN (pc := 51) dX6_on_51 ?_ | refine r_iaddJ (pc := 51) dX6_on_51 ?_ | refine r_iadd (pc := 51) dX6_on_51 ?_
      refine m_iast hS (pc := 52) dX6_on_52 ar55 (by omega) (by omega) ?_
      refine r_iconst (v := nI 2) (pc := 53) dX6_on_53 (by decide) ?_
      refine r_ist2 (pc := 54) dX6_on_54 ?_
      refine r_iconst (v := nI 0) (pc := 55) dX6_on_55 (by decide) ?_
      refine r_ist3 (pc := 56) dX6_on_56 ?_
      exact hl _ _
    · skip
      exact absurd h15 (by decide)
end M27
