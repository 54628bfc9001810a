set_option maxRecDepth 100000
/-! THE OTHER SIDE: a state takes on another's rows -/
section X6
variable {g : GC} {M : MM} {o b a n : Nat} {s : XS} {F K : Nat → Nat} {t : St} {pm pq : Nat → Nat}
def RwX (s s' : XS) (b a : Nat) (pm pq : Nat → Nat) (i j : Nat) : Prop := lX s' = lX s ∧ rX s' = rX s ∧ (∀ c, ¬ (b + 16 ≤ c ∧ c < b + 56) → iX s' c = iX s c) ∧ (∀ r k, r < i → k < 3 → iX s' (b + (16 + pm r)) k = iX s (a + (16 + pq r)) k) ∧ ∀ k, k < j → iX s' (b + (16 + pm i)) k = iX s (a + (16 + pq i)) k
theorem RwX.step {s' : XS} {i j : Nat} (h : RwX s s' b a pm pq i j) (hp : pmX (rX s) o b pm) (hi : i < 40) : RwX s (uI s' (b + (16 + pm i)) j (iX s (a + (16 + pq i)) j)) b a pm pq i (j + 1) := by
  obtain ⟨h1, h2, h3, h4, h5⟩ := h
  have hpi := (hp.1 i hi).1
  refine ⟨h1, h2, fun c hc => ?_, fun r k hr hk => ?_, fun k hk => ?_⟩
  · funext k; rw [iX_c (by omega), h3 c hc]
  · have : pm r ≠ pm i := fun q => absurd (hp.2 r i (by omega) hi q) (by omega)
    rw [iX_c (by omega)]; exact h4 r k hr hk
  · rw [iX_uI]
    by_cases e : k = j
    · rw [if_pos ⟨rfl, e⟩, e]
    · rw [if_neg (fun q => e q.2)]; exact h5 k (by omega)
theorem RwX.next {s' : XS} {i : Nat} (h : RwX s s' b a pm pq i 3) : RwX s s' b a pm pq (i + 1) 0 := by
  obtain ⟨h1, h2, h3, h4, h5⟩ := h
  refine ⟨h1, h2, h3, fun r k hr hk => ?_, fun k hk => absurd hk (by omega)⟩
  by_cases e : r = i
  · subst e; exact h5 k hk
  · exact h4 r k (by omega) hk
theorem xcopyRowIn {i : Nat} {Q : Option Value → MM → Prop} (hS : ShX g M o) (hX : FxX (rX s) o) (hb : isS b) (ha : isS a) (hab : a + 56 ≤ b ∨ b + 56 ≤ a) (hp : pmX (rX s) o b pm) (hq : pmX (rX s) o a pq) (hi : i < 40)
    (Kk : ∀ s', RwX s s' b a pm pq i 3 → Bd g yX5_copy cX5_copy 4 (some ((Jvm.ClassFile.FieldType.object "Retouched$State"))) [] 0 0 0 (putX M o s') 167 [some (.ref (o + b)), some (.ref (o + a)), some (.int (nI i)), some (.int (nI 3))] [] Q noX) : ∀ k j s', j + k = 3 → RwX s s' b a pm pq i j →
    Bd g yX5_copy cX5_copy 4 (some ((Jvm.ClassFile.FieldType.object "Retouched$State"))) [] 0 0 0 (putX M o s') 140 [some (.ref (o + b)), some (.ref (o + a)), some (.int (nI i)), some (.int (nI j))] [] Q noX := by
  intro k
  induction k with
  | zero =>
    intro j s' hj hR
    obtain rfl : j = 3 := by omega
    refine r_ild3 (pc := 140) dX5_copy_140 ?_
    refine r_iconst (v := nI 3) (pc := 141) dX5_copy_141 (by decide) ?_
    first | refine r_icmp_geN (pc := 142) (tgt := 167) dX5_copy_142 (by decide) (by omega) (by omega) (fun h142 => ?_) (fun h142 => ?_) | refine r_icmp_ge (pc := 142) (tgt := 167) dX5_copy_142 (by decide) (fun h142 => ?_) (fun h142 => ?_)
    · skip
      exact Kk _ hR
    · skip
      exact absurd h142 (by omega)
  | succ k ih =>
    intro j s' hj hR
    have hX' : FxX (rX s') o := by rw [hR.2.1]; exact hX
    obtain ⟨p1, p2⟩ := hp.1 i hi
    obtain ⟨q1, q2⟩ := hq.1 i hi
    refine r_ild3 (pc := 140) dX5_copy_140 ?_
    refine r_iconst (v := nI 3) (pc := 141) dX5_copy_141 (by decide) ?_
    first | refine r_icmp_geN (pc := 142) (tgt := 167) dX5_copy_142 (by decide) (by omega) (by omega) (fun h142 => ?_) (fun h142 => ?_) | refine r_icmp_ge (pc := 142) (tgt := 167) dX5_copy_142 (by decide) (fun h142 => ?_) (fun h142 => ?_)
    · skip
      exact absurd h142 (by omega)
    · skip
      refine r_ald0 (pc := 145) dX5_copy_145 ?_
      refine x_getR (c := b) hS (st_ow hb) (st_kd hb) (pc := 146) dX5_copy_146 fl_X5_37 (fs_9 hX' hb) ?_
      refine r_ild2 (pc := 149) dX5_copy_149 ?_
      refine x_aald (c := (b + 15)) (j := i) hS (st_ow15 hb) (st_kd15 hb) (by decide) (st_ln15 hb) (pc := 150) dX5_copy_150 (by omega) (by omega) (by rw [hR.2.1]; exact p2) ?_
      refine r_ild3 (pc := 151) dX5_copy_151 ?_
      refine r_ald1 (pc := 152) dX5_copy_152 ?_
      refine x_getR (c := a) hS (st_ow ha) (st_kd ha) (pc := 153) dX5_copy_153 fl_X5_37 (fs_9 hX' ha) ?_
      refine r_ild2 (pc := 156) dX5_copy_156 ?_
      refine x_aald (c := (a + 15)) (j := i) hS (st_ow15 ha) (st_kd15 ha) (by decide) (st_ln15 ha) (pc := 157) dX5_copy_157 (by omega) (by omega) (by rw [hR.2.1]; exact q2) ?_
      refine r_ild3 (pc := 158) dX5_copy_158 ?_
      refine x_iald (c := (a + (16 + pq i))) hS (rw_ow ha (by omega)) (rw_kd ha (by omega)) (rw_ln ha (by omega)) (pc := 159) dX5_copy_159 (by omega) (by omega) ?_
      refine Bd.eqI (congrFun (hR.2.2.1 _ (by omega)) _) ?_
      refine x_iast (c := (b + (16 + pm i))) hS (rw_ow hb (by omega)) (rw_kd hb (by omega)) (rw_ln hb (by omega)) (pc := 160) dX5_copy_160 (by omega) (by omega) ?_
      first | refine r_iinc3N (j := 1) (pc := 161) dX5_copy_161 rfl ?_ | refine r_iinc3 (pc := 161) dX5_copy_161 ?_
      refine r_goto (pc := 164) (tgt := 140) dX5_copy_164 (by decide) ?_
      exact ih (j + 1) _ (by omega) (hR.step hp hi)
theorem xcopy167 {i : Nat} {s' : XS} {Q : Option Value → MM → Prop} {x : Option Value}
    (Kk : Bd g yX5_copy cX5_copy 4 (some ((Jvm.ClassFile.FieldType.object "Retouched$State"))) [] 0 0 0 (putX M o s') 130 [some (.ref (o + b)), some (.ref (o + a)), some (.int (nI (i + 1))), x] [] Q noX) :
    Bd g yX5_copy cX5_copy 4 (some ((Jvm.ClassFile.FieldType.object "Retouched$State"))) [] 0 0 0 (putX M o s') 167 [some (.ref (o + b)), some (.ref (o + a)), some (.int (nI i)), x] [] Q noX := by
  first | refine r_iinc2N (j := 1) (pc := 167) dX5_copy_167 rfl ?_ | refine r_iinc2 (pc := 167) dX5_copy_167 ?_
  refine r_goto (pc := 170) (tgt := 130) dX5_copy_170 (by decide) ?_
  exact Kk
theorem xcopyRows {l : Nat} {Q : Option Value → MM → Prop} (hS : ShX g M o) (hX : FxX (rX s) o) (hb : isS b) (ha : isS a) (hab : a + 56 ≤ b ∨ b + 56 ≤ a) (hp : pmX (rX s) o b pm) (hq : pmX (rX s) o a pq) (hl : iX s b 2 = nI l) (hl40 : l ≤ 40)
    (Kk : ∀ s', RwX s s' b a pm pq l 0 → Q (some (.ref (o + b))) (putX M o s')) : ∀ k i s' x, i + k = l → RwX s s' b a pm pq i 0 →
    Bd g yX5_copy cX5_copy 4 (some ((Jvm.ClassFile.FieldType.object "Retouched$State"))) [] 0 0 0 (putX M o s') 130 [some (.ref (o + b)), some (.ref (o + a)), some (.int (nI i)), x] [] Q noX := by
  intro k
  induction k with
  | zero =>
    intro i s' x hi hR
    obtain rfl : i = l := by omega
    have hX' : FxX (rX s') o := by rw [hR.2.1]; exact hX
    have hl' : iX s' b 2 = nI i := by rw [hR.2.2.1 b (by omega)]; exact hl
    refine r_ild2 (pc := 130) dX5_copy_130 ?_
    refine r_ald0 (pc := 131) dX5_copy_131 ?_
    refine x_getI (c := b) hS (st_ow hb) (st_kd hb) (pc := 132) dX5_copy_132 fl_X5_44 ?_
    rw [hl']
    first | refine r_icmp_geN (pc := 135) (tgt := 173) dX5_copy_135 (by decide) (by omega) (by omega) (fun h135 => ?_) (fun h135 => ?_) | refine r_icmp_ge (pc := 135) (tgt := 173) dX5_copy_135 (by decide) (fun h135 => ?_) (fun h135 => ?_)
    · skip
      refine r_ald0 (pc := 173) dX5_copy_173 ?_
      refine r_aretR (pc := 174) dX5_copy_174 ?_
      exact Kk _ hR
    · skip
      exact absurd h135 (by omega)
  | succ k ih =>
    intro i s' x hi hR
    have hX' : FxX (rX s') o := by rw [hR.2.1]; exact hX
    have hl' : iX s' b 2 = nI l := by rw [hR.2.2.1 b (by omega)]; exact hl
    refine r_ild2 (pc := 130) dX5_copy_130 ?_
    refine r_ald0 (pc := 131) dX5_copy_131 ?_
    refine x_getI (c := b) hS (st_ow hb) (st_kd hb) (pc := 132) dX5_copy_132 fl_X5_44 ?_
    rw [hl']
    first | refine r_icmp_geN (pc := 135) (tgt := 173) dX5_copy_135 (by decide) (by omega) (by omega) (fun h135 => ?_) (fun h135 => ?_) | refine r_icmp_ge (pc := 135) (tgt := 173) dX5_copy_135 (by decide) (fun h135 => ?_) (fun h135 => ?_)
    · skip
      exact absurd h135 (by omega)
    · skip
      refine r_iconst (v := nI 0) (pc := 138) dX5_copy_138 (by decide) ?_
      refine r_ist3 (pc := 139) dX5_copy_139 ?_
      exact xcopyRowIn hS hX hb ha hab hp hq (by omega) (fun s2 hR2 => xcopy167 (ih (i + 1) s2 _ (by omega) hR2.next)) 3 0 s' (by decide) hR
theorem xcopy128 {s' : XS} {Q : Option Value → MM → Prop} {x : Option Value} {y : Int32}
    (Kk : Bd g yX5_copy cX5_copy 4 (some ((Jvm.ClassFile.FieldType.object "Retouched$State"))) [] 0 0 0 (putX M o s') 130 [some (.ref (o + b)), some (.ref (o + a)), some (.int (nI 0)), x] [] Q noX) :
    Bd g yX5_copy cX5_copy 4 (some ((Jvm.ClassFile.FieldType.object "Retouched$State"))) [] 0 0 0 (putX M o s') 128 [some (.ref (o + b)), some (.ref (o + a)), some (.int y), x] [] Q noX := by
  refine r_iconst (v := nI 0) (pc := 128) dX5_copy_128 (by decide) ?_
  refine r_ist2 (pc := 129) dX5_copy_129 ?_
  exact Kk
theorem cpX_SX (hN : SX s a n F K t) (hn : n ≤ 8) : SX (cpX s b a 8 8 0) b n F K t := by
  obtain ⟨h1, h2, h3, h4, h5, h6, h7, h8⟩ := hN
  have e0 : ∀ k, k < 3 → iX (cpX s b a 8 8 0) b k = iX s a k := fun k hk => by
    show (if b = b then (if k < 3 then iX s a k else iX s b k) else _) = _
    rw [if_pos rfl, if_pos hk]
  have e1 : ∀ d p, 1 ≤ d → d ≤ 4 → p < 8 → iX (cpX s b a 8 8 0) (b + d) p = iX s (a + d) p := fun d p hd hd4 hp => by
    show (if b + d = b then _ else if (b + 1 ≤ b + d ∧ b + d ≤ b + 4) ∧ p < 8 then iX s (b + d - b + a) p else _) = _
    rw [if_neg (by omega), if_pos (by omega), show b + d - b + a = a + d by omega]
  refine ⟨by rw [e0 0 (by decide)]; exact h1, by rw [e0 1 (by decide)]; exact h2, fun q hq => ?_, fun q hq => ?_, fun q hq => ?_, fun q hq => ?_, fun q hq => ?_, fun q hq r hr => ?_⟩
  · rw [e1 1 q (by decide) (by decide) (by omega)]; exact h3 q hq
  · rw [e1 2 q (by decide) (by decide) (by omega)]; exact h4 q hq
  · rw [e1 3 q (by decide) (by decide) (by omega)]; exact h5 q hq
  · rw [e1 4 q (by decide) (by decide) (by omega)]; exact h6 q hq
  · show (if b + 5 = b then _ else if (b + 1 ≤ b + 5 ∧ b + 5 ≤ b + 4) ∧ q < 8 then _ else if b + 5 = b + 5 ∧ q < 8 then vp_nar .boolean (iX s (a + 5) q) else _) = _
    rw [if_neg (by omega), if_neg (by omega), if_pos (by omega), h7 q hq]
    by_cases e : sp t q = 1
    · rw [zI_t e]; rfl
    · rw [zI_f e]; rfl
  · show (if b + (7 + q) = b then _ else if (b + 1 ≤ b + (7 + q) ∧ b + (7 + q) ≤ b + 4) ∧ r < 8 then _ else if b + (7 + q) = b + 5 ∧ r < 8 then _ else if (b + 7 ≤ b + (7 + q) ∧ b + (7 + q) < b + 7 + 8 ∧ r < 8) ∨ (b + (7 + q) = b + 7 + 8 ∧ r < 0) then iX s (b + (7 + q) - b + a) r else _) = _
    rw [if_neg (by omega), if_neg (by omega), if_neg (by omega), if_pos (by omega), show b + (7 + q) - b + a = a + (7 + q) by omega]
    exact h8 q hq r hr
theorem ct_X5_copy {L : List Ev} (hS : ShX g M o) (hX : FxX (rX s) o) (hb : isS b) (ha : isS a) (hne : a ≠ b) (hN : SX s a n F K t) (hn : n ≤ 8) (hR : RX s o a L) (hp : pmX (rX s) o b pm) :
    Ct g yX5_copy cX5_copy 4 (some ((Jvm.ClassFile.FieldType.object "Retouched$State"))) 0 0 0 [.ref (o + b), .ref (o + a)] (putX M o s) (QX M o (fun v s' => v = some (.ref (o + b)) ∧ SX s' b n F K t ∧ RX s' o b L ∧ rX s' = rX s ∧ FrX (stP b) s s')) noX := by
  have hab := isS_ne ha hb hne
  obtain ⟨pq, hq, hl, hl40, hE⟩ := hR
  have e2 : iX (cpX s b a 8 8 0) b 2 = nI L.length := by
    show (if b = b then (if 2 < 3 then iX s a 2 else iX s b 2) else _) = _
    rw [if_pos rfl, if_pos (by decide)]; exact hl
  refine Ct.of (by decide) (Nat.le_of_ble_eq_true rfl) rfl ?_
  refine r_ald0 (pc := 0) dX5_copy_0 ?_
  refine r_ald1 (pc := 1) dX5_copy_1 ?_
  refine x_getI (c := a) hS (st_ow ha) (st_kd ha) (pc := 2) dX5_copy_2 fl_X5_40 ?_
  refine x_putI (c := b) hS (st_ow hb) (st_kd hb) (pc := 5) dX5_copy_5 fl_X5_40 fw_X5_0 rfl rfl ?_
  refine r_ald0 (pc := 8) dX5_copy_8 ?_
  refine r_ald1 (pc := 9) dX5_copy_9 ?_
  refine x_getI (c := a) hS (st_ow ha) (st_kd ha) (pc := 10) dX5_copy_10 fl_X5_44 ?_
  refine Bd.eqI (iX_c (by omega)) ?_
  refine x_putI (c := b) hS (st_ow hb) (st_kd hb) (pc := 13) dX5_copy_13 fl_X5_44 fw_X5_2 rfl rfl ?_
  refine r_ald0 (pc := 16) dX5_copy_16 ?_
  refine r_ald1 (pc := 17) dX5_copy_17 ?_
  refine x_getI (c := a) hS (st_ow ha) (st_kd ha) (pc := 18) dX5_copy_18 fl_X5_51 ?_
  refine Bd.eqI ((iX_c (by omega)).trans (iX_c (by omega))) ?_
  refine x_putI (c := b) hS (st_ow hb) (st_kd hb) (pc := 21) dX5_copy_21 fl_X5_51 fw_X5_1 rfl rfl ?_
  rw [cpX_0]
  refine r_iconst (v := nI 0) (pc := 24) dX5_copy_24 (by decide) ?_
  refine r_ist2 (pc := 25) dX5_copy_25 ?_
  refine xcopyOut hS hX hb ha hab (fun x => ?_) 8 0 _ (by decide)
  refine xcopy128 (xcopyRows (s := cpX s b a 8 8 0) hS hX hb ha hab hp hq e2 hl40 (fun s' hW => ?_) L.length 0 _ _ (by omega) ⟨rfl, rfl, fun _ _ => rfl, fun r k hr => absurd hr (by omega), fun k hk => absurd hk (by omega)⟩)
  have hf : ∀ c, c < b ∨ b + 56 ≤ c → ∀ j, iX s' c j = iX s c j := fun c hc j => by rw [hW.2.2.1 c (by omega), cpX_n (by omega) (Or.inr ⟨rfl, rfl⟩)]
  refine ⟨s', rfl, rfl, (cpX_SX hN hn).fr (fun c h1 h2 j _ => congrFun (hW.2.2.1 c (by omega)) j) hn, ⟨pm, by rw [hW.2.1]; exact hp, by rw [hW.2.2.1 b (by omega)]; exact e2, hl40, fun i x y z he => ?_⟩, hW.2.1, ⟨fun c hc => ?_, fun c _ => by rw [hW.1]; rfl, fun c _ => by rw [hW.2.1]; rfl⟩⟩
  · have hi := (List.getElem?_eq_some_iff.mp he).1
    obtain ⟨z1, z2, z3⟩ := hE i x y z he
    have hpi := (hq.1 i (by omega)).1
    refine ⟨?_, ?_, ?_⟩
    · rw [hW.2.2.2.1 i 0 hi (by decide), cpX_n (by omega) (Or.inr ⟨rfl, rfl⟩)]; exact z1
    · rw [hW.2.2.2.1 i 1 hi (by decide), cpX_n (by omega) (Or.inr ⟨rfl, rfl⟩)]; exact z2
    · rw [hW.2.2.2.1 i 2 hi (by decide), cpX_n (by omega) (Or.inr ⟨rfl, rfl⟩)]; exact z3
  · unfold stP at hc
    funext j
    exact hf c (by omega) j
end X6
