set_option maxRecDepth 100000
/-! THE OTHER SIDE: a state takes on another's -/
theorem isS_ne {x y : Nat} (hx : isS x) (hy : isS y) (h : x ≠ y) : x + 56 ≤ y ∨ y + 56 ≤ x := by
  rcases hx with q | q | ⟨k, hk, q⟩ <;> rcases hy with q' | q' | ⟨k', hk', q'⟩ <;> omega
section X5
variable {g : GC} {M : MM} {o b a n : Nat} {s : XS} {F K : Nat → Nat} {t : St}
/-- the arrays of b are a's: the first m of each, thoughts below row i and the first j of row i -/
def cpX (s : XS) (b a m i j : Nat) : XS := ((fun c k =>
  if c = b then (if k < 3 then iX s a k else iX s b k)
  else if (b + 1 ≤ c ∧ c ≤ b + 4) ∧ k < m then iX s (c - b + a) k
  else if c = b + 5 ∧ k < m then vp_nar .boolean (iX s (a + 5) k)
  else if (b + 7 ≤ c ∧ c < b + 7 + i ∧ k < 8) ∨ (c = b + 7 + i ∧ k < j) then iX s (c - b + a) k
  else iX s c k), lX s, rX s)
theorem cpX_n {m i j c k : Nat} (hc : c < b ∨ b + 15 ≤ c) (hi : i < 8 ∨ (i = 8 ∧ j = 0)) : iX (cpX s b a m i j) c k = iX s c k := by
  show (if c = b then _ else if _ then _ else if _ then _ else if _ then _ else iX s c k) = iX s c k
  rw [if_neg (by omega), if_neg (by omega), if_neg (by omega), if_neg (by omega)]
theorem cpX_0 : uI (uI (uI s b 0 (iX s a 0)) b 2 (iX s a 2)) b 1 (iX s a 1) = cpX s b a 0 0 0 := by
  refine Prod.ext ?_ rfl
  funext c k
  show (if c = b ∧ k = 1 then iX s a 1 else if c = b ∧ k = 2 then iX s a 2 else if c = b ∧ k = 0 then iX s a 0 else iX s c k) = (if c = b then (if k < 3 then iX s a k else iX s b k) else if _ then _ else if _ then _ else if _ then _ else iX s c k)
  by_cases e : c = b
  · subst e
    rw [if_pos rfl]
    by_cases e1 : k = 1
    · subst e1; rw [if_pos ⟨rfl, rfl⟩, if_pos (by decide)]
    · rw [if_neg (fun q => e1 q.2)]
      by_cases e2 : k = 2
      · subst e2; rw [if_pos ⟨rfl, rfl⟩, if_pos (by decide)]
      · rw [if_neg (fun q => e2 q.2)]
        by_cases e3 : k = 0
        · subst e3; rw [if_pos ⟨rfl, rfl⟩, if_pos (by decide)]
        · rw [if_neg (fun q => e3 q.2), if_neg (by omega)]
  · rw [if_neg (fun q => e q.1), if_neg (fun q => e q.1), if_neg (fun q => e q.1), if_neg e, if_neg (by omega), if_neg (by omega), if_neg (by omega)]
theorem cpX_row {m i j : Nat} : uI (cpX s b a m i j) (b + (7 + i)) j (iX s (a + (7 + i)) j) = cpX s b a m i (j + 1) := by
  refine Prod.ext ?_ rfl
  funext c k
  show (if c = b + (7 + i) ∧ k = j then iX s (a + (7 + i)) j else if c = b then (if k < 3 then iX s a k else iX s b k)
    else if (b + 1 ≤ c ∧ c ≤ b + 4) ∧ k < m then iX s (c - b + a) k
    else if c = b + 5 ∧ k < m then vp_nar .boolean (iX s (a + 5) k)
    else if (b + 7 ≤ c ∧ c < b + 7 + i ∧ k < 8) ∨ (c = b + 7 + i ∧ k < j) then iX s (c - b + a) k
    else iX s c k) = (if c = b then (if k < 3 then iX s a k else iX s b k)
    else if (b + 1 ≤ c ∧ c ≤ b + 4) ∧ k < m then iX s (c - b + a) k
    else if c = b + 5 ∧ k < m then vp_nar .boolean (iX s (a + 5) k)
    else if (b + 7 ≤ c ∧ c < b + 7 + i ∧ k < 8) ∨ (c = b + 7 + i ∧ k < j + 1) then iX s (c - b + a) k
    else iX s c k)
  by_cases e : c = b + (7 + i) ∧ k = j
  · obtain ⟨rfl, rfl⟩ := e
    rw [if_pos ⟨rfl, rfl⟩, if_neg (by omega), if_neg (by omega), if_neg (by omega), if_pos (by omega), show b + (7 + i) - b + a = a + (7 + i) by omega]
  · rw [if_neg e]
    by_cases e1 : c = b
    · rw [if_pos e1, if_pos e1]
    · rw [if_neg e1, if_neg e1]
      by_cases e2 : (b + 1 ≤ c ∧ c ≤ b + 4) ∧ k < m
      · rw [if_pos e2, if_pos e2]
      · rw [if_neg e2, if_neg e2]
        by_cases e3 : c = b + 5 ∧ k < m
        · rw [if_pos e3, if_pos e3]
        · rw [if_neg e3, if_neg e3]
          by_cases e4 : (b + 7 ≤ c ∧ c < b + 7 + i ∧ k < 8) ∨ (c = b + 7 + i ∧ k < j)
          · rw [if_pos e4, if_pos (by omega)]
          · rw [if_neg e4, if_neg (by omega)]
theorem cpX_next {m i : Nat} : cpX s b a m i 8 = cpX s b a m (i + 1) 0 := by
  refine Prod.ext ?_ rfl
  funext c k
  show (if c = b then (if k < 3 then iX s a k else iX s b k)
    else if (b + 1 ≤ c ∧ c ≤ b + 4) ∧ k < m then iX s (c - b + a) k
    else if c = b + 5 ∧ k < m then vp_nar .boolean (iX s (a + 5) k)
    else if (b + 7 ≤ c ∧ c < b + 7 + i ∧ k < 8) ∨ (c = b + 7 + i ∧ k < 8) then iX s (c - b + a) k
    else iX s c k) = (if c = b then (if k < 3 then iX s a k else iX s b k)
    else if (b + 1 ≤ c ∧ c ≤ b + 4) ∧ k < m then iX s (c - b + a) k
    else if c = b + 5 ∧ k < m then vp_nar .boolean (iX s (a + 5) k)
    else if (b + 7 ≤ c ∧ c < b + 7 + (i + 1) ∧ k < 8) ∨ (c = b + 7 + (i + 1) ∧ k < 0) then iX s (c - b + a) k
    else iX s c k)
  by_cases e1 : c = b
  · rw [if_pos e1, if_pos e1]
  · rw [if_neg e1, if_neg e1]
    by_cases e2 : (b + 1 ≤ c ∧ c ≤ b + 4) ∧ k < m
    · rw [if_pos e2, if_pos e2]
    · rw [if_neg e2, if_neg e2]
      by_cases e3 : c = b + 5 ∧ k < m
      · rw [if_pos e3, if_pos e3]
      · rw [if_neg e3, if_neg e3]
        by_cases e4 : (b + 7 ≤ c ∧ c < b + 7 + i ∧ k < 8) ∨ (c = b + 7 + i ∧ k < 8)
        · rw [if_pos e4, if_pos (by omega)]
        · rw [if_neg e4, if_neg (by omega)]
theorem cpX_five {i : Nat} : uI (uI (uI (uI (uI (cpX s b a i i 0) (b + 1) i (iX s (a + 1) i)) (b + 2) i (iX s (a + 2) i)) (b + 3) i (iX s (a + 3) i)) (b + 4) i (iX s (a + 4) i)) (b + 5) i (vp_nar .boolean (iX s (a + 5) i)) = cpX s b a (i + 1) i 0 := by
  refine Prod.ext ?_ rfl
  funext c k
  show (if c = b + 5 ∧ k = i then vp_nar .boolean (iX s (a + 5) i) else if c = b + 4 ∧ k = i then iX s (a + 4) i else if c = b + 3 ∧ k = i then iX s (a + 3) i else if c = b + 2 ∧ k = i then iX s (a + 2) i else if c = b + 1 ∧ k = i then iX s (a + 1) i else if c = b then (if k < 3 then iX s a k else iX s b k)
    else if (b + 1 ≤ c ∧ c ≤ b + 4) ∧ k < i then iX s (c - b + a) k
    else if c = b + 5 ∧ k < i then vp_nar .boolean (iX s (a + 5) k)
    else if (b + 7 ≤ c ∧ c < b + 7 + i ∧ k < 8) ∨ (c = b + 7 + i ∧ k < 0) then iX s (c - b + a) k
    else iX s c k) = (if c = b then (if k < 3 then iX s a k else iX s b k)
    else if (b + 1 ≤ c ∧ c ≤ b + 4) ∧ k < i + 1 then iX s (c - b + a) k
    else if c = b + 5 ∧ k < i + 1 then vp_nar .boolean (iX s (a + 5) k)
    else if (b + 7 ≤ c ∧ c < b + 7 + i ∧ k < 8) ∨ (c = b + 7 + i ∧ k < 0) then iX s (c - b + a) k
    else iX s c k)
  by_cases e5 : c = b + 5 ∧ k = i
  · obtain ⟨rfl, rfl⟩ := e5
    rw [if_pos ⟨rfl, rfl⟩, if_neg (by omega), if_neg (by omega), if_pos (by omega)]
  · rw [if_neg e5]
    by_cases e4 : c = b + 4 ∧ k = i
    · obtain ⟨rfl, rfl⟩ := e4
      rw [if_pos ⟨rfl, rfl⟩, if_neg (by omega), if_pos (by omega), show b + 4 - b + a = a + 4 by omega]
    · rw [if_neg e4]
      by_cases e3 : c = b + 3 ∧ k = i
      · obtain ⟨rfl, rfl⟩ := e3
        rw [if_pos ⟨rfl, rfl⟩, if_neg (by omega), if_pos (by omega), show b + 3 - b + a = a + 3 by omega]
      · rw [if_neg e3]
        by_cases e2 : c = b + 2 ∧ k = i
        · obtain ⟨rfl, rfl⟩ := e2
          rw [if_pos ⟨rfl, rfl⟩, if_neg (by omega), if_pos (by omega), show b + 2 - b + a = a + 2 by omega]
        · rw [if_neg e2]
          by_cases e1 : c = b + 1 ∧ k = i
          · obtain ⟨rfl, rfl⟩ := e1
            rw [if_pos ⟨rfl, rfl⟩, if_neg (by omega), if_pos (by omega), show b + 1 - b + a = a + 1 by omega]
          · rw [if_neg e1]
            by_cases d1 : c = b
            · rw [if_pos d1, if_pos d1]
            · rw [if_neg d1, if_neg d1]
              by_cases d2 : (b + 1 ≤ c ∧ c ≤ b + 4) ∧ k < i
              · rw [if_pos d2, if_pos (by omega)]
              · rw [if_neg d2, if_neg (show ¬ ((b + 1 ≤ c ∧ c ≤ b + 4) ∧ k < i + 1) by omega)]
                by_cases d3 : c = b + 5 ∧ k < i
                · rw [if_pos d3, if_pos (by omega)]
                · rw [if_neg d3, if_neg (show ¬ (c = b + 5 ∧ k < i + 1) by omega)]
theorem xcopyIn {i : Nat} {Q : Option Value → MM → Prop} (hS : ShX g M o) (hX : FxX (rX s) o) (hb : isS b) (ha : isS a) (hab : a + 56 ≤ b ∨ b + 56 ≤ a) (hi8 : i < 8)
    (Kk : Bd g yX5_copy cX5_copy 4 (some ((Jvm.ClassFile.FieldType.object "Retouched$State"))) [] 0 0 0 (putX M o (cpX s b a (i + 1) i 8)) 122 [some (.ref (o + b)), some (.ref (o + a)), some (.int (nI i)), some (.int (nI 8))] [] Q noX) : ∀ k j, j + k = 8 →
    Bd g yX5_copy cX5_copy 4 (some ((Jvm.ClassFile.FieldType.object "Retouched$State"))) [] 0 0 0 (putX M o (cpX s b a (i + 1) i j)) 94 [some (.ref (o + b)), some (.ref (o + a)), some (.int (nI i)), some (.int (nI j))] [] Q noX := by
  intro k
  induction k with
  | zero =>
    intro j hj
    obtain rfl : j = 8 := by omega
    refine r_ild3 (pc := 94) dX5_copy_94 ?_
    refine r_bipush (v := nI 8) (pc := 95) dX5_copy_95 (by decide) ?_
    first | refine r_icmp_geN (pc := 97) (tgt := 122) dX5_copy_97 (by decide) (by omega) (by omega) (fun h97 => ?_) (fun h97 => ?_) | refine r_icmp_ge (pc := 97) (tgt := 122) dX5_copy_97 (by decide) (fun h97 => ?_) (fun h97 => ?_)
    · skip
      exact Kk
    · skip
      exact absurd h97 (by omega)
  | succ k ih =>
    intro j hj
    refine r_ild3 (pc := 94) dX5_copy_94 ?_
    refine r_bipush (v := nI 8) (pc := 95) dX5_copy_95 (by decide) ?_
    first | refine r_icmp_geN (pc := 97) (tgt := 122) dX5_copy_97 (by decide) (by omega) (by omega) (fun h97 => ?_) (fun h97 => ?_) | refine r_icmp_ge (pc := 97) (tgt := 122) dX5_copy_97 (by decide) (fun h97 => ?_) (fun h97 => ?_)
    · skip
      exact absurd h97 (by omega)
    · skip
      refine r_ald0 (pc := 100) dX5_copy_100 ?_
      refine x_getR (c := b) hS (st_ow hb) (st_kd hb) (pc := 101) dX5_copy_101 fl_X5_34 (fs_8 hX hb) ?_
      refine r_ild2 (pc := 104) dX5_copy_104 ?_
      refine x_aald (c := (b + 6)) (j := i) hS (st_ow6 hb) (st_kd6 hb) (by decide) (st_ln6 hb) (pc := 105) dX5_copy_105 (by omega) (by omega) (fs_th hX hb (by omega)) ?_
      refine r_ild3 (pc := 106) dX5_copy_106 ?_
      refine r_ald1 (pc := 107) dX5_copy_107 ?_
      refine x_getR (c := a) hS (st_ow ha) (st_kd ha) (pc := 108) dX5_copy_108 fl_X5_34 (fs_8 hX ha) ?_
      refine r_ild2 (pc := 111) dX5_copy_111 ?_
      refine x_aald (c := (a + 6)) (j := i) hS (st_ow6 ha) (st_kd6 ha) (by decide) (st_ln6 ha) (pc := 112) dX5_copy_112 (by omega) (by omega) (fs_th hX ha (by omega)) ?_
      refine r_ild3 (pc := 113) dX5_copy_113 ?_
      refine x_iald (c := (a + (7 + i))) hS (th_ow ha (by omega)) (th_kd ha (by omega)) (th_ln ha (by omega)) (pc := 114) dX5_copy_114 (by omega) (by omega) ?_
      refine Bd.eqI (cpX_n (by omega) (Or.inl hi8)) ?_
      refine x_iast (c := (b + (7 + i))) hS (th_ow hb (by omega)) (th_kd hb (by omega)) (th_ln hb (by omega)) (pc := 115) dX5_copy_115 (by omega) (by omega) ?_
      rw [cpX_row]
      first | refine r_iinc3N (j := 1) (pc := 116) dX5_copy_116 rfl ?_ | refine r_iinc3 (pc := 116) dX5_copy_116 ?_
      refine r_goto (pc := 119) (tgt := 94) dX5_copy_119 (by decide) ?_
      exact ih (j + 1) (by omega)
theorem xcopy122 {i : Nat} {s' : XS} {Q : Option Value → MM → Prop} {x : Option Value}
    (Kk : Bd g yX5_copy cX5_copy 4 (some ((Jvm.ClassFile.FieldType.object "Retouched$State"))) [] 0 0 0 (putX M o s') 26 [some (.ref (o + b)), some (.ref (o + a)), some (.int (nI (i + 1))), x] [] Q noX) :
    Bd g yX5_copy cX5_copy 4 (some ((Jvm.ClassFile.FieldType.object "Retouched$State"))) [] 0 0 0 (putX M o s') 122 [some (.ref (o + b)), some (.ref (o + a)), some (.int (nI i)), x] [] Q noX := by
  first | refine r_iinc2N (j := 1) (pc := 122) dX5_copy_122 rfl ?_ | refine r_iinc2 (pc := 122) dX5_copy_122 ?_
  refine r_goto (pc := 125) (tgt := 26) dX5_copy_125 (by decide) ?_
  exact Kk
theorem xcopyOut {Q : Option Value → MM → Prop} (hS : ShX g M o) (hX : FxX (rX s) o) (hb : isS b) (ha : isS a) (hab : a + 56 ≤ b ∨ b + 56 ≤ a)
    (Kk : ∀ x, Bd g yX5_copy cX5_copy 4 (some ((Jvm.ClassFile.FieldType.object "Retouched$State"))) [] 0 0 0 (putX M o (cpX s b a 8 8 0)) 128 [some (.ref (o + b)), some (.ref (o + a)), some (.int (nI 8)), x] [] Q noX) : ∀ k i x, i + k = 8 →
    Bd g yX5_copy cX5_copy 4 (some ((Jvm.ClassFile.FieldType.object "Retouched$State"))) [] 0 0 0 (putX M o (cpX s b a i i 0)) 26 [some (.ref (o + b)), some (.ref (o + a)), some (.int (nI i)), x] [] Q noX := by
  intro k
  induction k with
  | zero =>
    intro i x hi
    obtain rfl : i = 8 := by omega
    refine r_ild2 (pc := 26) dX5_copy_26 ?_
    refine r_bipush (v := nI 8) (pc := 27) dX5_copy_27 (by decide) ?_
    first | refine r_icmp_geN (pc := 29) (tgt := 128) dX5_copy_29 (by decide) (by omega) (by omega) (fun h29 => ?_) (fun h29 => ?_) | refine r_icmp_ge (pc := 29) (tgt := 128) dX5_copy_29 (by decide) (fun h29 => ?_) (fun h29 => ?_)
    · skip
      exact Kk _
    · skip
      exact absurd h29 (by omega)
  | succ k ih =>
    intro i x hi
    have hi8 : i < 8 := by omega
    refine r_ild2 (pc := 26) dX5_copy_26 ?_
    refine r_bipush (v := nI 8) (pc := 27) dX5_copy_27 (by decide) ?_
    first | refine r_icmp_geN (pc := 29) (tgt := 128) dX5_copy_29 (by decide) (by omega) (by omega) (fun h29 => ?_) (fun h29 => ?_) | refine r_icmp_ge (pc := 29) (tgt := 128) dX5_copy_29 (by decide) (fun h29 => ?_) (fun h29 => ?_)
    · skip
      exact absurd h29 (by omega)
    · skip
      refine r_ald0 (pc := 32) dX5_copy_32 ?_
      refine x_getR (c := b) hS (st_ow hb) (st_kd hb) (pc := 33) dX5_copy_33 fl_X5_15 (fs_3 hX hb) ?_
      refine r_ild2 (pc := 36) dX5_copy_36 ?_
      refine r_ald1 (pc := 37) dX5_copy_37 ?_
      refine x_getR (c := a) hS (st_ow ha) (st_kd ha) (pc := 38) dX5_copy_38 fl_X5_15 (fs_3 hX ha) ?_
      refine r_ild2 (pc := 41) dX5_copy_41 ?_
      refine x_iald (c := (a + 1)) hS (st_ow1 ha) (st_kd1 ha) (st_ln1 ha) (pc := 42) dX5_copy_42 (by omega) (by omega) ?_
      refine Bd.eqI (cpX_n (by omega) (Or.inl hi8)) ?_
      refine x_iast (c := (b + 1)) hS (st_ow1 hb) (st_kd1 hb) (st_ln1 hb) (pc := 43) dX5_copy_43 (by omega) (by omega) ?_
      refine r_ald0 (pc := 44) dX5_copy_44 ?_
      refine x_getR (c := b) hS (st_ow hb) (st_kd hb) (pc := 45) dX5_copy_45 fl_X5_19 (fs_4 hX hb) ?_
      refine r_ild2 (pc := 48) dX5_copy_48 ?_
      refine r_ald1 (pc := 49) dX5_copy_49 ?_
      refine x_getR (c := a) hS (st_ow ha) (st_kd ha) (pc := 50) dX5_copy_50 fl_X5_19 (fs_4 hX ha) ?_
      refine r_ild2 (pc := 53) dX5_copy_53 ?_
      refine x_iald (c := (a + 2)) hS (st_ow2 ha) (st_kd2 ha) (st_ln2 ha) (pc := 54) dX5_copy_54 (by omega) (by omega) ?_
      refine Bd.eqI ((iX_c (by omega)).trans (cpX_n (by omega) (Or.inl hi8))) ?_
      refine x_iast (c := (b + 2)) hS (st_ow2 hb) (st_kd2 hb) (st_ln2 hb) (pc := 55) dX5_copy_55 (by omega) (by omega) ?_
      refine r_ald0 (pc := 56) dX5_copy_56 ?_
      refine x_getR (c := b) hS (st_ow hb) (st_kd hb) (pc := 57) dX5_copy_57 fl_X5_22 (fs_5 hX hb) ?_
      refine r_ild2 (pc := 60) dX5_copy_60 ?_
      refine r_ald1 (pc := 61) dX5_copy_61 ?_
      refine x_getR (c := a) hS (st_ow ha) (st_kd ha) (pc := 62) dX5_copy_62 fl_X5_22 (fs_5 hX ha) ?_
      refine r_ild2 (pc := 65) dX5_copy_65 ?_
      refine x_iald (c := (a + 3)) hS (st_ow3 ha) (st_kd3 ha) (st_ln3 ha) (pc := 66) dX5_copy_66 (by omega) (by omega) ?_
      refine Bd.eqI ((iX_c (by omega)).trans ((iX_c (by omega)).trans (cpX_n (by omega) (Or.inl hi8)))) ?_
      refine x_iast (c := (b + 3)) hS (st_ow3 hb) (st_kd3 hb) (st_ln3 hb) (pc := 67) dX5_copy_67 (by omega) (by omega) ?_
      refine r_ald0 (pc := 68) dX5_copy_68 ?_
      refine x_getR (c := b) hS (st_ow hb) (st_kd hb) (pc := 69) dX5_copy_69 fl_X5_25 (fs_6 hX hb) ?_
      refine r_ild2 (pc := 72) dX5_copy_72 ?_
      refine r_ald1 (pc := 73) dX5_copy_73 ?_
      refine x_getR (c := a) hS (st_ow ha) (st_kd ha) (pc := 74) dX5_copy_74 fl_X5_25 (fs_6 hX ha) ?_
      refine r_ild2 (pc := 77) dX5_copy_77 ?_
      refine x_iald (c := (a + 4)) hS (st_ow4 ha) (st_kd4 ha) (st_ln4 ha) (pc := 78) dX5_copy_78 (by omega) (by omega) ?_
      refine Bd.eqI ((iX_c (by omega)).trans ((iX_c (by omega)).trans ((iX_c (by omega)).trans (cpX_n (by omega) (Or.inl hi8))))) ?_
      refine x_iast (c := (b + 4)) hS (st_ow4 hb) (st_kd4 hb) (st_ln4 hb) (pc := 79) dX5_copy_79 (by omega) (by omega) ?_
      refine r_ald0 (pc := 80) dX5_copy_80 ?_
      refine x_getR (c := b) hS (st_ow hb) (st_kd hb) (pc := 81) dX5_copy_81 fl_X5_28 (fs_7 hX hb) ?_
      refine r_ild2 (pc := 84) dX5_copy_84 ?_
      refine r_ald1 (pc := 85) dX5_copy_85 ?_
      refine x_getR (c := a) hS (st_ow ha) (st_kd ha) (pc := 86) dX5_copy_86 fl_X5_28 (fs_7 hX ha) ?_
      refine r_ild2 (pc := 89) dX5_copy_89 ?_
      refine x_zald (c := (a + 5)) hS (st_ow5 ha) (st_kd5 ha) (st_ln5 ha) (pc := 90) dX5_copy_90 (by omega) (by omega) ?_
      refine Bd.eqI ((iX_c (by omega)).trans ((iX_c (by omega)).trans ((iX_c (by omega)).trans ((iX_c (by omega)).trans (cpX_n (by omega) (Or.inl hi8)))))) ?_
      refine x_zast (c := (b + 5)) hS (st_ow5 hb) (st_kd5 hb) (st_ln5 hb) (pc := 91) dX5_copy_91 (by omega) (by omega) ?_
      rw [cpX_five]
      refine r_iconst (v := nI 0) (pc := 92) dX5_copy_92 (by decide) ?_
      refine r_ist3 (pc := 93) dX5_copy_93 ?_
      refine xcopyIn hS hX hb ha hab hi8 ?_ 8 0 (by decide)
      rw [cpX_next]
      exact xcopy122 (ih (i + 1) _ (by omega))
end X5
