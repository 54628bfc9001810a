set_option maxRecDepth 100000
/-! ROWS: copies of references, catch -/
section Rows21
variable {g : GC} {y : MethodName} {cc : ByteArray} {nL : Nat} {rt : Option FieldType} {hh : List (Nat × Nat × Nat × Nat)} {d kc ks : Nat} {M : MM} {pc : Nat} {lv : List (Option Value)} {st : List Value} {Q : Option Value → MM → Prop} {X : Nat → MM → Prop}
theorem r_copyR {a0 a n idx : Nat} (hl : Cond.methodLink y.cls idx arraycopyName ∈ lw_all) (hd : decode cc pc = .ok (.invokestatic idx, 3)) (hK0 : mK M a0 = 6) (hK : mK M a = 6) (hn0 : n ≤ mN M a0) (hn1 : n ≤ mN M a) (hn : n < 2147483648) (hel : ∀ i, i < n → ∀ z, mR M a0 i = some z → ∃ ci, mK M z = 20 + ci ∧ NW g (.castable (clT ci).1 "java/lang/Object")) (hb : gb g ≤ a) (hd1 : 1 ≤ d) (hr : (st.map fun v => v.category).sum ≤ 8) (k : Bd g y cc nL rt hh d kc ks (sRs M a (fun i => if i < n then mR M a0 i else mR M a i)) (pc + 3) lv st Q X) : Bd g y cc nL rt hh d kc ks M pc lv (.int (nI n) :: .int (nI 0) :: .ref a :: .int (nI 0) :: .ref a0 :: st) Q X := by
  intro p e s m args below meth c H locs cells slots mc ms ls hC hH hL h1 h2 T hT X
  have hw := hC.2.2.2.2.2.2.2.1
  obtain ⟨cs0, hc0, hw0⟩ := hH.1.arw hK0 (by decide) (by decide)
  have hc1 := hH.1.arr hK (by decide) (by decide) hb
  have hGS := hC.2.2.2.2.2.2.2.2.1
  obtain ⟨-, k0, hk0, cm0, hkk0⟩ := (hGS.2.1 6 (by decide) (by decide)).1 (mN M a0) (fun j => fv M a0 j (fc (arrTy 6)))
  have hcl : (nI n).toNatClampNeg = n := nI_cl hn
  have hti : (nI n).toInt = (n : Int) := nI_toInt (by omega)
  obtain ⟨vm', X', step⟩ := X.arraycopy hC.1 hC.2.2.2.2.2.2.1 (hw _ hl) (hw _ q898) (hw _ q897) (hw _ q167) (src := a0) (dst := a) (cs := cs0) (cd := arrV (gA g 6) (mN M a) (fun j => fv M a j (fc (arrTy 6)))) (srcPos := nI 0) (destPos := nI 0) (n := nI n) (by rw [hT]; exact hc0) (by rw [hT]; exact hc1)
    (fun _ h => by have := hw0.2.2.1; rw [h] at this; cases this) (fun _ h => by cases h) hw0.2.2.2 (fun h => by cases h) (by rw [hw0.1]; exact hk0) hk0 hkk0 hkk0 rfl nI_0lt nI_0lt (fun q => nI_in' (n := n + 1) (j := n) (by omega) hn (Or.inl q))
    (by rw [hti, show (nI 0).toInt = 0 by decide, hw0.2.1, arrV_size]; omega)
    (by rw [hti, show (nI 0).toInt = 0 by decide, arrV_size]; omega)
    (fun vm₁ hal i hi => by
      rw [hcl] at hi
      rw [hw0.2.1]
      have e : (arrV (gA g 6) (mN M a0) (fun j => fv M a0 j (fc (arrTy 6)))).slots.getD ((nI 0).toNatClampNeg + i) .null = va_rf (mR M a0 i) := by
        rw [show (nI 0).toNatClampNeg = 0 by decide, Nat.zero_add, Array.getD_eq_getD_getElem?, arrV_read _ _ (by omega)]
        rfl
      rw [e]
      cases hy : mR M a0 i with
      | none => exact ⟨rfl, trivial⟩
      | some z =>
        obtain ⟨ci, hkz, hca⟩ := hel i hi z hy
        obtain ⟨hci, cellV, g1, g2, g3, -⟩ := (hH.1.2 z).2 ci hkz
        have hcls := (hGS.1 ci hci).2
        obtain ⟨kA, comp, r1, r2, r3, -⟩ := (hGS.2.1 6 (by decide) (by decide)).2
        cases hk0.symm.trans r1
        cases hkk0.symm.trans r2
        obtain ⟨c0, t1, f1, f2, f3⟩ := Cond.castable_spec (va_Nw.use (A := args) rfl (hca s H hH.2.2.2.2.2))
        cases hcls.1.symm.trans f1
        cases r3.symm.trans f2
        obtain ⟨kC, hkC, -⟩ := hcls.2
        obtain ⟨kE, hkE, -⟩ := Vm.findClass_spec r3
        obtain ⟨kC', hkC', -⟩ := hal.2.2 _ _ hkC
        obtain ⟨kE', hkE', -⟩ := hal.2.2 _ _ hkE
        refine ⟨rfl, cellV, (show T.heap[z]? = some cellV by rw [hT]; exact g1), (fun q h => by have := g3.1; rw [h] at this; cases this), ⟨kC', by rw [g2]; exact hkC'⟩, ⟨kE', hkE'⟩, ?_⟩
        show vm₁.assignable _ _ = true
        rw [hal.assignable, g2]
        exact f3)
    (g := F0 m pc ls (.int (nI n) :: .int (nI 0) :: .ref a :: .int (nI 0) :: .ref a0 :: st)) rfl (by rw [hC.2.2.1]; exact hL.1) (rest := st) rfl (by rw [hC.2.1]; exact hd) hd1 (by show 2 * 0 + _ + (nativeFrameWords "java/lang/System" "arraycopy" 5 + 11) ≤ 64 * d; have hw : nativeFrameWords "java/lang/System" "arraycopy" 5 ≤ 40 := (by decide); omega)
  have e0 : ∀ cd, copied cs0 cd (nI 0) (nI 0) (nI n) = copied (arrV (gA g 6) (mN M a0) (fun j => fv M a0 j (fc (arrTy 6)))) cd (nI 0) (nI 0) (nI n) := fun cd => by unfold copied Cell.stretch; rw [hw0.2.1]
  have e1 : copied (arrV (gA g 6) (mN M a0) (fun j => fv M a0 j (fc (arrTy 6)))) (arrV (gA g 6) (mN M a) (fun j => fv M a j (fc (arrTy 6)))) (nI 0) (nI 0) (nI n) = arrV (gA g 6) (mN M a) (fun j => va_rf (va_cpy (mR M a0) (mR M a) (nI 0).toNatClampNeg (nI 0).toNatClampNeg (nI n).toNatClampNeg j)) := va_copied (fun z => va_rf z) (gA g 6) (gA g 6) (mR M a0) (mR M a) (by rw [hcl, show (nI 0).toNatClampNeg = 0 by decide]; omega)
  rw [hcl, show (nI 0).toNatClampNeg = 0 by decide] at e1
  have e2 : (fun j => va_rf (va_cpy (mR M a0) (mR M a) 0 0 n j)) = (fun j => fv (sRs M a (fun i => if i < n then mR M a0 i else mR M a i)) a j (fc (arrTy 6))) := by
    funext j
    show va_rf (if 0 ≤ j ∧ j < 0 + n then mR M a0 (0 + (j - 0)) else mR M a j) = va_rf (mR (sRs M a _) a j)
    rw [mR_sRf, if_pos rfl]
    by_cases e : j < n
    · rw [if_pos (by omega), if_pos e, Nat.zero_add, Nat.sub_zero]
    · rw [if_neg (by omega), if_neg e]
  rw [e0, e1, e2] at X' step
  generalize hcell : arrV (gA g 6) (mN M a) (fun j => fv (sRs M a (fun i => if i < n then mR M a0 i else mR M a i)) a j (fc (arrTy 6))) = cell at X' step
  have hl' : a < H.size := (Array.getElem?_eq_some_iff.mp hc1).1
  have hheap : ((T.setVm vm').setCell a cell).heap = H.setIfInBounds a cell := by rw [← hT]; rfl
  have oq : ∀ q : Nat, q ≠ a → (H.setIfInBounds a cell)[q]? = H[q]? := fun q hq => by simp [Array.getElem?_setIfInBounds, Ne.symm hq]
  have hsz : (H.setIfInBounds a cell).size = H.size := by simp
  have hlow : ∀ q, q < gb g → (H.setIfInBounds a cell)[q]? = H[q]? := fun q hq => oq q (by omega)
  obtain ⟨t, a1, b1⟩ := k p e s m args below meth c (H.setIfInBounds a cell) _ cells slots mc ms ls hC ⟨hH.1.all (a := a) (t := 6) rfl rfl rfl (fun b k t hb => by
      match t with
      | 0 => rfl
      | 1 => rfl
      | _ + 2 => show va_rf (mR (sRs M a _) b k) = _; rw [mR_sRf, if_neg hb]; rfl) hsz oq hK (by decide) (by rw [← hcell]; simp [Array.getElem?_setIfInBounds, hl']), by rw [hsz]; exact hH.2.1, fun q hq => (hlow q hq).trans (hH.2.2.1 q hq), fun q hq => by
      rcases List.mem_append.mp hq with h | h
      · exact hH.2.2.2.1 q h
      · obtain ⟨z, -, hz⟩ := List.mem_map.mp h
        rw [← hz]
        exact hb, hH.2.2.2.2.1, hGS.2.2 s s H _ (State.WarmedH.refl s) hlow hH.2.2.2.2.2⟩ hL h1 h2 _ hheap X'
  exact ⟨t, step t a1, b1⟩
end Rows21
