set_option maxRecDepth 100000
/-! ROW: a grid of ints made at once -/
def mw (M : MM) (n k : Nat) : MM := (mZ M + 1 + n, (fun b => if b = mZ M then 7 else if mZ M < b ∧ b ≤ mZ M + n then 1 else mK M b), (fun b => if b = mZ M then n else if mZ M < b ∧ b ≤ mZ M + n then k else mN M b), (fun b i => if mZ M ≤ b ∧ b ≤ mZ M + n then 0 else mI M b i), (fun b i => if mZ M ≤ b ∧ b ≤ mZ M + n then 0 else mL M b i), (fun b i => if b = mZ M then some (mZ M + 1 + i) else if mZ M < b ∧ b ≤ mZ M + n then none else mR M b i))
theorem mw_Z (M : MM) (n k : Nat) : mZ (mw M n k) = mZ M + 1 + n := rfl
theorem mw_K0 (M : MM) (n k : Nat) : mK (mw M n k) (mZ M) = 7 ∧ mN (mw M n k) (mZ M) = n ∧ ∀ j, mR (mw M n k) (mZ M) j = some (mZ M + 1 + j) := ⟨if_pos rfl, if_pos rfl, fun _ => if_pos rfl⟩
theorem mw_K1 (M : MM) (n k : Nat) {c : Nat} (h1 : mZ M < c) (h2 : c ≤ mZ M + n) : mK (mw M n k) c = 1 ∧ mN (mw M n k) c = k := ⟨(if_neg (show ¬ c = mZ M by omega)).trans (if_pos ⟨h1, h2⟩), (if_neg (show ¬ c = mZ M by omega)).trans (if_pos ⟨h1, h2⟩)⟩
theorem mw_I (M : MM) (n k : Nat) {c : Nat} (h1 : mZ M ≤ c) (h2 : c ≤ mZ M + n) (j : Nat) : mI (mw M n k) c j = 0 ∧ mL (mw M n k) c j = 0 := ⟨if_pos ⟨h1, h2⟩, if_pos ⟨h1, h2⟩⟩
theorem mw_old (M : MM) (n k : Nat) {c : Nat} (h : c < mZ M ∨ mZ M + n < c) : Sm M (mw M n k) c := by
  have e0 : ¬ c = mZ M := by omega
  have e1 : ¬ (mZ M < c ∧ c ≤ mZ M + n) := by omega
  have e2 : ¬ (mZ M ≤ c ∧ c ≤ mZ M + n) := by omega
  exact ⟨(if_neg e0).trans (if_neg e1), (if_neg e0).trans (if_neg e1), funext fun i => if_neg e2, funext fun i => if_neg e2, funext fun i => (if_neg e0).trans (if_neg e1)⟩
theorem mw_FM (M : MM) (n k : Nat) : FM (fun _ => False) M (mw M n k) := ⟨by rw [mw_Z]; omega, fun c hc _ => mw_old M n k (Or.inl hc)⟩
theorem Sm.fv {M M' : MM} {c : Nat} (h : Sm M M' c) (k t : Nat) : fv M' c k t = fv M c k t := by
  obtain ⟨-, -, h3, h4, h5⟩ := h
  match t with
  | 0 => show Value.int (mI M' c k) = .int (mI M c k); rw [h3]
  | 1 => show Value.long (mL M' c k) = .long (mL M c k); rw [h4]
  | t + 2 => show va_rf (mR M' c k) = va_rf (mR M c k); rw [h5]
theorem outer_sh (cA : ClassId) (n h0 : Nat) : ∀ i, Jvm.Free.Multi.outerC cA n h0 i = ({ cls := cA, slots := (Jvm.Free.Multi.outerC cA n h0 i).slots, vm := .none } : Cell)
  | 0 => rfl
  | i + 1 => by
    have ih := outer_sh cA n h0 i
    show (Jvm.Free.Multi.outerC cA n h0 i).setSlot i (.ref (h0 + 1 + i)) = ({ cls := cA, slots := ((Jvm.Free.Multi.outerC cA n h0 i).setSlot i (.ref (h0 + 1 + i))).slots, vm := .none } : Cell)
    generalize Jvm.Free.Multi.outerC cA n h0 i = C at ih
    rw [ih]
    rfl
theorem outer_arrV (cA : ClassId) (n h0 : Nat) : Jvm.Free.Multi.outerC cA n h0 n = arrV cA n (fun j => .ref (h0 + 1 + j)) := by
  obtain ⟨-, -, o3⟩ := Jvm.Free.Multi.outerC_facts cA n h0 n
  have os := Jvm.Free.Multi.outerC_slot cA n h0 n
  rw [outer_sh]
  generalize Jvm.Free.Multi.outerC cA n h0 n = C at *
  unfold arrV
  congr 1
  apply Array.ext
  · rw [Array.size_ofFn]; exact o3
  · intro i hi1 hi2
    have h := os i (by rw [Array.size_ofFn] at hi2; exact hi2)
    rw [if_pos (by rw [Array.size_ofFn] at hi2; exact hi2)] at h
    rw [Array.getElem_ofFn]
    exact (Array.getElem?_eq_some_iff.mp h).2
theorem Hd.grid {g : GC} {M : MM} {H H' : Heap} {n k : Nat} (h : Hd g M H) (hs : H'.size = H.size + 1 + n) (ho : ∀ q, q < H.size → H'[q]? = H[q]?) (h0 : H'[H.size]? = some (arrV (gA g 7) n (fun j => .ref (H.size + 1 + j)))) (h1 : ∀ j, j < n → H'[H.size + 1 + j]? = some (arrV (gA g 1) k (fun _ => .int 0))) : Hd g (mw M n k) H' := by
  refine ⟨by rw [mw_Z, hs, h.1], fun b => ?_⟩
  by_cases e0 : b = mZ M
  · subst e0
    obtain ⟨k1, k2, k3⟩ := mw_K0 M n k
    rw [k1, k2]
    refine ⟨fun _ _ => ?_, fun ci hc => absurd hc (by omega)⟩
    refine ⟨_, by rw [h.1]; exact h0, ?_⟩
    rw [show (fun j => fv (mw M n k) (mZ M) j (fc (arrTy 7))) = (fun j => Value.ref (H.size + 1 + j)) from funext fun j => by
      show va_rf (mR (mw M n k) (mZ M) j) = _
      rw [k3, h.1]; rfl]
    exact ⟨Aw.rf, fun _ => rfl⟩
  · by_cases e1 : mZ M < b ∧ b ≤ mZ M + n
    · obtain ⟨k1, k2⟩ := mw_K1 M n k e1.1 e1.2
      rw [k1, k2]
      refine ⟨fun _ _ => ?_, fun ci hc => absurd hc (by omega)⟩
      have hb : b = H.size + 1 + (b - (mZ M + 1)) := by rw [← h.1]; omega
      have hq := h1 (b - (mZ M + 1)) (by omega)
      rw [← hb] at hq
      refine ⟨_, hq, ?_⟩
      rw [show (fun j => fv (mw M n k) b j (fc (arrTy 1))) = (fun _ => Value.int 0) from funext fun j => by
        show Value.int (mI (mw M n k) b j) = _
        rw [(mw_I M n k (by omega) e1.2 j).1]]
      exact ⟨Aw.rf, fun _ => rfl⟩
    · have hm := mw_old M n k (c := b) (by omega)
      rw [hm.1, hm.2.1]
      refine ⟨fun a1 a9 => ?_, fun ci hc => ?_⟩
      · obtain ⟨cell, q, q2⟩ := (h.2 b).1 a1 a9
        rw [show (fun j => fv (mw M n k) b j (fc (arrTy (mK M b)))) = (fun j => fv M b j (fc (arrTy (mK M b)))) from funext fun j => hm.fv _ _]
        exact ⟨cell, by rw [ho b (Array.getElem?_eq_some_iff.mp q).1]; exact q, q2⟩
      · obtain ⟨hci, cell, q1, q2, q3, q4⟩ := (h.2 b).2 ci hc
        exact ⟨hci, cell, by rw [ho b (Array.getElem?_eq_some_iff.mp q1).1]; exact q1, q2, q3, fun k hk => (q4 k hk).trans (congrArg some (hm.fv _ _).symm)⟩
section Rows25
variable {g : GC} {y : MethodName} {cc : ByteArray} {nL : Nat} {rt : Option FieldType} {hh : List (Nat × Nat × Nat × Nat)} {d kc ks : Nat} {M : MM} {pc : Nat} {lv : List (Option Value)} {st : List Value} {Q : Option Value → MM → Prop} {X : Nat → MM → Prop}
theorem r_grid {n k idx kc' ks' : Nat} (hO : GO g) (hd : decode cc pc = .ok (.multianewarray idx 2, 4)) (hl : Cond.classLink y.cls idx "[[I" ∈ lw_all) (hn : n ≤ 1000) (hk : k ≤ 1000) (hkc : kc' + (1 + n) ≤ kc) (hks : ks' + (n + n * k) ≤ ks) (kk : Bd g y cc nL rt hh d kc' ks' (mw M n k) (pc + 4) lv (.ref (mZ M) :: st) Q X) : Bd g y cc nL rt hh d kc ks M pc lv (.int (nI k) :: .int (nI n) :: st) Q X := by
  intro p e s m args below meth c H locs cells slots mc ms ls hC hH hL h1 h2
  have hGS := hC.2.2.2.2.2.2.2.2.1
  have r7 : s.vm.findClass ("[" ++ (FieldType.array .int).toString) = some (gA g 7) := (hGS.2.1 7 (by decide) (by decide)).2
  have r1 : s.vm.findClass (FieldType.array .int).toString = some (gA g 1) := (hGS.2.1 1 (by decide) (by decide)).2
  have w1 : (Cond.classLink y.cls idx ("[" ++ (FieldType.array .int).toString)).before args s = true := hC.2.2.2.2.2.2.2.1 _ hl
  have w2 : (Cond.arrayOver (.array .int)).before args s = true := hO _ q381 s H hH.2.2.2.2.2
  have w3 : (Cond.arrayClass .int).before args s = true := hC.2.2.2.2.2.2.2.1 _ q425
  have cn : (nI n).toNatClampNeg = n := nI_cl (by omega)
  have ck : (nI k).toNatClampNeg = k := nI_cl (by omega)
  intro T hT X1
  obtain ⟨vm1, cA, comp, hW, hfA, hfC, -, -, X2, st2⟩ := X1.multianewarray2F (ty := .int) hC.1 hC.2.2.2.2.2.2.1 w1 w2 w3 (g := F0 m pc ls (.int (nI k) :: .int (nI n) :: st)) rfl (by rw [hC.2.1]; exact hd) (n := nI n) (k := nI k) (rest := st) rfl (fun q => nI_in' (n := n + 1) (j := n) (by omega) (by omega) (Or.inl q)) (fun q => nI_in' (n := k + 1) (j := k) (by omega) (by omega) (Or.inl q)) (by rw [cn]; omega) (by rw [ck]; show k * 4 ≤ _; omega) (by rw [ck]; omega) rfl rfl (by rw [cn]; show cells + (1 + n) ≤ mc; omega) (by rw [cn, ck]; show slots + (n + n * k) ≤ ms; omega)
  have e7 : cA = gA g 7 := Option.some.inj (hfA.symm.trans r7)
  have e1 : comp = gA g 1 := Option.some.inj (hfC.symm.trans r1)
  subst e7 e1
  rw [cn, ck] at X2 st2
  obtain ⟨f1, f2, f3, f4⟩ := Jvm.Free.Multi.fill_facts (T.setVm vm1) (gA g 7) (gA g 1) n k (defaultValue .int) n
  have fo := fun (a : Nat) (ha : a < T.heap.size) => Jvm.Free.Multi.fill_old (T.setVm vm1) (gA g 7) (gA g 1) n k (defaultValue .int) (a := a) ha n
  have fi := fun (j : Nat) (hj : j < n) => Jvm.Free.Multi.fill_inner (T.setVm vm1) (gA g 7) (gA g 1) n k (defaultValue .int) n j hj
  generalize hF : Jvm.Free.Multi.fill (T.setVm vm1) (gA g 7) (gA g 1) n k (defaultValue .int) n = F at *
  have hTh : (T.setVm vm1).heap = H := hT
  rw [hTh] at f1 f2 fi
  have fo' : ∀ q, q < H.size → F.heap[q]? = H[q]? := fun q hq => by rw [fo q (by rw [hT]; exact hq), hTh]
  have hH' : Hx g (mw M n k) s F.heap locs := hH.push hGS (hH.1.grid f1 fo' (by rw [f2, outer_arrV]) (fun j hj => by rw [fi j hj]; exact congrArg some (arrV_new _ _ _))) (by omega) fo'
  obtain ⟨t, a1, b1⟩ := kk p e s m args below meth c F.heap locs (cells + 1 + n) (slots + n + n * k) mc ms ls hC hH' hL (by omega) (by omega) F rfl X2
  refine ⟨t, st2 t ?_, b1⟩
  rw [show (T.heap).size = mZ M by rw [hT, hH.1.1]]
  exact a1
end Rows25
