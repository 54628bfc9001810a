/-- a field that the pool names by a class below its owner -/
def FlS (own : String) (idx ci i t : Nat) (ref : String) : Prop := ci < 23 ∧ i < (clT ci).2.2 ∧ fc (clY ci i) = t ∧ (Cond.fieldLink own idx ref ((clT ci).2.1 i).2.1 ((clT ci).2.1 i).2.2.1 ∈ lw_all) ∧ (Cond.sameField ref ((clT ci).2.1 i).1 ((clT ci).2.1 i).2.1 ((clT ci).2.1 i).2.2.1 ∈ lw_all)
section Rows22
variable {g : GC} {y : MethodName} {cc : ByteArray} {nL : Nat} {rt : Option FieldType} {hh : List (Nat × Nat × Nat × Nat)} {d kc ks : Nat} {M : MM} {pc : Nat} {lv : List (Option Value)} {st : List Value} {Q : Option Value → MM → Prop} {X : Nat → MM → Prop}
theorem r_getIs {ci i idx a : Nat} {ref : String} (hd : decode cc pc = .ok (.getfield idx, 3)) (hf : FlS y.cls idx ci i 0 ref) (hK : mK M a = 20 + ci) (k : Bd g y cc nL rt hh d kc ks M (pc + 3) lv (.int (mI M a i) :: st) Q X) : Bd g y cc nL rt hh d kc ks M pc lv (.ref a :: st) Q X := by
  intro p e s m args below meth c H locs cells slots mc ms ls hC hH hL h1 h2
  obtain ⟨hci, hi9, ht, hlink, hsame⟩ := hf
  obtain ⟨-, cell, q1, q2, q3, q4⟩ := (hH.1.2 a).2 ci hK
  obtain ⟨hS, hfc, kC, hkC, hkind⟩ := hC.2.2.2.2.2.2.2.2.1.1 ci hci
  obtain ⟨cf, kf, fi, f, hi, hsl⟩ := hS i hi9
  refine W.getf hC.1 hC.2.1 hC.2.2.2.2.2.2.1 (hC.2.2.2.2.2.2.2.1 _ hlink) (u_same (hC.2.2.2.2.2.2.2.1 _ hsame) _ hi) (u_facts hfc hkC (u_lays hC.2.2.2.2.2.2.2.1 (cl_in ci hci) hi9) hi).1 q1 q3.2.1 (v := fv M a i 0) ?_ rfl rfl hd (k p e s m args below meth c H locs cells slots mc ms ls hC hH hL h1 h2)
  rw [hsl, q4 i hi9]
  exact congrArg (fun t => some (fv M a i t)) ht
theorem r_putIs {ci i idx a : Nat} {ref : String} {ty : FieldType} {x : Int32} (hd : decode cc pc = .ok (.putfield idx, 3)) (hf : FlS y.cls idx ci i 0 ref) (hw : Fw ci i ty) (hn : narrow ty (.int x) = .int x) (hfit : fits ty (.int x) = true) (hK : mK M a = 20 + ci) (hb : gb g ≤ a) (k : Bd g y cc nL rt hh d kc ks (sI M a i x) (pc + 3) lv st Q X) : Bd g y cc nL rt hh d kc ks M pc lv (.int x :: .ref a :: st) Q X := by
  intro p e s m args below meth c H locs cells slots mc ms ls hC hH hL h1 h2
  obtain ⟨hci, hi9, ht, hlink, hsame⟩ := hf
  obtain ⟨-, cell, q1, q2, q3, q4⟩ := (hH.1.2 a).2 ci hK
  obtain ⟨hS, hfc, kC, hkC, hkind⟩ := hC.2.2.2.2.2.2.2.2.1.1 ci hci
  obtain ⟨cf, kf, fi, f, hi, hsl⟩ := hS i hi9
  have hlay := hC.2.2.2.2.2.2.2.1 _ (cl_in ci hci _ (u_in_lay hi9))
  unfold u_lay at hlay
  rw [if_neg (by rw [hw.1]; decide)] at hlay
  have hst := (u_facts hfc hkC (u_lays hC.2.2.2.2.2.2.2.1 (cl_in ci hci) hi9) hi).1
  have h6 := u_store hfc hkC hkind hlay hi ((cl_ty ci hci i hi9).trans (by rw [hw.2])) hn hfit
  have hap : ∀ x z, x < (clT ci).2.2 → z < (clT ci).2.2 → x ≠ z → (gI g ci) x ≠ (gI g ci) z := by
    intro x z hx hz hne
    obtain ⟨_, _, _, fa, hia, ea⟩ := hS x hx
    obtain ⟨_, _, _, fb, hib, eb⟩ := hS z hz
    rw [← ea, ← eb]
    refine u_apart (u_lays hC.2.2.2.2.2.2.2.1 (cl_in ci hci) hx) (u_lays hC.2.2.2.2.2.2.2.1 (cl_in ci hci) hz) hia hib ?_
    rw [(State.fieldFound?_type hia (cl_ty ci hci x hx)).1, (State.fieldFound?_type hib (cl_ty ci hci z hz)).1]
    exact cl_nm ci hci x hx z hz hne
  refine W.putK hC.1 hC.2.1 (f := f) ⟨hC.2.2.2.2.2.2.1, hC.2.2.2.2.2.2.2.1 _ hlink, ⟨_, _, _, u_same (hC.2.2.2.2.2.2.2.1 _ hsame) _ hi⟩, hst⟩ (by rw [q2]; exact h6) q1 (q3.2.2 (Or.inr hb)) (by rw [hsl]; exact k2_hasslot (q4 i hi9)) rfl rfl hd fun H' e1 e2 e3 => ?_
  refine k p e s m args below meth c H' _ cells slots mc ms ls hC (hH.upd hC.2.2.2.2.2.2.2.2.1 (hH.1.upd (a := a) rfl rfl rfl (fun b k t hb => fv_sIa hb) e2 e3 (fun h1 h9 => absurd h9 (by omega)) (fun cj hcj => ?_)) e2 e3 hb) hL h1 h2
  have hcj' : cj = ci := by omega
  subst hcj'
  rw [hsl] at e1
  refine ⟨_, e1, q2, q3.2.2 (Or.inr hb), fun j hj => ?_⟩
  rw [t_set q4 hap hi9 _ j hj]
  by_cases e : j = i
  · subst e; simp [updV, ht, fv, mI_sIs]
  · simp only [updV, if_neg e]
    congr 1
    generalize fc (clY cj j) = tt
    match tt with
    | 0 => simp [fv, mI_sI, e]
    | 1 => simp [fv, mL_sI]
    | _ + 2 => simp [fv, mR_sI]
end Rows22
