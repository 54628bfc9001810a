set_option maxRecDepth 100000
/-! THE CORE, 4: fields, arrays, new -/
theorem fv_sIa {M : MM} {a j b k t : Nat} {v : Int32} (h : b ≠ a) : fv (sI M a j v) b k t = fv M b k t := by
  match t with
  | 0 => simp [fv, mI_sI, h]
  | 1 => simp [fv, mL_sI]
  | _ + 2 => simp [fv, mR_sI]
theorem fv_sLa {M : MM} {a j b k t : Nat} {v : Int64} (h : b ≠ a) : fv (sL M a j v) b k t = fv M b k t := by
  match t with
  | 0 => simp [fv, mI_sL]
  | 1 => simp [fv, mL_sL, h]
  | _ + 2 => simp [fv, mR_sL]
theorem fv_sRa {M : MM} {a j b k t : Nat} {v : Option Nat} (h : b ≠ a) : fv (sR M a j v) b k t = fv M b k t := by
  match t with
  | 0 => simp [fv, mI_sR]
  | 1 => simp [fv, mL_sR]
  | _ + 2 => simp [fv, mR_sR, h]
theorem Hd.upd {g : GC} {M M' : MM} {H H' : Heap} {a : Nat} (h : Hd g M H) (hz : mZ M' = mZ M) (hk : mK M' = mK M) (hn : mN M' = mN M) (hf : ∀ b k t, b ≠ a → fv M' b k t = fv M b k t) (hs : H'.size = H.size) (ho : ∀ q, q ≠ a → H'[q]? = H[q]?)
    (ha1 : 1 ≤ mK M a → mK M a ≤ 9 → H'[a]? = some (arrV (gA g (mK M a)) (mN M a) (fun j => fv M' a j (fc (arrTy (mK M a))))))
    (ha2 : ∀ ci, mK M a = 20 + ci → t_OB a (gC g ci) (clT ci).2.2 (gI g ci) H' (fun k => fv M' a k (fc (clY ci k)))) : Hd g M' H' := by
  refine ⟨by rw [hz, hs]; exact h.1, fun b => ?_⟩
  rw [hk, hn]
  by_cases e : b = a
  · subst e
    exact ⟨fun h1 h9 => ⟨_, ha1 h1 h9, Aw.rf, fun _ => rfl⟩, fun ci hc => ⟨((h.2 b).2 ci hc).1, ObW.of (ha2 ci hc)⟩⟩
  · refine ⟨fun h1 h9 => ?_, fun ci hc => ?_⟩
    · rw [ho b e, show (fun j => fv M' b j (fc (arrTy (mK M b)))) = (fun j => fv M b j (fc (arrTy (mK M b)))) from funext fun j => hf b j _ e]
      exact (h.2 b).1 h1 h9
    · obtain ⟨hci, cell, q1, q2, q3, q4⟩ := (h.2 b).2 ci hc
      exact ⟨hci, cell, by rw [ho b e]; exact q1, q2, q3, fun k hk => (q4 k hk).trans (congrArg some (hf b k _ e).symm)⟩
theorem Hx.upd {g : GC} {M M' : MM} {s : State} {H H' : Heap} {locs : List Loc} {a k : Nat} (hG : GS g s) (h : Hx g M s H locs) (hd : Hd g M' H') (hs : H'.size = H.size) (ho : ∀ q, q ≠ a → H'[q]? = H[q]?) (hb : gb g ≤ a) : Hx g M' s H' (locs ++ [⟨a, k⟩]) := by
  have hlow : ∀ q, q < gb g → H'[q]? = H[q]? := fun q hq => ho q (by omega)
  refine ⟨hd, by rw [hs]; exact h.2.1, fun q hq => (hlow q hq).trans (h.2.2.1 q hq), fun q hq => ?_, h.2.2.2.2.1, hG.2.2 s s H H' (State.WarmedH.refl s) hlow h.2.2.2.2.2⟩
  rcases List.mem_append.mp hq with h1 | h1
  · exact h.2.2.2.1 q h1
  · rw [List.mem_singleton.mp h1]; exact hb
theorem Hd.arw {g : GC} {M : MM} {H : Heap} {a t : Nat} (h : Hd g M H) (hk : mK M a = t) (h1 : 1 ≤ t) (h9 : t ≤ 9) : ∃ cell : Cell, H[a]? = some cell ∧ Aw cell (arrV (gA g t) (mN M a) (fun j => fv M a j (fc (arrTy t)))) := by
  obtain ⟨cell, q1, q2, -⟩ := (h.2 a).1 (by omega) (by omega)
  rw [hk] at q2
  exact ⟨cell, q1, q2⟩
theorem Hd.arr {g : GC} {M : MM} {H : Heap} {a t : Nat} (h : Hd g M H) (hk : mK M a = t) (h1 : 1 ≤ t) (h9 : t ≤ 9) (hb : gb g ≤ a) : H[a]? = some (arrV (gA g t) (mN M a) (fun j => fv M a j (fc (arrTy t)))) := by
  obtain ⟨cell, q1, -, q3⟩ := (h.2 a).1 (by omega) (by omega)
  rw [q1, q3 hb, hk]
theorem Aw.is {s : State} {cell : Cell} {cA : ClassId} {n : Nat} {z : Nat → Value} {ty : FieldType} (h : Aw cell (arrV cA n z)) (hA : ArrOfT s cA ty) : s.isArrayOf cell ty := by
  obtain ⟨p1, kA, p2, p3⟩ := hA n z
  exact ⟨(fun k q => by have := h.2.2.1; rw [q] at this; cases this), kA, (by rw [h.1]; exact p2), p3⟩
theorem Aw.nu {cell : Cell} {cA : ClassId} {n : Nat} {z : Nat → Value} (h : Aw cell (arrV cA n z)) : cell.vm ≠ .unknown := h.2.2.2
theorem nI_cl {j : Nat} (h : j < 2147483648) : (nI j).toNatClampNeg = j := nI_clamp h
theorem nI_in' {j n : Nat} (h : j < n) (h2 : j < 2147483648) : ¬ (nI j < 0 ∨ n ≤ (nI j).toNatClampNeg) := by
  rw [nI_cl h2]
  intro q
  rcases q with q | q
  · exact nI_pos h2 q
  · omega
theorem arr_sI {M : MM} {a j : Nat} {x : Int32} {t : Nat} (ht : t = 0) : updV (fun i => fv M a i t) j (.int x) = fun i => fv (sI M a j x) a i t := by
  subst ht
  funext i
  by_cases h : i = j
  · subst h; simp [updV, fv, mI_sIs]
  · simp [updV, fv, h, mI_sI]
theorem arr_sL {M : MM} {a j : Nat} {x : Int64} {t : Nat} (ht : t = 1) : updV (fun i => fv M a i t) j (.long x) = fun i => fv (sL M a j x) a i t := by
  subst ht
  funext i
  by_cases h : i = j
  · subst h; simp [updV, fv, mL_sLs]
  · simp [updV, fv, h, mL_sL]
theorem arr_sR {M : MM} {a j : Nat} {x : Option Nat} {t : Nat} (ht : t = 2) : updV (fun i => fv M a i t) j (va_rf x) = fun i => fv (sR M a j x) a i t := by
  subst ht
  funext i
  by_cases h : i = j
  · subst h; simp [updV, fv, mR_sRs]
  · simp [updV, fv, h, mR_sR]
/-- the field of class ci at its place i, of type code t, as the pool of 'own' names it -/
def Fl (own : String) (idx ci i t : Nat) : Prop := ci < 23 ∧ i < (clT ci).2.2 ∧ fc (clY ci i) = t ∧ (Cond.fieldLink own idx ((clT ci).2.1 i).1 ((clT ci).2.1 i).2.1 ((clT ci).2.1 i).2.2.1 ∈ lw_all)
/-- it may be written: not final -/
def Fw (ci i : Nat) (ty : FieldType) : Prop := ((clT ci).2.1 i).2.2.2 = false ∧ clY ci i = ty
/-- it is final, and declared in 'own' -/
def Ff (own : String) (ci i : Nat) (ty : FieldType) : Prop := ((clT ci).2.1 i).2.2.2 = true ∧ clY ci i = ty ∧ ((clT ci).2.1 i).1 = own
/-- a word that holds all through the run, among what stays -/
def NW (g : GC) (w : Cond) : Prop := ∀ s H, gE g s H → va_Nw w s
/-- the same for a nest mate -/
def FlN (g : GC) (own : String) (idx ci i t : Nat) : Prop := ci < 23 ∧ i < (clT ci).2.2 ∧ fc (clY ci i) = t ∧ ∃ host, NW g (Cond.fieldLinkNest own idx ((clT ci).2.1 i).1 ((clT ci).2.1 i).2.1 ((clT ci).2.1 i).2.2.1 host)
section Rows4
variable {g : GC} {y : MethodName} {cc : ByteArray} {nL : Nat} {rt : Option FieldType} {hh : List (Nat × Nat × Nat × Nat)} {d kc ks : Nat} {M : MM} {pc : Nat} {lv : List (Option Value)} {st : List Value} {Q : Option Value → MM → Prop} {X : Nat → MM → Prop}
theorem r_get {ci i t idx a : Nat} (hd : decode cc pc = .ok (.getfield idx, 3)) (hf : Fl y.cls idx ci i t) (hK : mK M a = 20 + ci) (k : Bd g y cc nL rt hh d kc ks M (pc + 3) lv (fv M a i t :: st) Q X) : Bd g y cc nL rt hh d kc ks M pc lv (.ref a :: st) Q X := by
  intro p e s m args below meth c H locs cells slots mc ms ls hC hH hL h1 h2
  obtain ⟨hci, hi9, ht, hlink⟩ := hf
  obtain ⟨-, cell, q1, q2, q3, q4⟩ := (hH.1.2 a).2 ci hK
  obtain ⟨hS, hfc, kC, hkC, hkind⟩ := hC.2.2.2.2.2.2.2.2.1.1 ci hci
  obtain ⟨cf, kf, fi, f, hi, hsl⟩ := hS i hi9
  refine W.getf hC.1 hC.2.1 hC.2.2.2.2.2.2.1 (hC.2.2.2.2.2.2.2.1 _ hlink) hi (u_facts hfc hkC (u_lays hC.2.2.2.2.2.2.2.1 (cl_in ci hci) hi9) hi).1 q1 q3.2.1 (v := fv M a i t) ?_ rfl rfl hd (k p e s m args below meth c H locs cells slots mc ms ls hC hH hL h1 h2)
  rw [hsl, q4 i hi9, ← ht]
theorem r_getI {ci i idx a : Nat} (hd : decode cc pc = .ok (.getfield idx, 3)) (hf : Fl y.cls idx ci i 0) (hK : mK M a = 20 + ci) (k : Bd g y cc nL rt hh d kc ks M (pc + 3) lv (.int (mI M a i) :: st) Q X) : Bd g y cc nL rt hh d kc ks M pc lv (.ref a :: st) Q X := r_get hd hf hK k
theorem r_getL {ci i idx a : Nat} (hd : decode cc pc = .ok (.getfield idx, 3)) (hf : Fl y.cls idx ci i 1) (hK : mK M a = 20 + ci) (k : Bd g y cc nL rt hh d kc ks M (pc + 3) lv (.long (mL M a i) :: st) Q X) : Bd g y cc nL rt hh d kc ks M pc lv (.ref a :: st) Q X := r_get hd hf hK k
theorem r_getQ {ci i idx a : Nat} (hd : decode cc pc = .ok (.getfield idx, 3)) (hf : Fl y.cls idx ci i 2) (hK : mK M a = 20 + ci) (k : Bd g y cc nL rt hh d kc ks M (pc + 3) lv (va_rf (mR M a i) :: st) Q X) : Bd g y cc nL rt hh d kc ks M pc lv (.ref a :: st) Q X := r_get hd hf hK k
theorem r_getR {ci i idx a b : Nat} (hd : decode cc pc = .ok (.getfield idx, 3)) (hf : Fl y.cls idx ci i 2) (hK : mK M a = 20 + ci) (hv : mR M a i = some b) (k : Bd g y cc nL rt hh d kc ks M (pc + 3) lv (.ref b :: st) Q X) : Bd g y cc nL rt hh d kc ks M pc lv (.ref a :: st) Q X := r_getQ hd hf hK (Bd.eqs (by rw [hv]; rfl) k)
theorem r_getI' {ci i idx a : Nat} {v : Int32} (hd : decode cc pc = .ok (.getfield idx, 3)) (hf : Fl y.cls idx ci i 0) (hK : mK M a = 20 + ci) (hv : mI M a i = v) (k : Bd g y cc nL rt hh d kc ks M (pc + 3) lv (.int v :: st) Q X) : Bd g y cc nL rt hh d kc ks M pc lv (.ref a :: st) Q X := r_getI hd hf hK (Bd.eqs (by rw [hv]) k)
theorem r_putI {ci i idx a : Nat} {ty : FieldType} {x : Int32} (hd : decode cc pc = .ok (.putfield idx, 3)) (hf : Fl y.cls idx ci i 0) (hw : Fw ci i ty) (hn : narrow ty (.int x) = .int x) (hfit : fits ty (.int x) = true) (hK : mK M a = 20 + ci) (hb : gb g ≤ a) (k : Bd g y cc nL rt hh d kc ks (sI M a i x) (pc + 3) lv st Q X) : Bd g y cc nL rt hh d kc ks M pc lv (.int x :: .ref a :: st) Q X := by
  intro p e s m args below meth c H locs cells slots mc ms ls hC hH hL h1 h2
  obtain ⟨hci, hi9, ht, hlink⟩ := hf
  obtain ⟨-, cell, q1, q2, q3, q4⟩ := (hH.1.2 a).2 ci hK
  obtain ⟨hS, hfc, kC, hkC, hkind⟩ := hC.2.2.2.2.2.2.2.2.1.1 ci hci
  obtain ⟨cf, kf, fi, f, hi, hsl⟩ := hS i hi9
  have hlay := hC.2.2.2.2.2.2.2.1 _ (cl_in ci hci _ (u_in_lay hi9))
  unfold u_lay at hlay
  rw [if_neg (by rw [hw.1]; decide)] at hlay
  have hst := (u_facts hfc hkC (u_lays hC.2.2.2.2.2.2.2.1 (cl_in ci hci) hi9) hi).1
  have h6 := u_store hfc hkC hkind hlay hi ((cl_ty ci hci i hi9).trans (by rw [hw.2])) hn hfit
  have hap : ∀ x z, x < (clT ci).2.2 → z < (clT ci).2.2 → x ≠ z → (gI g ci) x ≠ (gI g ci) z := by
    intro x z hx hz hne
    obtain ⟨_, _, _, fa, hia, ea⟩ := hS x hx
    obtain ⟨_, _, _, fb, hib, eb⟩ := hS z hz
    rw [← ea, ← eb]
    refine u_apart (u_lays hC.2.2.2.2.2.2.2.1 (cl_in ci hci) hx) (u_lays hC.2.2.2.2.2.2.2.1 (cl_in ci hci) hz) hia hib ?_
    rw [(State.fieldFound?_type hia (cl_ty ci hci x hx)).1, (State.fieldFound?_type hib (cl_ty ci hci z hz)).1]
    exact cl_nm ci hci x hx z hz hne
  refine W.putK hC.1 hC.2.1 (f := f) ⟨hC.2.2.2.2.2.2.1, hC.2.2.2.2.2.2.2.1 _ hlink, ⟨_, _, _, hi⟩, hst⟩ (by rw [q2]; exact h6) q1 (q3.2.2 (Or.inr hb)) (by rw [hsl]; exact k2_hasslot (q4 i hi9)) rfl rfl hd fun H' e1 e2 e3 => ?_
  refine k p e s m args below meth c H' _ cells slots mc ms ls hC (hH.upd hC.2.2.2.2.2.2.2.2.1 (hH.1.upd (a := a) rfl rfl rfl (fun b k t hb => fv_sIa hb) e2 e3 (fun h1 h9 => absurd h9 (by omega)) (fun cj hcj => ?_)) e2 e3 hb) hL h1 h2
  have hcj' : cj = ci := by omega
  subst hcj'
  rw [hsl] at e1
  refine ⟨_, e1, q2, q3.2.2 (Or.inr hb), fun j hj => ?_⟩
  rw [t_set q4 hap hi9 _ j hj]
  by_cases e : j = i
  · subst e; simp [updV, ht, fv, mI_sIs]
  · simp only [updV, if_neg e]
    congr 1
    generalize fc (clY cj j) = tt
    match tt with
    | 0 => simp [fv, mI_sI, e]
    | 1 => simp [fv, mL_sI]
    | _ + 2 => simp [fv, mR_sI]
theorem r_putFI {ci i idx a : Nat} {ty : FieldType} {x : Int32} (hd : decode cc pc = .ok (.putfield idx, 3)) (hf : Fl y.cls idx ci i 0) (hw : Ff y.cls ci i ty) (hini : y.name = "<init>") (hn : narrow ty (.int x) = .int x) (hfit : fits ty (.int x) = true) (hK : mK M a = 20 + ci) (hb : gb g ≤ a) (k : Bd g y cc nL rt hh d kc ks (sI M a i x) (pc + 3) lv st Q X) : Bd g y cc nL rt hh d kc ks M pc lv (.int x :: .ref a :: st) Q X := by
  intro p e s m args below meth c H locs cells slots mc ms ls hC hH hL h1 h2
  obtain ⟨hci, hi9, ht, hlink⟩ := hf
  obtain ⟨-, cell, q1, q2, q3, q4⟩ := (hH.1.2 a).2 ci hK
  obtain ⟨hS, hfc, kC, hkC, hkind⟩ := hC.2.2.2.2.2.2.2.2.1.1 ci hci
  obtain ⟨cf, kf, fi, f, hi, hsl⟩ := hS i hi9
  have hlay := hC.2.2.2.2.2.2.2.1 _ (cl_in ci hci _ (u_in_lay hi9))
  unfold u_lay at hlay
  rw [if_pos hw.1] at hlay
  have hst := (u_facts hfc hkC (u_lays hC.2.2.2.2.2.2.2.1 (cl_in ci hci) hi9) hi).1
  have hcf : m.cls = cf := by
    obtain ⟨_, _, c', _, _, _, -, -, hf', -, -, -, hown2, -⟩ := Cond.laysFinal_spec hlay
    have e1 : c' = cf := by have := hi.symm.trans hf'; simp at this; exact this.1.symm
    rw [hw.2.2] at hown2
    rw [← e1]; exact Option.some.inj (hC.2.2.2.2.2.2.1.symm.trans hown2)
  have h6 := u_fits hfc hkC hkind (Or.inr hlay) hi ((cl_ty ci hci i hi9).trans (by rw [hw.2.1])) hn hfit
  have hap : ∀ x z, x < (clT ci).2.2 → z < (clT ci).2.2 → x ≠ z → (gI g ci) x ≠ (gI g ci) z := by
    intro x z hx hz hne
    obtain ⟨_, _, _, fa, hia, ea⟩ := hS x hx
    obtain ⟨_, _, _, fb, hib, eb⟩ := hS z hz
    rw [← ea, ← eb]
    refine u_apart (u_lays hC.2.2.2.2.2.2.2.1 (cl_in ci hci) hx) (u_lays hC.2.2.2.2.2.2.2.1 (cl_in ci hci) hz) hia hib ?_
    rw [(State.fieldFound?_type hia (cl_ty ci hci x hx)).1, (State.fieldFound?_type hib (cl_ty ci hci z hz)).1]
    exact cl_nm ci hci x hx z hz hne
  refine W.putFinK hC.1 hC.2.1 hC.2.2.2.2.2.2.1 (hC.2.2.2.2.2.2.2.1 _ hlink) hi hst hcf (hC.2.2.2.2.2.1.trans hini) (by rw [q2]; exact h6) q1 (q3.2.2 (Or.inr hb)) (by rw [hsl]; exact k2_hasslot (q4 i hi9)) rfl rfl hd fun H' e1 e2 e3 => ?_
  refine k p e s m args below meth c H' _ cells slots mc ms ls hC (hH.upd hC.2.2.2.2.2.2.2.2.1 (hH.1.upd (a := a) rfl rfl rfl (fun b k t hb => fv_sIa hb) e2 e3 (fun h1 h9 => absurd h9 (by omega)) (fun cj hcj => ?_)) e2 e3 hb) hL h1 h2
  have hcj' : cj = ci := by omega
  subst hcj'
  rw [hsl] at e1
  refine ⟨_, e1, q2, q3.2.2 (Or.inr hb), fun j hj => ?_⟩
  rw [t_set q4 hap hi9 _ j hj]
  by_cases e : j = i
  · subst e; simp [updV, ht, fv, mI_sIs]
  · simp only [updV, if_neg e]
    congr 1
    generalize fc (clY cj j) = tt
    match tt with
    | 0 => simp [fv, mI_sI, e]
    | 1 => simp [fv, mL_sI]
    | _ + 2 => simp [fv, mR_sI]
theorem r_putL {ci i idx a : Nat} {ty : FieldType} {x : Int64} (hd : decode cc pc = .ok (.putfield idx, 3)) (hf : Fl y.cls idx ci i 1) (hw : Fw ci i ty) (hn : narrow ty (.long x) = .long x) (hfit : fits ty (.long x) = true) (hK : mK M a = 20 + ci) (hb : gb g ≤ a) (k : Bd g y cc nL rt hh d kc ks (sL M a i x) (pc + 3) lv st Q X) : Bd g y cc nL rt hh d kc ks M pc lv (.long x :: .ref a :: st) Q X := by
  intro p e s m args below meth c H locs cells slots mc ms ls hC hH hL h1 h2
  obtain ⟨hci, hi9, ht, hlink⟩ := hf
  obtain ⟨-, cell, q1, q2, q3, q4⟩ := (hH.1.2 a).2 ci hK
  obtain ⟨hS, hfc, kC, hkC, hkind⟩ := hC.2.2.2.2.2.2.2.2.1.1 ci hci
  obtain ⟨cf, kf, fi, f, hi, hsl⟩ := hS i hi9
  have hlay := hC.2.2.2.2.2.2.2.1 _ (cl_in ci hci _ (u_in_lay hi9))
  unfold u_lay at hlay
  rw [if_neg (by rw [hw.1]; decide)] at hlay
  have hst := (u_facts hfc hkC (u_lays hC.2.2.2.2.2.2.2.1 (cl_in ci hci) hi9) hi).1
  have h6 := u_store hfc hkC hkind hlay hi ((cl_ty ci hci i hi9).trans (by rw [hw.2])) hn hfit
  have hap : ∀ x z, x < (clT ci).2.2 → z < (clT ci).2.2 → x ≠ z → (gI g ci) x ≠ (gI g ci) z := by
    intro x z hx hz hne
    obtain ⟨_, _, _, fa, hia, ea⟩ := hS x hx
    obtain ⟨_, _, _, fb, hib, eb⟩ := hS z hz
    rw [← ea, ← eb]
    refine u_apart (u_lays hC.2.2.2.2.2.2.2.1 (cl_in ci hci) hx) (u_lays hC.2.2.2.2.2.2.2.1 (cl_in ci hci) hz) hia hib ?_
    rw [(State.fieldFound?_type hia (cl_ty ci hci x hx)).1, (State.fieldFound?_type hib (cl_ty ci hci z hz)).1]
    exact cl_nm ci hci x hx z hz hne
  refine W.putK hC.1 hC.2.1 (f := f) ⟨hC.2.2.2.2.2.2.1, hC.2.2.2.2.2.2.2.1 _ hlink, ⟨_, _, _, hi⟩, hst⟩ (by rw [q2]; exact h6) q1 (q3.2.2 (Or.inr hb)) (by rw [hsl]; exact k2_hasslot (q4 i hi9)) rfl rfl hd fun H' e1 e2 e3 => ?_
  refine k p e s m args below meth c H' _ cells slots mc ms ls hC (hH.upd hC.2.2.2.2.2.2.2.2.1 (hH.1.upd (a := a) rfl rfl rfl (fun b k t hb => fv_sLa hb) e2 e3 (fun h1 h9 => absurd h9 (by omega)) (fun cj hcj => ?_)) e2 e3 hb) hL h1 h2
  have hcj' : cj = ci := by omega
  subst hcj'
  rw [hsl] at e1
  refine ⟨_, e1, q2, q3.2.2 (Or.inr hb), fun j hj => ?_⟩
  rw [t_set q4 hap hi9 _ j hj]
  by_cases e : j = i
  · subst e; simp [updV, ht, fv, mL_sLs]
  · simp only [updV, if_neg e]
    congr 1
    generalize fc (clY cj j) = tt
    match tt with
    | 0 => simp [fv, mI_sL]
    | 1 => simp [fv, mL_sL, e]
    | _ + 2 => simp [fv, mR_sL]
theorem r_putFL {ci i idx a : Nat} {ty : FieldType} {x : Int64} (hd : decode cc pc = .ok (.putfield idx, 3)) (hf : Fl y.cls idx ci i 1) (hw : Ff y.cls ci i ty) (hini : y.name = "<init>") (hn : narrow ty (.long x) = .long x) (hfit : fits ty (.long x) = true) (hK : mK M a = 20 + ci) (hb : gb g ≤ a) (k : Bd g y cc nL rt hh d kc ks (sL M a i x) (pc + 3) lv st Q X) : Bd g y cc nL rt hh d kc ks M pc lv (.long x :: .ref a :: st) Q X := by
  intro p e s m args below meth c H locs cells slots mc ms ls hC hH hL h1 h2
  obtain ⟨hci, hi9, ht, hlink⟩ := hf
  obtain ⟨-, cell, q1, q2, q3, q4⟩ := (hH.1.2 a).2 ci hK
  obtain ⟨hS, hfc, kC, hkC, hkind⟩ := hC.2.2.2.2.2.2.2.2.1.1 ci hci
  obtain ⟨cf, kf, fi, f, hi, hsl⟩ := hS i hi9
  have hlay := hC.2.2.2.2.2.2.2.1 _ (cl_in ci hci _ (u_in_lay hi9))
  unfold u_lay at hlay
  rw [if_pos hw.1] at hlay
  have hst := (u_facts hfc hkC (u_lays hC.2.2.2.2.2.2.2.1 (cl_in ci hci) hi9) hi).1
  have hcf : m.cls = cf := by
    obtain ⟨_, _, c', _, _, _, -, -, hf', -, -, -, hown2, -⟩ := Cond.laysFinal_spec hlay
    have e1 : c' = cf := by have := hi.symm.trans hf'; simp at this; exact this.1.symm
    rw [hw.2.2] at hown2
    rw [← e1]; exact Option.some.inj (hC.2.2.2.2.2.2.1.symm.trans hown2)
  have h6 := u_fits hfc hkC hkind (Or.inr hlay) hi ((cl_ty ci hci i hi9).trans (by rw [hw.2.1])) hn hfit
  have hap : ∀ x z, x < (clT ci).2.2 → z < (clT ci).2.2 → x ≠ z → (gI g ci) x ≠ (gI g ci) z := by
    intro x z hx hz hne
    obtain ⟨_, _, _, fa, hia, ea⟩ := hS x hx
    obtain ⟨_, _, _, fb, hib, eb⟩ := hS z hz
    rw [← ea, ← eb]
    refine u_apart (u_lays hC.2.2.2.2.2.2.2.1 (cl_in ci hci) hx) (u_lays hC.2.2.2.2.2.2.2.1 (cl_in ci hci) hz) hia hib ?_
    rw [(State.fieldFound?_type hia (cl_ty ci hci x hx)).1, (State.fieldFound?_type hib (cl_ty ci hci z hz)).1]
    exact cl_nm ci hci x hx z hz hne
  refine W.putFinK hC.1 hC.2.1 hC.2.2.2.2.2.2.1 (hC.2.2.2.2.2.2.2.1 _ hlink) hi hst hcf (hC.2.2.2.2.2.1.trans hini) (by rw [q2]; exact h6) q1 (q3.2.2 (Or.inr hb)) (by rw [hsl]; exact k2_hasslot (q4 i hi9)) rfl rfl hd fun H' e1 e2 e3 => ?_
  refine k p e s m args below meth c H' _ cells slots mc ms ls hC (hH.upd hC.2.2.2.2.2.2.2.2.1 (hH.1.upd (a := a) rfl rfl rfl (fun b k t hb => fv_sLa hb) e2 e3 (fun h1 h9 => absurd h9 (by omega)) (fun cj hcj => ?_)) e2 e3 hb) hL h1 h2
  have hcj' : cj = ci := by omega
  subst hcj'
  rw [hsl] at e1
  refine ⟨_, e1, q2, q3.2.2 (Or.inr hb), fun j hj => ?_⟩
  rw [t_set q4 hap hi9 _ j hj]
  by_cases e : j = i
  · subst e; simp [updV, ht, fv, mL_sLs]
  · simp only [updV, if_neg e]
    congr 1
    generalize fc (clY cj j) = tt
    match tt with
    | 0 => simp [fv, mI_sL]
    | 1 => simp [fv, mL_sL, e]
    | _ + 2 => simp [fv, mR_sL]
theorem r_putQ {ci i idx a : Nat} {ty : FieldType} {x : Option Nat} (hd : decode cc pc = .ok (.putfield idx, 3)) (hf : Fl y.cls idx ci i 2) (hw : Fw ci i ty) (hn : narrow ty (va_rf x) = va_rf x) (hfit : fits ty (va_rf x) = true) (hK : mK M a = 20 + ci) (hb : gb g ≤ a) (k : Bd g y cc nL rt hh d kc ks (sR M a i x) (pc + 3) lv st Q X) : Bd g y cc nL rt hh d kc ks M pc lv (va_rf x :: .ref a :: st) Q X := by
  intro p e s m args below meth c H locs cells slots mc ms ls hC hH hL h1 h2
  obtain ⟨hci, hi9, ht, hlink⟩ := hf
  obtain ⟨-, cell, q1, q2, q3, q4⟩ := (hH.1.2 a).2 ci hK
  obtain ⟨hS, hfc, kC, hkC, hkind⟩ := hC.2.2.2.2.2.2.2.2.1.1 ci hci
  obtain ⟨cf, kf, fi, f, hi, hsl⟩ := hS i hi9
  have hlay := hC.2.2.2.2.2.2.2.1 _ (cl_in ci hci _ (u_in_lay hi9))
  unfold u_lay at hlay
  rw [if_neg (by rw [hw.1]; decide)] at hlay
  have hst := (u_facts hfc hkC (u_lays hC.2.2.2.2.2.2.2.1 (cl_in ci hci) hi9) hi).1
  have h6 := u_store hfc hkC hkind hlay hi ((cl_ty ci hci i hi9).trans (by rw [hw.2])) hn hfit
  have hap : ∀ x z, x < (clT ci).2.2 → z < (clT ci).2.2 → x ≠ z → (gI g ci) x ≠ (gI g ci) z := by
    intro x z hx hz hne
    obtain ⟨_, _, _, fa, hia, ea⟩ := hS x hx
    obtain ⟨_, _, _, fb, hib, eb⟩ := hS z hz
    rw [← ea, ← eb]
    refine u_apart (u_lays hC.2.2.2.2.2.2.2.1 (cl_in ci hci) hx) (u_lays hC.2.2.2.2.2.2.2.1 (cl_in ci hci) hz) hia hib ?_
    rw [(State.fieldFound?_type hia (cl_ty ci hci x hx)).1, (State.fieldFound?_type hib (cl_ty ci hci z hz)).1]
    exact cl_nm ci hci x hx z hz hne
  refine W.putK hC.1 hC.2.1 (f := f) ⟨hC.2.2.2.2.2.2.1, hC.2.2.2.2.2.2.2.1 _ hlink, ⟨_, _, _, hi⟩, hst⟩ (by rw [q2]; exact h6) q1 (q3.2.2 (Or.inr hb)) (by rw [hsl]; exact k2_hasslot (q4 i hi9)) rfl rfl hd fun H' e1 e2 e3 => ?_
  refine k p e s m args below meth c H' _ cells slots mc ms ls hC (hH.upd hC.2.2.2.2.2.2.2.2.1 (hH.1.upd (a := a) rfl rfl rfl (fun b k t hb => fv_sRa hb) e2 e3 (fun h1 h9 => absurd h9 (by omega)) (fun cj hcj => ?_)) e2 e3 hb) hL h1 h2
  have hcj' : cj = ci := by omega
  subst hcj'
  rw [hsl] at e1
  refine ⟨_, e1, q2, q3.2.2 (Or.inr hb), fun j hj => ?_⟩
  rw [t_set q4 hap hi9 _ j hj]
  by_cases e : j = i
  · subst e; simp [updV, ht, fv, mR_sRs]
  · simp only [updV, if_neg e]
    congr 1
    generalize fc (clY cj j) = tt
    match tt with
    | 0 => simp [fv, mI_sR]
    | 1 => simp [fv, mL_sR]
    | _ + 2 => simp [fv, mR_sR, e]
theorem r_putFQ {ci i idx a : Nat} {ty : FieldType} {x : Option Nat} (hd : decode cc pc = .ok (.putfield idx, 3)) (hf : Fl y.cls idx ci i 2) (hw : Ff y.cls ci i ty) (hini : y.name = "<init>") (hn : narrow ty (va_rf x) = va_rf x) (hfit : fits ty (va_rf x) = true) (hK : mK M a = 20 + ci) (hb : gb g ≤ a) (k : Bd g y cc nL rt hh d kc ks (sR M a i x) (pc + 3) lv st Q X) : Bd g y cc nL rt hh d kc ks M pc lv (va_rf x :: .ref a :: st) Q X := by
  intro p e s m args below meth c H locs cells slots mc ms ls hC hH hL h1 h2
  obtain ⟨hci, hi9, ht, hlink⟩ := hf
  obtain ⟨-, cell, q1, q2, q3, q4⟩ := (hH.1.2 a).2 ci hK
  obtain ⟨hS, hfc, kC, hkC, hkind⟩ := hC.2.2.2.2.2.2.2.2.1.1 ci hci
  obtain ⟨cf, kf, fi, f, hi, hsl⟩ := hS i hi9
  have hlay := hC.2.2.2.2.2.2.2.1 _ (cl_in ci hci _ (u_in_lay hi9))
  unfold u_lay at hlay
  rw [if_pos hw.1] at hlay
  have hst := (u_facts hfc hkC (u_lays hC.2.2.2.2.2.2.2.1 (cl_in ci hci) hi9) hi).1
  have hcf : m.cls = cf := by
    obtain ⟨_, _, c', _, _, _, -, -, hf', -, -, -, hown2, -⟩ := Cond.laysFinal_spec hlay
    have e1 : c' = cf := by have := hi.symm.trans hf'; simp at this; exact this.1.symm
    rw [hw.2.2] at hown2
    rw [← e1]; exact Option.some.inj (hC.2.2.2.2.2.2.1.symm.trans hown2)
  have h6 := u_fits hfc hkC hkind (Or.inr hlay) hi ((cl_ty ci hci i hi9).trans (by rw [hw.2.1])) hn hfit
  have hap : ∀ x z, x < (clT ci).2.2 → z < (clT ci).2.2 → x ≠ z → (gI g ci) x ≠ (gI g ci) z := by
    intro x z hx hz hne
    obtain ⟨_, _, _, fa, hia, ea⟩ := hS x hx
    obtain ⟨_, _, _, fb, hib, eb⟩ := hS z hz
    rw [← ea, ← eb]
    refine u_apart (u_lays hC.2.2.2.2.2.2.2.1 (cl_in ci hci) hx) (u_lays hC.2.2.2.2.2.2.2.1 (cl_in ci hci) hz) hia hib ?_
    rw [(State.fieldFound?_type hia (cl_ty ci hci x hx)).1, (State.fieldFound?_type hib (cl_ty ci hci z hz)).1]
    exact cl_nm ci hci x hx z hz hne
  refine W.putFinK hC.1 hC.2.1 hC.2.2.2.2.2.2.1 (hC.2.2.2.2.2.2.2.1 _ hlink) hi hst hcf (hC.2.2.2.2.2.1.trans hini) (by rw [q2]; exact h6) q1 (q3.2.2 (Or.inr hb)) (by rw [hsl]; exact k2_hasslot (q4 i hi9)) rfl rfl hd fun H' e1 e2 e3 => ?_
  refine k p e s m args below meth c H' _ cells slots mc ms ls hC (hH.upd hC.2.2.2.2.2.2.2.2.1 (hH.1.upd (a := a) rfl rfl rfl (fun b k t hb => fv_sRa hb) e2 e3 (fun h1 h9 => absurd h9 (by omega)) (fun cj hcj => ?_)) e2 e3 hb) hL h1 h2
  have hcj' : cj = ci := by omega
  subst hcj'
  rw [hsl] at e1
  refine ⟨_, e1, q2, q3.2.2 (Or.inr hb), fun j hj => ?_⟩
  rw [t_set q4 hap hi9 _ j hj]
  by_cases e : j = i
  · subst e; simp [updV, ht, fv, mR_sRs]
  · simp only [updV, if_neg e]
    congr 1
    generalize fc (clY cj j) = tt
    match tt with
    | 0 => simp [fv, mI_sR]
    | 1 => simp [fv, mL_sR]
    | _ + 2 => simp [fv, mR_sR, e]
theorem r_getN {ci i t idx a : Nat} (hd : decode cc pc = .ok (.getfield idx, 3)) (hf : FlN g y.cls idx ci i t) (hK : mK M a = 20 + ci) (k : Bd g y cc nL rt hh d kc ks M (pc + 3) lv (fv M a i t :: st) Q X) : Bd g y cc nL rt hh d kc ks M pc lv (.ref a :: st) Q X := by
  intro p e s m args below meth c H locs cells slots mc ms ls hC hH hL h1 h2
  obtain ⟨hci, hi9, ht, host, hlink⟩ := hf
  obtain ⟨-, cell, q1, q2, q3, q4⟩ := (hH.1.2 a).2 ci hK
  obtain ⟨hS, hfc, kC, hkC, hkind⟩ := hC.2.2.2.2.2.2.2.2.1.1 ci hci
  obtain ⟨cf, kf, fi, f, hi, hsl⟩ := hS i hi9
  refine va_Wgetf hC.1 hC.2.1 hC.2.2.2.2.2.2.1 (va_Nw.use rfl (hlink _ _ hH.2.2.2.2.2)) hi (u_facts hfc hkC (u_lays hC.2.2.2.2.2.2.2.1 (cl_in ci hci) hi9) hi).1 q1 q3.2.1 (v := fv M a i t) ?_ rfl rfl hd (k p e s m args below meth c H locs cells slots mc ms ls hC hH hL h1 h2)
  rw [hsl, q4 i hi9, ← ht]
theorem r_getIN {ci i idx a : Nat} (hd : decode cc pc = .ok (.getfield idx, 3)) (hf : FlN g y.cls idx ci i 0) (hK : mK M a = 20 + ci) (k : Bd g y cc nL rt hh d kc ks M (pc + 3) lv (.int (mI M a i) :: st) Q X) : Bd g y cc nL rt hh d kc ks M pc lv (.ref a :: st) Q X := r_getN hd hf hK k
theorem r_getLN {ci i idx a : Nat} (hd : decode cc pc = .ok (.getfield idx, 3)) (hf : FlN g y.cls idx ci i 1) (hK : mK M a = 20 + ci) (k : Bd g y cc nL rt hh d kc ks M (pc + 3) lv (.long (mL M a i) :: st) Q X) : Bd g y cc nL rt hh d kc ks M pc lv (.ref a :: st) Q X := r_getN hd hf hK k
theorem r_getQN {ci i idx a : Nat} (hd : decode cc pc = .ok (.getfield idx, 3)) (hf : FlN g y.cls idx ci i 2) (hK : mK M a = 20 + ci) (k : Bd g y cc nL rt hh d kc ks M (pc + 3) lv (va_rf (mR M a i) :: st) Q X) : Bd g y cc nL rt hh d kc ks M pc lv (.ref a :: st) Q X := r_getN hd hf hK k
theorem r_getRN {ci i idx a b : Nat} (hd : decode cc pc = .ok (.getfield idx, 3)) (hf : FlN g y.cls idx ci i 2) (hK : mK M a = 20 + ci) (hv : mR M a i = some b) (k : Bd g y cc nL rt hh d kc ks M (pc + 3) lv (.ref b :: st) Q X) : Bd g y cc nL rt hh d kc ks M pc lv (.ref a :: st) Q X := r_getQN hd hf hK (Bd.eqs (by rw [hv]; rfl) k)
theorem r_getIN' {ci i idx a : Nat} {v : Int32} (hd : decode cc pc = .ok (.getfield idx, 3)) (hf : FlN g y.cls idx ci i 0) (hK : mK M a = 20 + ci) (hv : mI M a i = v) (k : Bd g y cc nL rt hh d kc ks M (pc + 3) lv (.int v :: st) Q X) : Bd g y cc nL rt hh d kc ks M pc lv (.ref a :: st) Q X := r_getIN hd hf hK (Bd.eqs (by rw [hv]) k)
theorem r_putIN {ci i idx a : Nat} {ty : FieldType} {x : Int32} (hd : decode cc pc = .ok (.putfield idx, 3)) (hf : FlN g y.cls idx ci i 0) (hw : Fw ci i ty) (hn : narrow ty (.int x) = .int x) (hfit : fits ty (.int x) = true) (hK : mK M a = 20 + ci) (hb : gb g ≤ a) (k : Bd g y cc nL rt hh d kc ks (sI M a i x) (pc + 3) lv st Q X) : Bd g y cc nL rt hh d kc ks M pc lv (.int x :: .ref a :: st) Q X := by
  intro p e s m args below meth c H locs cells slots mc ms ls hC hH hL h1 h2
  obtain ⟨hci, hi9, ht, host, hlink⟩ := hf
  obtain ⟨-, cell, q1, q2, q3, q4⟩ := (hH.1.2 a).2 ci hK
  obtain ⟨hS, hfc, kC, hkC, hkind⟩ := hC.2.2.2.2.2.2.2.2.1.1 ci hci
  obtain ⟨cf, kf, fi, f, hi, hsl⟩ := hS i hi9
  have hlay := hC.2.2.2.2.2.2.2.1 _ (cl_in ci hci _ (u_in_lay hi9))
  unfold u_lay at hlay
  rw [if_neg (by rw [hw.1]; decide)] at hlay
  have hst := (u_facts hfc hkC (u_lays hC.2.2.2.2.2.2.2.1 (cl_in ci hci) hi9) hi).1
  have h6 := u_store hfc hkC hkind hlay hi ((cl_ty ci hci i hi9).trans (by rw [hw.2])) hn hfit
  have hap : ∀ x z, x < (clT ci).2.2 → z < (clT ci).2.2 → x ≠ z → (gI g ci) x ≠ (gI g ci) z := by
    intro x z hx hz hne
    obtain ⟨_, _, _, fa, hia, ea⟩ := hS x hx
    obtain ⟨_, _, _, fb, hib, eb⟩ := hS z hz
    rw [← ea, ← eb]
    refine u_apart (u_lays hC.2.2.2.2.2.2.2.1 (cl_in ci hci) hx) (u_lays hC.2.2.2.2.2.2.2.1 (cl_in ci hci) hz) hia hib ?_
    rw [(State.fieldFound?_type hia (cl_ty ci hci x hx)).1, (State.fieldFound?_type hib (cl_ty ci hci z hz)).1]
    exact cl_nm ci hci x hx z hz hne
  refine va_WputK hC.1 hC.2.1 (f := f) hC.2.2.2.2.2.2.1 (va_Nw.use rfl (hlink _ _ hH.2.2.2.2.2)) hi hst (by rw [q2]; exact h6) q1 (q3.2.2 (Or.inr hb)) (by rw [hsl]; exact k2_hasslot (q4 i hi9)) rfl rfl hd fun H' e1 e2 e3 => ?_
  refine k p e s m args below meth c H' _ cells slots mc ms ls hC (hH.upd hC.2.2.2.2.2.2.2.2.1 (hH.1.upd (a := a) rfl rfl rfl (fun b k t hb => fv_sIa hb) e2 e3 (fun h1 h9 => absurd h9 (by omega)) (fun cj hcj => ?_)) e2 e3 hb) hL h1 h2
  have hcj' : cj = ci := by omega
  subst hcj'
  rw [hsl] at e1
  refine ⟨_, e1, q2, q3.2.2 (Or.inr hb), fun j hj => ?_⟩
  rw [t_set q4 hap hi9 _ j hj]
  by_cases e : j = i
  · subst e; simp [updV, ht, fv, mI_sIs]
  · simp only [updV, if_neg e]
    congr 1
    generalize fc (clY cj j) = tt
    match tt with
    | 0 => simp [fv, mI_sI, e]
    | 1 => simp [fv, mL_sI]
    | _ + 2 => simp [fv, mR_sI]
theorem r_putLN {ci i idx a : Nat} {ty : FieldType} {x : Int64} (hd : decode cc pc = .ok (.putfield idx, 3)) (hf : FlN g y.cls idx ci i 1) (hw : Fw ci i ty) (hn : narrow ty (.long x) = .long x) (hfit : fits ty (.long x) = true) (hK : mK M a = 20 + ci) (hb : gb g ≤ a) (k : Bd g y cc nL rt hh d kc ks (sL M a i x) (pc + 3) lv st Q X) : Bd g y cc nL rt hh d kc ks M pc lv (.long x :: .ref a :: st) Q X := by
  intro p e s m args below meth c H locs cells slots mc ms ls hC hH hL h1 h2
  obtain ⟨hci, hi9, ht, host, hlink⟩ := hf
  obtain ⟨-, cell, q1, q2, q3, q4⟩ := (hH.1.2 a).2 ci hK
  obtain ⟨hS, hfc, kC, hkC, hkind⟩ := hC.2.2.2.2.2.2.2.2.1.1 ci hci
  obtain ⟨cf, kf, fi, f, hi, hsl⟩ := hS i hi9
  have hlay := hC.2.2.2.2.2.2.2.1 _ (cl_in ci hci _ (u_in_lay hi9))
  unfold u_lay at hlay
  rw [if_neg (by rw [hw.1]; decide)] at hlay
  have hst := (u_facts hfc hkC (u_lays hC.2.2.2.2.2.2.2.1 (cl_in ci hci) hi9) hi).1
  have h6 := u_store hfc hkC hkind hlay hi ((cl_ty ci hci i hi9).trans (by rw [hw.2])) hn hfit
  have hap : ∀ x z, x < (clT ci).2.2 → z < (clT ci).2.2 → x ≠ z → (gI g ci) x ≠ (gI g ci) z := by
    intro x z hx hz hne
    obtain ⟨_, _, _, fa, hia, ea⟩ := hS x hx
    obtain ⟨_, _, _, fb, hib, eb⟩ := hS z hz
    rw [← ea, ← eb]
    refine u_apart (u_lays hC.2.2.2.2.2.2.2.1 (cl_in ci hci) hx) (u_lays hC.2.2.2.2.2.2.2.1 (cl_in ci hci) hz) hia hib ?_
    rw [(State.fieldFound?_type hia (cl_ty ci hci x hx)).1, (State.fieldFound?_type hib (cl_ty ci hci z hz)).1]
    exact cl_nm ci hci x hx z hz hne
  refine va_WputK hC.1 hC.2.1 (f := f) hC.2.2.2.2.2.2.1 (va_Nw.use rfl (hlink _ _ hH.2.2.2.2.2)) hi hst (by rw [q2]; exact h6) q1 (q3.2.2 (Or.inr hb)) (by rw [hsl]; exact k2_hasslot (q4 i hi9)) rfl rfl hd fun H' e1 e2 e3 => ?_
  refine k p e s m args below meth c H' _ cells slots mc ms ls hC (hH.upd hC.2.2.2.2.2.2.2.2.1 (hH.1.upd (a := a) rfl rfl rfl (fun b k t hb => fv_sLa hb) e2 e3 (fun h1 h9 => absurd h9 (by omega)) (fun cj hcj => ?_)) e2 e3 hb) hL h1 h2
  have hcj' : cj = ci := by omega
  subst hcj'
  rw [hsl] at e1
  refine ⟨_, e1, q2, q3.2.2 (Or.inr hb), fun j hj => ?_⟩
  rw [t_set q4 hap hi9 _ j hj]
  by_cases e : j = i
  · subst e; simp [updV, ht, fv, mL_sLs]
  · simp only [updV, if_neg e]
    congr 1
    generalize fc (clY cj j) = tt
    match tt with
    | 0 => simp [fv, mI_sL]
    | 1 => simp [fv, mL_sL, e]
    | _ + 2 => simp [fv, mR_sL]
theorem r_putQN {ci i idx a : Nat} {ty : FieldType} {x : Option Nat} (hd : decode cc pc = .ok (.putfield idx, 3)) (hf : FlN g y.cls idx ci i 2) (hw : Fw ci i ty) (hn : narrow ty (va_rf x) = va_rf x) (hfit : fits ty (va_rf x) = true) (hK : mK M a = 20 + ci) (hb : gb g ≤ a) (k : Bd g y cc nL rt hh d kc ks (sR M a i x) (pc + 3) lv st Q X) : Bd g y cc nL rt hh d kc ks M pc lv (va_rf x :: .ref a :: st) Q X := by
  intro p e s m args below meth c H locs cells slots mc ms ls hC hH hL h1 h2
  obtain ⟨hci, hi9, ht, host, hlink⟩ := hf
  obtain ⟨-, cell, q1, q2, q3, q4⟩ := (hH.1.2 a).2 ci hK
  obtain ⟨hS, hfc, kC, hkC, hkind⟩ := hC.2.2.2.2.2.2.2.2.1.1 ci hci
  obtain ⟨cf, kf, fi, f, hi, hsl⟩ := hS i hi9
  have hlay := hC.2.2.2.2.2.2.2.1 _ (cl_in ci hci _ (u_in_lay hi9))
  unfold u_lay at hlay
  rw [if_neg (by rw [hw.1]; decide)] at hlay
  have hst := (u_facts hfc hkC (u_lays hC.2.2.2.2.2.2.2.1 (cl_in ci hci) hi9) hi).1
  have h6 := u_store hfc hkC hkind hlay hi ((cl_ty ci hci i hi9).trans (by rw [hw.2])) hn hfit
  have hap : ∀ x z, x < (clT ci).2.2 → z < (clT ci).2.2 → x ≠ z → (gI g ci) x ≠ (gI g ci) z := by
    intro x z hx hz hne
    obtain ⟨_, _, _, fa, hia, ea⟩ := hS x hx
    obtain ⟨_, _, _, fb, hib, eb⟩ := hS z hz
    rw [← ea, ← eb]
    refine u_apart (u_lays hC.2.2.2.2.2.2.2.1 (cl_in ci hci) hx) (u_lays hC.2.2.2.2.2.2.2.1 (cl_in ci hci) hz) hia hib ?_
    rw [(State.fieldFound?_type hia (cl_ty ci hci x hx)).1, (State.fieldFound?_type hib (cl_ty ci hci z hz)).1]
    exact cl_nm ci hci x hx z hz hne
  refine va_WputK hC.1 hC.2.1 (f := f) hC.2.2.2.2.2.2.1 (va_Nw.use rfl (hlink _ _ hH.2.2.2.2.2)) hi hst (by rw [q2]; exact h6) q1 (q3.2.2 (Or.inr hb)) (by rw [hsl]; exact k2_hasslot (q4 i hi9)) rfl rfl hd fun H' e1 e2 e3 => ?_
  refine k p e s m args below meth c H' _ cells slots mc ms ls hC (hH.upd hC.2.2.2.2.2.2.2.2.1 (hH.1.upd (a := a) rfl rfl rfl (fun b k t hb => fv_sRa hb) e2 e3 (fun h1 h9 => absurd h9 (by omega)) (fun cj hcj => ?_)) e2 e3 hb) hL h1 h2
  have hcj' : cj = ci := by omega
  subst hcj'
  rw [hsl] at e1
  refine ⟨_, e1, q2, q3.2.2 (Or.inr hb), fun j hj => ?_⟩
  rw [t_set q4 hap hi9 _ j hj]
  by_cases e : j = i
  · subst e; simp [updV, ht, fv, mR_sRs]
  · simp only [updV, if_neg e]
    congr 1
    generalize fc (clY cj j) = tt
    match tt with
    | 0 => simp [fv, mI_sR]
    | 1 => simp [fv, mL_sR]
    | _ + 2 => simp [fv, mR_sR, e]
theorem r_iald {a j : Nat} (hd : decode cc pc = .ok (.iaload, 1)) (hK : mK M a = 1) (hj : j < mN M a) (hj2 : j < 2147483648) (k : Bd g y cc nL rt hh d kc ks M (pc + 1) lv (.int (mI M a j) :: st) Q X) : Bd g y cc nL rt hh d kc ks M pc lv (.int (nI j) :: .ref a :: st) Q X := by
  intro p e s m args below meth c H locs cells slots mc ms ls hC hH hL h1 h2
  obtain ⟨cell, hcell, hw⟩ := hH.1.arw hK (by decide) (by decide)
  exact W.iald (v := .int (mI M a j)) hC.1 hC.2.1 hcell (hw.is (hC.2.2.2.2.2.2.2.2.1.2.1 1 (by decide) (by decide)).1) hw.nu (by rw [hw.2.1, arrV_size]; exact nI_in' hj hj2) (by rw [hw.2.1, nI_cl hj2, arrV_read _ _ hj]; rfl) rfl rfl hd (k p e s m args below meth c H locs cells slots mc ms ls hC hH hL h1 h2)
theorem r_bald {a j : Nat} (hd : decode cc pc = .ok (.baload, 1)) (hK : mK M a = 3) (hj : j < mN M a) (hj2 : j < 2147483648) (k : Bd g y cc nL rt hh d kc ks M (pc + 1) lv (.int (mI M a j) :: st) Q X) : Bd g y cc nL rt hh d kc ks M pc lv (.int (nI j) :: .ref a :: st) Q X := by
  intro p e s m args below meth c H locs cells slots mc ms ls hC hH hL h1 h2
  obtain ⟨cell, hcell, hw⟩ := hH.1.arw hK (by decide) (by decide)
  exact W.bald (v := .int (mI M a j)) hC.1 hC.2.1 hcell (hw.is (hC.2.2.2.2.2.2.2.2.1.2.1 3 (by decide) (by decide)).1) hw.nu (by rw [hw.2.1, arrV_size]; exact nI_in' hj hj2) (by rw [hw.2.1, nI_cl hj2, arrV_read _ _ hj]; rfl) rfl rfl hd (k p e s m args below meth c H locs cells slots mc ms ls hC hH hL h1 h2)
theorem r_zald {a j : Nat} (hd : decode cc pc = .ok (.baload, 1)) (hK : mK M a = 4) (hj : j < mN M a) (hj2 : j < 2147483648) (k : Bd g y cc nL rt hh d kc ks M (pc + 1) lv (.int (mI M a j) :: st) Q X) : Bd g y cc nL rt hh d kc ks M pc lv (.int (nI j) :: .ref a :: st) Q X := by
  intro p e s m args below meth c H locs cells slots mc ms ls hC hH hL h1 h2
  obtain ⟨cell, hcell, hw⟩ := hH.1.arw hK (by decide) (by decide)
  exact W.zald (v := .int (mI M a j)) hC.1 hC.2.1 hcell (hw.is (hC.2.2.2.2.2.2.2.2.1.2.1 4 (by decide) (by decide)).1) hw.nu (by rw [hw.2.1, arrV_size]; exact nI_in' hj hj2) (by rw [hw.2.1, nI_cl hj2, arrV_read _ _ hj]; rfl) rfl rfl hd (k p e s m args below meth c H locs cells slots mc ms ls hC hH hL h1 h2)
theorem r_cald {a j : Nat} (hd : decode cc pc = .ok (.caload, 1)) (hK : mK M a = 5) (hj : j < mN M a) (hj2 : j < 2147483648) (k : Bd g y cc nL rt hh d kc ks M (pc + 1) lv (.int (mI M a j) :: st) Q X) : Bd g y cc nL rt hh d kc ks M pc lv (.int (nI j) :: .ref a :: st) Q X := by
  intro p e s m args below meth c H locs cells slots mc ms ls hC hH hL h1 h2
  obtain ⟨cell, hcell, hw⟩ := hH.1.arw hK (by decide) (by decide)
  exact W.cald (v := .int (mI M a j)) hC.1 hC.2.1 hcell (hw.is (hC.2.2.2.2.2.2.2.2.1.2.1 5 (by decide) (by decide)).1) hw.nu (by rw [hw.2.1, arrV_size]; exact nI_in' hj hj2) (by rw [hw.2.1, nI_cl hj2, arrV_read _ _ hj]; rfl) rfl rfl hd (k p e s m args below meth c H locs cells slots mc ms ls hC hH hL h1 h2)
theorem r_lald {a j : Nat} (hd : decode cc pc = .ok (.laload, 1)) (hK : mK M a = 2) (hj : j < mN M a) (hj2 : j < 2147483648) (k : Bd g y cc nL rt hh d kc ks M (pc + 1) lv (.long (mL M a j) :: st) Q X) : Bd g y cc nL rt hh d kc ks M pc lv (.int (nI j) :: .ref a :: st) Q X := by
  intro p e s m args below meth c H locs cells slots mc ms ls hC hH hL h1 h2
  obtain ⟨cell, hcell, hw⟩ := hH.1.arw hK (by decide) (by decide)
  exact W.lald (v := .long (mL M a j)) hC.1 hC.2.1 hcell (hw.is (hC.2.2.2.2.2.2.2.2.1.2.1 2 (by decide) (by decide)).1) hw.nu (by rw [hw.2.1, arrV_size]; exact nI_in' hj hj2) (by rw [hw.2.1, nI_cl hj2, arrV_read _ _ hj]; rfl) rfl rfl hd (k p e s m args below meth c H locs cells slots mc ms ls hC hH hL h1 h2)
theorem r_aald {a j t : Nat} (hd : decode cc pc = .ok (.aaload, 1)) (hK : mK M a = t) (ht : 6 ≤ t ∧ t ≤ 9) (hj : j < mN M a) (hj2 : j < 2147483648) (k : Bd g y cc nL rt hh d kc ks M (pc + 1) lv (va_rf (mR M a j) :: st) Q X) : Bd g y cc nL rt hh d kc ks M pc lv (.int (nI j) :: .ref a :: st) Q X := by
  intro p e s m args below meth c H locs cells slots mc ms ls hC hH hL h1 h2
  obtain ⟨cell, hcell, hw⟩ := hH.1.arw hK (by omega) ht.2
  have hfc : fc (arrTy t) = 2 := by
    have h9 : t = 6 ∨ t = 7 ∨ t = 8 ∨ t = 9 := by omega
    rcases h9 with h | h | h | h <;> subst h <;> rfl
  exact W.aald (v := va_rf (mR M a j)) (ty := arrTy t) hC.1 hC.2.1 hcell (hw.is (hC.2.2.2.2.2.2.2.2.1.2.1 t (by omega) ht.2).1) (by
    have h9 : t = 6 ∨ t = 7 ∨ t = 8 ∨ t = 9 := by omega
    rcases h9 with h | h | h | h <;> subst h <;> rfl) hw.nu (by rw [hw.2.1, arrV_size]; exact nI_in' hj hj2) (by rw [hw.2.1, nI_cl hj2, arrV_read _ _ hj, hfc]; rfl) rfl rfl hd (k p e s m args below meth c H locs cells slots mc ms ls hC hH hL h1 h2)
theorem r_aaldR {a j t b : Nat} (hd : decode cc pc = .ok (.aaload, 1)) (hK : mK M a = t) (ht : 6 ≤ t ∧ t ≤ 9) (hj : j < mN M a) (hj2 : j < 2147483648) (hv : mR M a j = some b) (k : Bd g y cc nL rt hh d kc ks M (pc + 1) lv (.ref b :: st) Q X) : Bd g y cc nL rt hh d kc ks M pc lv (.int (nI j) :: .ref a :: st) Q X := r_aald hd hK ht hj hj2 (Bd.eqs (by rw [hv]; rfl) k)
theorem r_iald' {a j : Nat} {v : Int32} (hd : decode cc pc = .ok (.iaload, 1)) (hK : mK M a = 1) (hj : j < mN M a) (hj2 : j < 2147483648) (hv : mI M a j = v) (k : Bd g y cc nL rt hh d kc ks M (pc + 1) lv (.int v :: st) Q X) : Bd g y cc nL rt hh d kc ks M pc lv (.int (nI j) :: .ref a :: st) Q X := r_iald hd hK hj hj2 (Bd.eqI hv k)
theorem r_alen {a t : Nat} (hd : decode cc pc = .ok (.arraylength, 1)) (hK : mK M a = t) (ht : 1 ≤ t ∧ t ≤ 9) (k : Bd g y cc nL rt hh d kc ks M (pc + 1) lv (.int (nI (mN M a)) :: st) Q X) : Bd g y cc nL rt hh d kc ks M pc lv (.ref a :: st) Q X := by
  intro p e s m args below meth c H locs cells slots mc ms ls hC hH hL h1 h2
  obtain ⟨cell, hcell, hw⟩ := hH.1.arw hK ht.1 ht.2
  exact W.alen (n := nI (mN M a)) hC.1 hC.2.1 hcell (hw.is (hC.2.2.2.2.2.2.2.2.1.2.1 t ht.1 ht.2).1) (by rw [hw.2.1, arrV_size]; rfl) rfl rfl hd (k p e s m args below meth c H locs cells slots mc ms ls hC hH hL h1 h2)
theorem r_iast {a j : Nat} {x : Int32} (hd : decode cc pc = .ok (.iastore, 1)) (hK : mK M a = 1) (hj : j < mN M a) (hj2 : j < 2147483648) (hb : gb g ≤ a) (k : Bd g y cc nL rt hh d kc ks (sI M a j (x)) (pc + 1) lv st Q X) : Bd g y cc nL rt hh d kc ks M pc lv (.int x :: .int (nI j) :: .ref a :: st) Q X := by
  intro p e s m args below meth c H locs cells slots mc ms ls hC hH hL h1 h2
  have hcell := hH.1.arr hK (by decide) (by decide) hb
  refine W.iast hC.1 hC.2.1 hcell ((hC.2.2.2.2.2.2.2.2.1.2.1 1 (by decide) (by decide)).1 _ _) (fun q => by cases q) (by rw [arrV_size]; exact nI_in' hj hj2) rfl rfl hd fun H' e1 e2 e3 => ?_
  refine k p e s m args below meth c H' _ cells slots mc ms ls hC (hH.upd hC.2.2.2.2.2.2.2.2.1 (hH.1.upd (a := a) rfl rfl rfl (fun b k t hb => fv_sIa hb) e2 e3 (fun h1 h9 => ?_) (fun cj hcj => absurd hcj (by omega))) e2 e3 hb) hL h1 h2
  rw [e1, nI_cl hj2, arrV_store, hK]
  exact congrArg some (congrArg (arrV _ _) (arr_sI rfl))
theorem r_bast {a j : Nat} {x : Int32} (hd : decode cc pc = .ok (.bastore, 1)) (hK : mK M a = 3) (hj : j < mN M a) (hj2 : j < 2147483648) (hb : gb g ≤ a) (k : Bd g y cc nL rt hh d kc ks (sI M a j (vp_nar .byte x)) (pc + 1) lv st Q X) : Bd g y cc nL rt hh d kc ks M pc lv (.int x :: .int (nI j) :: .ref a :: st) Q X := by
  intro p e s m args below meth c H locs cells slots mc ms ls hC hH hL h1 h2
  have hcell := hH.1.arr hK (by decide) (by decide) hb
  refine W.bast hC.1 hC.2.1 hcell ((hC.2.2.2.2.2.2.2.2.1.2.1 3 (by decide) (by decide)).1 _ _) (fun q => by cases q) (by rw [arrV_size]; exact nI_in' hj hj2) rfl rfl hd fun H' e1 e2 e3 => ?_
  refine k p e s m args below meth c H' _ cells slots mc ms ls hC (hH.upd hC.2.2.2.2.2.2.2.2.1 (hH.1.upd (a := a) rfl rfl rfl (fun b k t hb => fv_sIa hb) e2 e3 (fun h1 h9 => ?_) (fun cj hcj => absurd hcj (by omega))) e2 e3 hb) hL h1 h2
  rw [e1, nI_cl hj2, arrV_store, hK]
  exact congrArg some (congrArg (arrV _ _) (arr_sI rfl))
theorem r_zast {a j : Nat} {x : Int32} (hd : decode cc pc = .ok (.bastore, 1)) (hK : mK M a = 4) (hj : j < mN M a) (hj2 : j < 2147483648) (hb : gb g ≤ a) (k : Bd g y cc nL rt hh d kc ks (sI M a j (vp_nar .boolean x)) (pc + 1) lv st Q X) : Bd g y cc nL rt hh d kc ks M pc lv (.int x :: .int (nI j) :: .ref a :: st) Q X := by
  intro p e s m args below meth c H locs cells slots mc ms ls hC hH hL h1 h2
  have hcell := hH.1.arr hK (by decide) (by decide) hb
  refine W.zast hC.1 hC.2.1 hcell ((hC.2.2.2.2.2.2.2.2.1.2.1 4 (by decide) (by decide)).1 _ _) (fun q => by cases q) (by rw [arrV_size]; exact nI_in' hj hj2) rfl rfl hd fun H' e1 e2 e3 => ?_
  refine k p e s m args below meth c H' _ cells slots mc ms ls hC (hH.upd hC.2.2.2.2.2.2.2.2.1 (hH.1.upd (a := a) rfl rfl rfl (fun b k t hb => fv_sIa hb) e2 e3 (fun h1 h9 => ?_) (fun cj hcj => absurd hcj (by omega))) e2 e3 hb) hL h1 h2
  rw [e1, nI_cl hj2, arrV_store, hK]
  exact congrArg some (congrArg (arrV _ _) (arr_sI rfl))
theorem r_cast {a j : Nat} {x : Int32} (hd : decode cc pc = .ok (.castore, 1)) (hK : mK M a = 5) (hj : j < mN M a) (hj2 : j < 2147483648) (hb : gb g ≤ a) (k : Bd g y cc nL rt hh d kc ks (sI M a j (vp_nar .char x)) (pc + 1) lv st Q X) : Bd g y cc nL rt hh d kc ks M pc lv (.int x :: .int (nI j) :: .ref a :: st) Q X := by
  intro p e s m args below meth c H locs cells slots mc ms ls hC hH hL h1 h2
  have hcell := hH.1.arr hK (by decide) (by decide) hb
  refine W.cast hC.1 hC.2.1 hcell ((hC.2.2.2.2.2.2.2.2.1.2.1 5 (by decide) (by decide)).1 _ _) (fun q => by cases q) (by rw [arrV_size]; exact nI_in' hj hj2) rfl rfl hd fun H' e1 e2 e3 => ?_
  refine k p e s m args below meth c H' _ cells slots mc ms ls hC (hH.upd hC.2.2.2.2.2.2.2.2.1 (hH.1.upd (a := a) rfl rfl rfl (fun b k t hb => fv_sIa hb) e2 e3 (fun h1 h9 => ?_) (fun cj hcj => absurd hcj (by omega))) e2 e3 hb) hL h1 h2
  rw [e1, nI_cl hj2, arrV_store, hK]
  exact congrArg some (congrArg (arrV _ _) (arr_sI rfl))
theorem r_last {a j : Nat} {x : Int64} (hd : decode cc pc = .ok (.lastore, 1)) (hK : mK M a = 2) (hj : j < mN M a) (hj2 : j < 2147483648) (hb : gb g ≤ a) (k : Bd g y cc nL rt hh d kc ks (sL M a j (x)) (pc + 1) lv st Q X) : Bd g y cc nL rt hh d kc ks M pc lv (.long x :: .int (nI j) :: .ref a :: st) Q X := by
  intro p e s m args below meth c H locs cells slots mc ms ls hC hH hL h1 h2
  have hcell := hH.1.arr hK (by decide) (by decide) hb
  refine W.last hC.1 hC.2.1 hcell ((hC.2.2.2.2.2.2.2.2.1.2.1 2 (by decide) (by decide)).1 _ _) (fun q => by cases q) (by rw [arrV_size]; exact nI_in' hj hj2) rfl rfl hd fun H' e1 e2 e3 => ?_
  refine k p e s m args below meth c H' _ cells slots mc ms ls hC (hH.upd hC.2.2.2.2.2.2.2.2.1 (hH.1.upd (a := a) rfl rfl rfl (fun b k t hb => fv_sLa hb) e2 e3 (fun h1 h9 => ?_) (fun cj hcj => absurd hcj (by omega))) e2 e3 hb) hL h1 h2
  rw [e1, nI_cl hj2, arrV_store, hK]
  exact congrArg some (congrArg (arrV _ _) (arr_sL rfl))
end Rows4
