set_option maxRecDepth 100000
/-! THE CORE, 5: new cells, calls, contracts, throws -/
theorem fv_nwa {M : MM} {t n b k c : Nat} (h : b ≠ mZ M) : fv (nw M t n) b k c = fv M b k c := by
  match c with
  | 0 => simp [fv, mI_nw, h]
  | 1 => simp [fv, mL_nw, h]
  | _ + 2 => simp [fv, mR_nw, h]
def fv0 : Nat → Value
  | 0 => .int 0
  | 1 => .long 0
  | _ => .null
theorem fv_nws {M : MM} {t n k c : Nat} : fv (nw M t n) (mZ M) k c = fv0 c := by
  match c with
  | 0 => simp [fv, mI_nw, fv0]
  | 1 => simp [fv, mL_nw, fv0]
  | _ + 2 => simp [fv, mR_nw, fv0]; rfl
theorem Hd.push {g : GC} {M : MM} {H H' : Heap} {t n : Nat} (h : Hd g M H) (hs : H'.size = H.size + 1) (ho : ∀ q, q < H.size → H'[q]? = H[q]?)
    (h1 : 1 ≤ t → t ≤ 9 → H'[H.size]? = some (arrV (gA g t) n (fun _ => fv0 (fc (arrTy t)))))
    (h2 : ∀ ci, t = 20 + ci → ci < 23 ∧ t_OB H.size (gC g ci) (clT ci).2.2 (gI g ci) H' (fun k => fv0 (fc (clY ci k)))) : Hd g (nw M t n) H' := by
  refine ⟨by rw [mZ_nw, hs, h.1], fun b => ?_⟩
  rw [mK_nw, mN_nw]
  by_cases e : b = mZ M
  · subst e
    rw [if_pos rfl, if_pos rfl]
    refine ⟨fun a1 a9 => ?_, fun ci hc => ?_⟩
    · refine ⟨_, by rw [h.1]; exact h1 a1 a9, ?_⟩
      rw [show (fun j => fv (nw M t n) (mZ M) j (fc (arrTy t))) = (fun _ => fv0 (fc (arrTy t))) from funext fun j => fv_nws]
      exact ⟨Aw.rf, fun _ => rfl⟩
    · obtain ⟨hci, cell, q1, q2, q3, q4⟩ := h2 ci hc
      rw [← h.1] at q1
      exact ⟨hci, ObW.of ⟨cell, q1, q2, q3, fun k hk => (q4 k hk).trans (congrArg some fv_nws.symm)⟩⟩
  · rw [if_neg e, if_neg e]
    refine ⟨fun a1 a9 => ?_, fun ci hc => ?_⟩
    · obtain ⟨cell, q, q2⟩ := (h.2 b).1 a1 a9
      rw [show (fun j => fv (nw M t n) b j (fc (arrTy (mK M b)))) = (fun j => fv M b j (fc (arrTy (mK M b)))) from funext fun j => fv_nwa e]
      exact ⟨cell, by rw [ho b (Array.getElem?_eq_some_iff.mp q).1]; exact q, q2⟩
    · obtain ⟨hci, cell, q1, q2, q3, q4⟩ := (h.2 b).2 ci hc
      exact ⟨hci, cell, by rw [ho b (Array.getElem?_eq_some_iff.mp q1).1]; exact q1, q2, q3, fun k hk => (q4 k hk).trans (congrArg some (fv_nwa e).symm)⟩
theorem Hx.push {g : GC} {M M' : MM} {s : State} {H H' : Heap} {locs : List Loc} (hG : GS g s) (h : Hx g M s H locs) (hd : Hd g M' H') (hs : H.size ≤ H'.size) (ho : ∀ q, q < H.size → H'[q]? = H[q]?) : Hx g M' s H' locs := by
  have hlow : ∀ q, q < gb g → H'[q]? = H[q]? := fun q hq => ho q (by have := h.2.2.2.2.1; have := h.2.1; omega)
  exact ⟨hd, Nat.le_trans h.2.1 hs, fun q hq => (hlow q hq).trans (h.2.2.1 q hq), h.2.2.2.1, h.2.2.2.2.1, hG.2.2 s s H H' (State.WarmedH.refl s) hlow h.2.2.2.2.2⟩
def nfl : FieldType → Bool
  | .float => false
  | .double => false
  | _ => true
theorem nfl_dv {ty : FieldType} (h : nfl ty = true) : defaultValue ty = fv0 (fc ty) := by
  cases ty <;> first | rfl | (simp [nfl] at h)
theorem cl_nf : ∀ ci, ci < 23 → ∀ k, k < (clT ci).2.2 → nfl (clY ci k) = true :=
  cl_cases (P := fun ci => ∀ k, k < (clT ci).2.2 → nfl (clY ci k) = true) ⟨by decide +kernel, by decide +kernel, by decide +kernel, by decide +kernel, by decide +kernel, by decide +kernel, by decide +kernel, by decide +kernel, by decide +kernel, by decide +kernel, by decide +kernel, by decide +kernel, by decide +kernel, by decide +kernel, by decide +kernel, by decide +kernel, by decide +kernel, by decide +kernel, by decide +kernel, by decide +kernel, by decide +kernel, by decide +kernel, by decide +kernel⟩
def lvo : Nat → List Value → List (Option Value)
  | n, [] => List.replicate n none
  | n, v :: vs => if v.category = 2 then some v :: none :: lvo (n - 2) vs else some v :: lvo (n - 1) vs
theorem lg_none : ∀ (n i : Nat) (v : Value), lg (List.replicate n none) i = some v → False
  | 0, i, v, h => by simp [lg] at h
  | n + 1, 0, v, h => by simp [List.replicate_succ, lg] at h
  | n + 1, i + 1, v, h => lg_none n i v (by simpa [List.replicate_succ, lg] using h)
theorem lvo_args : ∀ (as : List Value) (n i j : Nat) (v : Value), lg (lvo n as) i = some v → (j + i, v) ∈ lv_args j as
  | [], n, i, j, v, h => (lg_none n i v h).elim
  | w :: ws, n, i, j, v, h => by
    rw [lv_args]
    by_cases hc : w.category = 2
    · rw [lvo, if_pos hc] at h
      rw [if_pos hc]
      match i, h with
      | 0, h => simp [lg] at h; rw [h]; exact List.mem_cons_self
      | 1, h => simp [lg] at h
      | i + 2, h =>
        have := lvo_args ws (n - 2) i (j + 2) v h
        rw [show j + (i + 2) = j + 2 + i by omega]
        exact List.mem_cons_of_mem _ this
    · rw [lvo, if_neg hc] at h
      rw [if_neg hc]
      match i, h with
      | 0, h => simp [lg] at h; rw [h]; exact List.mem_cons_self
      | i + 1, h =>
        have := lvo_args ws (n - 1) i (j + 1) v h
        rw [show j + (i + 1) = j + 1 + i by omega]
        exact List.mem_cons_of_mem _ this
/-- a thrown object q over the frame at pc -/
def Bt (g : GC) (y : MethodName) (cc : ByteArray) (nL : Nat) (rt : Option FieldType) (hh : List (Nat × Nat × Nat × Nat)) (d kc ks : Nat) (M : MM) (pc : Nat) (lv : List (Option Value)) (st : List Value) (q : Nat) (Q : Option Value → MM → Prop) (X : Nat → MM → Prop) : Prop :=
  ∀ (p : Program) (e : Env) (s : State) (m : MethodId) (args : Array Value) (below : List Frame) (meth : Method) (c : Code) (H : Heap) (locs : List Loc) (cells slots mc ms : Nat) (ls : Array Slot),
    Cx g y cc nL rt hh p s m args meth c → Hx g M s H locs → LV ls nL lv → cells + kc ≤ mc → slots + ks ≤ ms → (∃ ce : Cell, H[q]? = some ce ∧ ce.vm = .none ∧ s.vm.findClass RX3 = some ce.cls) →
    vx_W p (gl g) e (rmm d mc ms) s m args below meth c H locs cells slots (vx_MQ below (QQ g Q) (XX g X) args s mc ms (fun q => gb g ≤ q)) (F0 m pc ls st) q
section Rows5
variable {g : GC} {y : MethodName} {cc : ByteArray} {nL : Nat} {rt : Option FieldType} {hh : List (Nat × Nat × Nat × Nat)} {d kc ks : Nat} {M : MM} {pc : Nat} {lv : List (Option Value)} {st : List Value} {Q : Option Value → MM → Prop} {X : Nat → MM → Prop}
theorem Bt.out {q : Nat} (hX : X q M) : Bt g y cc nL rt [] d kc ks M pc lv st q Q X := by
  intro p e s m args below meth c H locs cells slots mc ms ls hC hH hL h1 h2 hq
  obtain ⟨ce, q1, q2, q3⟩ := hq
  refine vx_out (E := RX3) (ce := ce) (fun x hx => ?_) hC.2.2.2.2.1 q1 q2 q3 (fun t ht _ => ⟨rfl, ⟨M, hX, by rw [ht]; exact hH.1⟩, by rw [ht]; exact hH.2.1, fun q hq => by rw [ht]; exact hH.2.2.1 q hq⟩) hH.2.2.2.1 (by omega) (by omega)
  rw [hC.2.2.2.2.2.2.2.2.2] at hx
  cases hx
theorem Hd.fault {q : Nat} {s : State} {H : Heap} (hG : GS g s) (h : Hd g M H) (hK : mK M q = 23) : ∃ ce : Cell, H[q]? = some ce ∧ ce.vm = .none ∧ s.vm.findClass RX3 = some ce.cls := by
  obtain ⟨-, cell, q1, q2, q3, -⟩ := (h.2 q).2 3 hK
  exact ⟨cell, q1, q3.2.2 (Or.inl (by decide)), by rw [q2]; exact (hG.1 3 (by decide)).2.1⟩
theorem r_athrowT {q : Nat} (hd : decode cc pc = .ok (.athrow, 1)) (hK : mK M q = 23) (k : Bt g y cc nL rt hh d kc ks M pc lv st q Q X) : Bd g y cc nL rt hh d kc ks M pc lv (.ref q :: st) Q X :=
  fun p e s m args below meth c H locs cells slots mc ms ls hC hH hL h1 h2 => vx_athrow hC.1 hC.2.1 hd (k p e s m args below meth c H locs cells slots mc ms ls hC hH hL h1 h2 (Hd.fault hC.2.2.2.2.2.2.2.2.1 hH.1 hK))
theorem r_athrow {q : Nat} (hd : decode cc pc = .ok (.athrow, 1)) (hK : mK M q = 23) (hX : X q M) : Bd g y cc nL rt [] d kc ks M pc lv (.ref q :: st) Q X := r_athrowT hd hK (Bt.out hX)
theorem Bd.call {mc' ms' kc' ks' : Nat} {rest : List Value} {Q' : Option Value → MM → Prop} {X' : Nat → MM → Prop} {as : Array Value}
    (run : ∀ {p : Program} {e : Env} {s : State} {m : MethodId} {args : Array Value} {below : List Frame} {meth : Method} {c : Code} {H : Heap} {locs : List Loc} {cells slots mc ms : Nat} {ls : Array Slot}, Cx g y cc nL rt hh p s m args meth c → Hx g M s H locs → LV ls nL lv → cells + mc' ≤ mc → slots + ms' ≤ ms →
      vx_Run p (gl g) e (rmm d mc ms) s m args below meth c H locs cells slots mc' ms' (F0 m pc ls st) rest (QQ g Q' as) (XX g X') (fun q => gb g ≤ q))
    (hk : kc' + mc' ≤ kc) (hs : ks' + ms' ≤ ks) (kx : ∀ q M', X' q M' → Bt g y cc nL rt hh d kc' ks' M' pc lv rest q Q X)
    (k : ∀ v M', Q' v M' → Bd g y cc nL rt hh d kc' ks' M' (pc + 3) lv (v.toList ++ rest) Q X) : Bd g y cc nL rt hh d kc ks M pc lv st Q X := by
  intro p e s m args below meth c H locs cells slots mc ms ls hC hH hL h1 h2 T hT S
  have hx : ∀ (st₀ t T' : State) (L : List Loc) (M' : MM), st₀.heap = H → T'.heap = t.heap → (∀ q ∈ L, gb g ≤ q.base) → Hd g M' t.heap → st₀.heap.size ≤ t.heap.size → (∀ q, q < gb g → t.heap[q]? = st₀.heap[q]?) → Hx g M' s T'.heap (locs ++ L) := by
    intro st₀ t T' L M' a1 a2 a3 a4 a5 a6
    have hlow : ∀ q, q < gb g → T'.heap[q]? = H[q]? := fun q hq => by rw [a2, a6 q hq, a1]
    refine ⟨by rw [a2]; exact a4, Nat.le_trans hH.2.1 (by rw [a2, ← a1]; exact a5), fun q hq => (hlow q hq).trans (hH.2.2.1 q hq), fun q hq => ?_, hH.2.2.2.2.1, hC.2.2.2.2.2.2.2.2.1.2.2 s s H T'.heap (State.WarmedH.refl s) hlow hH.2.2.2.2.2⟩
    rcases List.mem_append.mp hq with h | h
    · exact hH.2.2.2.1 q h
    · exact a3 q h
  rcases run hC hH hL (by omega) (by omega) T hT S with ⟨v, st₀, t, T', L, h0, S', hLf, e1, e2, ⟨⟨v', M', hv, hQ, hHd⟩, hsz, hlow⟩, hgo⟩ | ⟨q, st₀, t, T', L, E, ce, h0, S', hLf, e1, e2, ⟨rfl, ⟨M', hX', hHd⟩, hsz, hlow⟩, hce, hcv, hcl, hgo⟩
  · cases hv
    obtain ⟨t2, a1, b1⟩ := k v M' hQ p e s m args below meth c T'.heap (locs ++ L) (cells + mc') (slots + ms') mc ms ls hC (hx st₀ t T' L M' h0 e1 hLf hHd hsz hlow) hL (by omega) (by omega) T' rfl S'
    exact ⟨t2, hgo t2 a1, b1⟩
  · obtain ⟨t2, a1, b1⟩ := kx q M' hX' p e s m args below meth c T'.heap (locs ++ L) (cells + mc') (slots + ms') mc ms ls hC (hx st₀ t T' L M' h0 e1 hLf hHd hsz hlow) hL (by omega) (by omega) ⟨ce, by rw [e1]; exact hce, hcv, hcl⟩ T' rfl S'
    exact ⟨t2, hgo.trans a1, b1⟩
theorem PcM.at {s U : State} {H : Heap} {locs : List Loc} {as : List Value} (hG : GS g s) (hH : Hx g M s H locs) (hU : U.heap = H) (hW : s.WarmedH U.vm) : PcM g as M as.toArray U :=
  ⟨rfl, GS.moved hW.alike hG, by rw [hU]; exact hH.1, by rw [hU]; exact Nat.le_trans hH.2.2.2.2.1 hH.2.1, hG.2.2 s U H U.heap hW (fun q _ => by rw [hU]) hH.2.2.2.2.2⟩
theorem Hd.recv {ci a : Nat} {s : State} {H : Heap} (hG : GS g s) (h : Hd g M H) (hK : mK M a = 20 + ci) : ∃ cellB : Cell, H[a]? = some cellB ∧ cellB.vm.isStatics = false ∧ s.vm.findClass (clT ci).1 = some cellB.cls := by
  obtain ⟨hci, cell, q1, q2, q3, -⟩ := (h.2 a).2 ci hK
  exact ⟨cell, q1, q3.1, by rw [q2]; exact (hG.1 ci hci).2.1⟩
theorem r_callV {y' : MethodName} {cc' : ByteArray} {nL' : Nat} {rt' : Option FieldType} {d' mc' ms' kc' ks' n idx : Nat} {As rest : List Value} {Q' : Option Value → MM → Prop} {X' : Nat → MM → Prop} {ci a : Nat} (hd : decode cc pc = .ok (.invokevirtual idx, 3)) (q1 : Cond.methodLink y.cls idx y' ∈ lw_all) (q2 : Cond.instanceMethod y' ∈ lw_all) (q3 : Cond.selects (clT ci).1 y' y' ∈ lw_all) (q4 : Cond.initialized (clT ci).1 ∈ lw_all) (q5 : Cond.code y' cc' nL' rt' ∈ lw_all) (hy : y'.cls = (clT ci).1 ∧ y'.cls ≠ "java/lang/invoke/MethodHandle" ∧ y'.cls ≠ "java/lang/invoke/VarHandle" ∧ (parseMethodDescriptor y'.desc).map (fun d => d.parameters.length) = some n) (hK : mK M a = 20 + ci) (hct : Ct g y' cc' nL' rt' d' mc' ms' (.ref a :: As) M Q' X') (hst : st = As.reverse ++ .ref a :: rest) (hn : As.length = n) (hr : (rest.map fun v => v.category).sum ≤ 8) (hR : d' + 1 ≤ d ∧ nL' ≤ 45) (hk : kc' + mc' ≤ kc) (hs : ks' + ms' ≤ ks) (kx : ∀ q M', X' q M' → Bt g y cc nL rt hh d kc' ks' M' pc lv rest q Q X) (k : ∀ v M', Q' v M' → Bd g y cc nL rt hh d kc' ks' M' (pc + 3) lv (v.toList ++ rest) Q X) : Bd g y cc nL rt hh d kc ks M pc lv st Q X := by
  subst hst
  refine Bd.call (as := (.ref a :: As : List Value).toArray) (mc' := mc') (ms' := ms') (kc' := kc') (ks' := ks') (rest := rest) (Q' := Q') (X' := X') ?_ hk hs kx k
  intro p e s m args below meth c H locs cells slots mc ms ls hC hH hL h1 h2
  exact vx_runV (Ts := lw_all) ⟨hC.1, hC.2.1, hC.2.2.1, hC.2.2.2.2.2.2.1, hC.2.2.2.2.2.2.2.1⟩ hct (cwV n hC.2.2.2.2.2.2.2.1 (lw_V q1 q2 q3 q4 q5) rfl rfl rfl hy ⟨hR.1, by show 8 + (nL' + 11) + 64 * d' ≤ 64 * d; omega⟩) (⟨PcM.blind, Hd.recv hC.2.2.2.2.2.2.2.2.1 hH.1 hK, fun U hU hW => PcM.at hC.2.2.2.2.2.2.2.2.1 hH hU hW⟩) rfl hn hL.1 rfl (lv_room hr) hd ⟨h1, h2⟩
theorem r_callS {y' : MethodName} {cc' : ByteArray} {nL' : Nat} {rt' : Option FieldType} {d' mc' ms' kc' ks' n idx : Nat} {As rest : List Value} {Q' : Option Value → MM → Prop} {X' : Nat → MM → Prop}  (hd : decode cc pc = .ok (.invokestatic idx, 3)) (q1 : Cond.methodLink y.cls idx y' ∈ lw_all) (q2 : Cond.static y' ∈ lw_all) (q3 : Cond.initialized y'.cls ∈ lw_all) (q5 : Cond.code y' cc' nL' rt' ∈ lw_all) (hy : y'.cls ≠ "java/lang/invoke/MethodHandle" ∧ y'.cls ≠ "java/lang/invoke/VarHandle" ∧ (parseMethodDescriptor y'.desc).map (fun d => d.parameters.length) = some n) (hct : Ct g y' cc' nL' rt' d' mc' ms' (As) M Q' X') (hst : st = As.reverse ++ rest) (hn : As.length = n) (hr : (rest.map fun v => v.category).sum ≤ 8) (hR : d' + 1 ≤ d ∧ nL' ≤ 45) (hk : kc' + mc' ≤ kc) (hs : ks' + ms' ≤ ks) (kx : ∀ q M', X' q M' → Bt g y cc nL rt hh d kc' ks' M' pc lv rest q Q X) (k : ∀ v M', Q' v M' → Bd g y cc nL rt hh d kc' ks' M' (pc + 3) lv (v.toList ++ rest) Q X) : Bd g y cc nL rt hh d kc ks M pc lv st Q X := by
  subst hst
  refine Bd.call (as := (As : List Value).toArray) (mc' := mc') (ms' := ms') (kc' := kc') (ks' := ks') (rest := rest) (Q' := Q') (X' := X') ?_ hk hs kx k
  intro p e s m args below meth c H locs cells slots mc ms ls hC hH hL h1 h2
  exact vx_runS (Ts := lw_all) ⟨hC.1, hC.2.1, hC.2.2.1, hC.2.2.2.2.2.2.1, hC.2.2.2.2.2.2.2.1⟩ hct (va_cwS n hC.2.2.2.2.2.2.2.1 (lw_S q1 q2 q3 q5) rfl rfl rfl hy ⟨hR.1, by show 8 + (nL' + 11) + 64 * d' ≤ 64 * d; omega⟩) (⟨PcM.blind, fun U hU hW => PcM.at hC.2.2.2.2.2.2.2.2.1 hH hU hW⟩) rfl hn hL.1 rfl (lv_room hr) hd ⟨h1, h2⟩
theorem r_callI {y' : MethodName} {cc' : ByteArray} {nL' : Nat} {d' mc' ms' kc' ks' n idx : Nat} {As rest : List Value} {Q' : Option Value → MM → Prop} {X' : Nat → MM → Prop} {a : Nat} (hd : decode cc pc = .ok (.invokespecial idx, 3)) (q1 : Cond.methodLink y.cls idx y' ∈ lw_all) (q2 : Cond.instanceMethod y' ∈ lw_all) (q3 : Cond.initialized y'.cls ∈ lw_all) (q5 : Cond.code y' cc' nL' none ∈ lw_all) (hi : y'.name = "<init>") (hy : y'.cls ≠ "java/lang/invoke/MethodHandle" ∧ y'.cls ≠ "java/lang/invoke/VarHandle" ∧ (parseMethodDescriptor y'.desc).map (fun d => d.parameters.length) = some n) (hct : Ct g y' cc' nL' none d' mc' ms' (.ref a :: As) M Q' X') (hst : st = As.reverse ++ .ref a :: rest) (hn : As.length = n) (hr : (rest.map fun v => v.category).sum ≤ 8) (hR : d' + 1 ≤ d ∧ nL' ≤ 45) (hk : kc' + mc' ≤ kc) (hs : ks' + ms' ≤ ks) (kx : ∀ q M', X' q M' → Bt g y cc nL rt hh d kc' ks' M' pc lv rest q Q X) (k : ∀ v M', Q' v M' → Bd g y cc nL rt hh d kc' ks' M' (pc + 3) lv (v.toList ++ rest) Q X) : Bd g y cc nL rt hh d kc ks M pc lv st Q X := by
  subst hst
  refine Bd.call (as := (.ref a :: As : List Value).toArray) (mc' := mc') (ms' := ms') (kc' := kc') (ks' := ks') (rest := rest) (Q' := Q') (X' := X') ?_ hk hs kx k
  intro p e s m args below meth c H locs cells slots mc ms ls hC hH hL h1 h2
  exact vx_runI (Ts := lw_all) ⟨hC.1, hC.2.1, hC.2.2.1, hC.2.2.2.2.2.2.1, hC.2.2.2.2.2.2.2.1⟩ hct (cwI n hC.2.2.2.2.2.2.2.1 (lw_meth q5) rfl rfl rfl (hC.2.2.2.2.2.2.2.1 _ q3) (hC.2.2.2.2.2.2.2.1 _ q1) (hC.2.2.2.2.2.2.2.1 _ q2) hi hy ⟨hR.1, by show 8 + (nL' + 11) + 64 * d' ≤ 64 * d; omega⟩) ⟨PcM.blind, fun U hU hW => PcM.at hC.2.2.2.2.2.2.2.2.1 hH hU hW⟩ rfl hn hL.1 rfl (lv_room hr) hd ⟨h1, h2⟩
theorem r_callIN {y' : MethodName} {cc' : ByteArray} {nL' : Nat} {d' mc' ms' kc' ks' n idx : Nat} {As rest : List Value} {Q' : Option Value → MM → Prop} {X' : Nat → MM → Prop} {a : Nat} (hd : decode cc pc = .ok (.invokespecial idx, 3)) {host : String} (q1 : NW g (Cond.methodLinkNest y.cls idx y' host)) (q2 : Cond.instanceMethod y' ∈ lw_all) (q3 : Cond.initialized y'.cls ∈ lw_all) (q5 : Cond.code y' cc' nL' none ∈ lw_all) (hi : y'.name = "<init>") (hy : y'.cls ≠ "java/lang/invoke/MethodHandle" ∧ y'.cls ≠ "java/lang/invoke/VarHandle" ∧ (parseMethodDescriptor y'.desc).map (fun d => d.parameters.length) = some n) (hct : Ct g y' cc' nL' none d' mc' ms' (.ref a :: As) M Q' X') (hst : st = As.reverse ++ .ref a :: rest) (hn : As.length = n) (hr : (rest.map fun v => v.category).sum ≤ 8) (hR : d' + 1 ≤ d ∧ nL' ≤ 45) (hk : kc' + mc' ≤ kc) (hs : ks' + ms' ≤ ks) (kx : ∀ q M', X' q M' → Bt g y cc nL rt hh d kc' ks' M' pc lv rest q Q X) (k : ∀ v M', Q' v M' → Bd g y cc nL rt hh d kc' ks' M' (pc + 3) lv (v.toList ++ rest) Q X) : Bd g y cc nL rt hh d kc ks M pc lv st Q X := by
  subst hst
  refine Bd.call (as := (.ref a :: As : List Value).toArray) (mc' := mc') (ms' := ms') (kc' := kc') (ks' := ks') (rest := rest) (Q' := Q') (X' := X') ?_ hk hs kx k
  intro p e s m args below meth c H locs cells slots mc ms ls hC hH hL h1 h2
  exact vx_runIN (Ts := lw_all) ⟨hC.1, hC.2.1, hC.2.2.1, hC.2.2.2.2.2.2.1, hC.2.2.2.2.2.2.2.1⟩ hct (⟨va_cnB n hC.2.2.2.2.2.2.2.1 (lw_meth q5) rfl rfl rfl (q1 _ _ hH.2.2.2.2.2) (hC.2.2.2.2.2.2.2.1 _ q3) hy ⟨hR.1, by show 8 + (nL' + 11) + 64 * d' ≤ 64 * d; omega⟩, hi, hC.2.2.2.2.2.2.2.1 _ q2⟩) ⟨PcM.blind, fun U hU hW => PcM.at hC.2.2.2.2.2.2.2.2.1 hH hU hW⟩ rfl hn hL.1 rfl (lv_room hr) hd ⟨h1, h2⟩
theorem r_callVN {y' : MethodName} {cc' : ByteArray} {nL' : Nat} {rt' : Option FieldType} {d' mc' ms' kc' ks' n idx : Nat} {As rest : List Value} {Q' : Option Value → MM → Prop} {X' : Nat → MM → Prop} {ci a : Nat} {host : String} (hd : decode cc pc = .ok (.invokevirtual idx, 3)) (q1 : NW g (Cond.methodLinkNest y.cls idx y' host)) (q2 : Cond.instanceMethod y' ∈ lw_all) (q3 : Cond.selects (clT ci).1 y' y' ∈ lw_all) (q4 : Cond.initialized y'.cls ∈ lw_all) (q5 : Cond.code y' cc' nL' rt' ∈ lw_all) (hy : y'.cls ≠ "java/lang/invoke/MethodHandle" ∧ y'.cls ≠ "java/lang/invoke/VarHandle" ∧ (parseMethodDescriptor y'.desc).map (fun d => d.parameters.length) = some n) (hK : mK M a = 20 + ci) (hct : Ct g y' cc' nL' rt' d' mc' ms' (.ref a :: As) M Q' X') (hst : st = As.reverse ++ .ref a :: rest) (hn : As.length = n) (hr : (rest.map fun v => v.category).sum ≤ 8) (hR : d' + 1 ≤ d ∧ nL' ≤ 45) (hk : kc' + mc' ≤ kc) (hs : ks' + ms' ≤ ks) (kx : ∀ q M', X' q M' → Bt g y cc nL rt hh d kc' ks' M' pc lv rest q Q X) (k : ∀ v M', Q' v M' → Bd g y cc nL rt hh d kc' ks' M' (pc + 3) lv (v.toList ++ rest) Q X) : Bd g y cc nL rt hh d kc ks M pc lv st Q X := by
  subst hst
  refine Bd.call (as := (.ref a :: As : List Value).toArray) (mc' := mc') (ms' := ms') (kc' := kc') (ks' := ks') (rest := rest) (Q' := Q') (X' := X') ?_ hk hs kx k
  intro p e s m args below meth c H locs cells slots mc ms ls hC hH hL h1 h2
  exact vx_runVN (Ts := lw_all) ⟨hC.1, hC.2.1, hC.2.2.1, hC.2.2.2.2.2.2.1, hC.2.2.2.2.2.2.2.1⟩ hct (⟨va_cnB n hC.2.2.2.2.2.2.2.1 (lw_meth q5) rfl rfl rfl (q1 _ _ hH.2.2.2.2.2) (hC.2.2.2.2.2.2.2.1 _ q4) hy ⟨hR.1, by show 8 + (nL' + 11) + 64 * d' ≤ 64 * d; omega⟩, hC.2.2.2.2.2.2.2.1 _ q2, hC.2.2.2.2.2.2.2.1 _ q3⟩) (⟨PcM.blind, Hd.recv hC.2.2.2.2.2.2.2.2.1 hH.1 hK, fun U hU hW => PcM.at hC.2.2.2.2.2.2.2.2.1 hH hU hW⟩) rfl hn hL.1 rfl (lv_room hr) hd ⟨h1, h2⟩
theorem r_callSN {y' : MethodName} {cc' : ByteArray} {nL' : Nat} {rt' : Option FieldType} {d' mc' ms' kc' ks' n idx : Nat} {As rest : List Value} {Q' : Option Value → MM → Prop} {X' : Nat → MM → Prop} {host : String} (hd : decode cc pc = .ok (.invokestatic idx, 3)) (q1 : NW g (Cond.methodLinkNest y.cls idx y' host)) (q2 : Cond.static y' ∈ lw_all) (q4 : Cond.initialized y'.cls ∈ lw_all) (q5 : Cond.code y' cc' nL' rt' ∈ lw_all) (hy : y'.cls ≠ "java/lang/invoke/MethodHandle" ∧ y'.cls ≠ "java/lang/invoke/VarHandle" ∧ (parseMethodDescriptor y'.desc).map (fun d => d.parameters.length) = some n) (hct : Ct g y' cc' nL' rt' d' mc' ms' (As) M Q' X') (hst : st = As.reverse ++ rest) (hn : As.length = n) (hr : (rest.map fun v => v.category).sum ≤ 8) (hR : d' + 1 ≤ d ∧ nL' ≤ 45) (hk : kc' + mc' ≤ kc) (hs : ks' + ms' ≤ ks) (kx : ∀ q M', X' q M' → Bt g y cc nL rt hh d kc' ks' M' pc lv rest q Q X) (k : ∀ v M', Q' v M' → Bd g y cc nL rt hh d kc' ks' M' (pc + 3) lv (v.toList ++ rest) Q X) : Bd g y cc nL rt hh d kc ks M pc lv st Q X := by
  subst hst
  refine Bd.call (as := (As : List Value).toArray) (mc' := mc') (ms' := ms') (kc' := kc') (ks' := ks') (rest := rest) (Q' := Q') (X' := X') ?_ hk hs kx k
  intro p e s m args below meth c H locs cells slots mc ms ls hC hH hL h1 h2
  exact vx_runSN (Ts := lw_all) ⟨hC.1, hC.2.1, hC.2.2.1, hC.2.2.2.2.2.2.1, hC.2.2.2.2.2.2.2.1⟩ hct (⟨va_cnB n hC.2.2.2.2.2.2.2.1 (lw_meth q5) rfl rfl rfl (q1 _ _ hH.2.2.2.2.2) (hC.2.2.2.2.2.2.2.1 _ q4) hy ⟨hR.1, by show 8 + (nL' + 11) + 64 * d' ≤ 64 * d; omega⟩, hC.2.2.2.2.2.2.2.1 _ q2, trivial⟩) (⟨PcM.blind, fun U hU hW => PcM.at hC.2.2.2.2.2.2.2.2.1 hH hU hW⟩) rfl hn hL.1 rfl (lv_room hr) hd ⟨h1, h2⟩
theorem Ct.of {as : List Value} (hy : plainName y.cls = true) (hlen : (lg_sl as).length ≤ nL) (hlv : lvo nL as = lv) (k : Bd g y cc nL rt [] d kc ks M 0 lv [] Q X) : Ct g y cc nL rt d kc ks as M Q X := by
  refine vx_ofW (ws' := lw_all) hy rfl ?_
  intro p e s m args below meth c s₁ B0 hml htab hP
  obtain ⟨rfl, hG, hH, hb, hE⟩ := hP
  have hl := lv_entry as hlen
  rw [lg_entry_eq]
  have hts := atoms_spec (ws := ws_ y cc nL rt) B0.pre
  refine k p e s m _ below meth c s.heap [] 0 0 kc ks _ ⟨B0.exec, B0.bytes, hml, B0.returns, B0.notSynchronized, (name_of_methodNamed B0.named B0.method).1, findClass_of_methodNamed B0.named, fun w h => hts w (List.mem_cons_of_mem _ h), hG, ?_⟩ ⟨hH, Nat.le_refl _, fun _ _ => rfl, (fun q hq => nomatch hq), hb, hE⟩ ⟨hl.1, hl.2.1, fun i v h => hl.2.2 (i, v) ?_⟩ (by omega) (by omega)
  · exact List.eq_nil_iff_forall_not_mem.mpr htab
  · have := lvo_args as nL i 0 v (by rw [hlv]; exact h)
    rw [Nat.zero_add] at this
    exact this
theorem Ct.post {as : List Value} {mc ms : Nat} {Q' : Option Value → MM → Prop} {X' : Nat → MM → Prop} (hQ : ∀ v M', Q' v M' → Q v M') (hX : ∀ q M', X' q M' → X q M') (h : Ct g y cc nL rt d mc ms as M Q' X') : Ct g y cc nL rt d mc ms as M Q X := by
  have key : ∀ (a : Array Value) (st : State) (o : Outcome) (t : State), vx_Q (QQ g Q') (XX g X') mc ms (fun q => gb g ≤ q) a st o t → vx_Q (QQ g Q) (XX g X) mc ms (fun q => gb g ≤ q) a st o t := by
    intro a st o t hq
    rcases hq with ⟨⟨⟨v, M', e1, e2, e3⟩, e4⟩, e5⟩ | ⟨q, e1, E, ce, L, ⟨f1, ⟨M', f2, f3⟩, f4⟩, f5⟩
    · exact Or.inl ⟨⟨⟨v, M', e1, hQ v M' e2, e3⟩, e4⟩, e5⟩
    · exact Or.inr ⟨q, e1, E, ce, L, ⟨f1, ⟨M', hX q M' f2, f3⟩, f4⟩, f5⟩
  intro p e ha hc hk s m args below hf happ hpre hk2
  obtain ⟨k, o, b1, b2, b3, b4⟩ := h p e ha hc hk s m args below hf happ hpre hk2
  exact ⟨k, o, b1, b2, b3, key _ _ _ _ b4⟩
theorem r_new {ci n idx kc' ks' : Nat} (hd : decode cc pc = .ok (.new idx, 3)) (q1 : Cond.classLink y.cls idx (clT ci).1 ∈ lw_all) (q2 : Cond.instantiable (clT ci).1 n ∈ lw_all) (q3 : Cond.initialized (clT ci).1 ∈ lw_all) (hci : ci < 23) (hk : kc' + 1 ≤ kc) (hs : ks' + n ≤ ks) (k : Bd g y cc nL rt hh d kc' ks' (nw M (20 + ci) 0) (pc + 3) lv (.ref (mZ M) :: st) Q X) : Bd g y cc nL rt hh d kc ks M pc lv st Q X := by
  intro p e s m args below meth c H locs cells slots mc ms ls hC hH hL h1 h2
  have hKn := hC.2.2.2.2.2.2.2.2.1.1 ci hci
  refine W.newcK hC.1 hC.2.1 hC.2.2.2.2.2.2.1 (hC.2.2.2.2.2.2.2.1 _ q1) (hC.2.2.2.2.2.2.2.1 _ q2) (hC.2.2.2.2.2.2.2.1 _ q3) rfl hd (by show cells + 1 ≤ mc; omega) (by show slots + n ≤ ms; omega) hKn.2.1 rfl fun H1 kC hkC e1 z1 o1 => ?_
  rw [← hH.1.1]
  refine k p e s m args below meth c H1 locs (cells + 1) (slots + n) mc ms ls hC (hH.push hC.2.2.2.2.2.2.2.2.1 (hH.1.push z1 o1 (fun a b => by omega) (fun cj hcj => ?_)) (by omega) o1) hL (by omega) (by omega)
  have hcj' : cj = ci := by omega
  subst hcj'
  exact ⟨hci, (u_born (clY cj) hC.2.2.2.2.2.2.2.1 (cl_in cj hci) hKn hkC e1 (cl_ty cj hci)).to (fun k hk => nfl_dv (cl_nf cj hci k hk))⟩
theorem r_newa {t n kc' ks' : Nat} {atype : ArrayType} (hd : decode cc pc = .ok (.newarray atype, 2)) (hty : newarray.typeOf atype = arrTy t) (ht : 1 ≤ t ∧ t ≤ 5) (q1 : Cond.arrayClass (arrTy t) ∈ lw_all) (hn : n ≤ 60000000) (hk : kc' + 1 ≤ kc) (hs : ks' + n ≤ ks) (k : Bd g y cc nL rt hh d kc' ks' (nw M t n) (pc + 2) lv (.ref (mZ M) :: st) Q X) : Bd g y cc nL rt hh d kc ks M pc lv (.int (nI n) :: st) Q X := by
  intro p e s m args below meth c H locs cells slots mc ms ls hC hH hL h1 h2
  have h5 : t = 1 ∨ t = 2 ∨ t = 3 ∨ t = 4 ∨ t = 5 := by omega
  have hcb : componentBytes (arrTy t) ≤ 8 := by rcases h5 with h | h | h | h | h <;> subst h <;> decide
  have hnf : nfl (arrTy t) = true := by rcases h5 with h | h | h | h | h <;> subst h <;> rfl
  have hRA : s.vm.findClass ("[" ++ (arrTy t).toString) = some (gA g t) := by
    have := (hC.2.2.2.2.2.2.2.2.1.2.1 t ht.1 (by omega)).2
    rcases h5 with h | h | h | h | h <;> subst h <;> exact this
  refine va_newaK (N := n) hC.1 hC.2.1 (atype := atype) (by rw [hty]; exact hC.2.2.2.2.2.2.2.1 _ q1) rfl hd rfl (nI_pos (by omega)) (nI_cl (by omega)) (by rw [hty]; exact Nat.le_trans (Nat.mul_le_mul_left n hcb) (by omega)) (by show cells + 1 ≤ mc; omega) (by show slots + n ≤ ms; omega) rfl fun H1 cA e1 z1 o1 _ hNm => ?_
  rw [hty] at e1 hNm
  have hcA : cA = gA g t := Option.some.inj (hNm.symm.trans hRA)
  subst hcA
  rw [← hH.1.1]
  refine k p e s m args below meth c H1 locs (cells + 1) (slots + n) mc ms ls hC (hH.push hC.2.2.2.2.2.2.2.2.1 (hH.1.push z1 o1 (fun a b => ?_) (fun cj hcj => by omega)) (by omega) o1) hL (by omega) (by omega)
  rw [e1, nfl_dv hnf]
theorem r_objInit {a idx : Nat} (hd : decode cc pc = .ok (.invokespecial idx, 3)) (q1 : Cond.methodLink y.cls idx objectInit ∈ lw_all) (q2 : Cond.instanceMethod objectInit ∈ lw_all) (q3 : Cond.code objectInit ⟨#[0xb1]⟩ 1 none ∈ lw_all) (hd1 : 1 ≤ d) (hr : (st.map fun v => v.category).sum ≤ 8) (k : Bd g y cc nL rt hh d kc ks M (pc + 3) lv st Q X) : Bd g y cc nL rt hh d kc ks M pc lv (.ref a :: st) Q X := by
  intro p e s m args below meth c H locs cells slots mc ms ls hC hH hL h1 h2
  refine W.objInit hC.1 hC.2.1 hC.2.2.2.2.2.2.1 (hC.2.2.2.2.2.2.2.1 _ q1) (hC.2.2.2.2.2.2.2.1 _ q2) (hC.2.2.2.2.2.2.2.1 _ q3) rfl (by rw [hC.2.2.1]; exact hL.1) rfl hd hd1 ?_ (k p e s m args below meth c H locs cells slots mc ms ls hC hH hL h1 h2)
  have := lv_room (m := m) (pc := pc) (ls := ls) (rest := .ref a :: st) hr
  show _ ≤ 64 * d
  omega
end Rows5
