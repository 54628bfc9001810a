set_option maxRecDepth 100000
/-! THE CORE, 1: one typed memory for the whole run (next address, kinds, lengths, ints, longs, references) -/
abbrev MM : Type := Nat × (Nat → Nat) × (Nat → Nat) × (Nat → Nat → Int32) × (Nat → Nat → Int64) × (Nat → Nat → Option Nat)
def mZ (M : MM) : Nat := M.1
def mK (M : MM) : Nat → Nat := M.2.1
def mN (M : MM) : Nat → Nat := M.2.2.1
def mI (M : MM) : Nat → Nat → Int32 := M.2.2.2.1
def mL (M : MM) : Nat → Nat → Int64 := M.2.2.2.2.1
def mR (M : MM) : Nat → Nat → Option Nat := M.2.2.2.2.2
def sI (M : MM) (a j : Nat) (v : Int32) : MM := (mZ M, mK M, mN M, (fun b i => if b = a ∧ i = j then v else mI M b i), mL M, mR M)
def sL (M : MM) (a j : Nat) (v : Int64) : MM := (mZ M, mK M, mN M, mI M, (fun b i => if b = a ∧ i = j then v else mL M b i), mR M)
def sR (M : MM) (a j : Nat) (v : Option Nat) : MM := (mZ M, mK M, mN M, mI M, mL M, (fun b i => if b = a ∧ i = j then v else mR M b i))
/-- a new cell of kind t and length n at the next address -/
def nw (M : MM) (t n : Nat) : MM := (mZ M + 1, (fun b => if b = mZ M then t else mK M b), (fun b => if b = mZ M then n else mN M b), (fun b i => if b = mZ M then 0 else mI M b i), (fun b i => if b = mZ M then 0 else mL M b i), (fun b i => if b = mZ M then none else mR M b i))
theorem mZ_sI (M : MM) (a j : Nat) (v : Int32) : mZ (sI M a j v) = mZ M := rfl
theorem mK_sI (M : MM) (a j : Nat) (v : Int32) : mK (sI M a j v) = mK M := rfl
theorem mN_sI (M : MM) (a j : Nat) (v : Int32) : mN (sI M a j v) = mN M := rfl
theorem mL_sI (M : MM) (a j : Nat) (v : Int32) : mL (sI M a j v) = mL M := rfl
theorem mR_sI (M : MM) (a j : Nat) (v : Int32) : mR (sI M a j v) = mR M := rfl
theorem mZ_sL (M : MM) (a j : Nat) (v : Int64) : mZ (sL M a j v) = mZ M := rfl
theorem mK_sL (M : MM) (a j : Nat) (v : Int64) : mK (sL M a j v) = mK M := rfl
theorem mN_sL (M : MM) (a j : Nat) (v : Int64) : mN (sL M a j v) = mN M := rfl
theorem mI_sL (M : MM) (a j : Nat) (v : Int64) : mI (sL M a j v) = mI M := rfl
theorem mR_sL (M : MM) (a j : Nat) (v : Int64) : mR (sL M a j v) = mR M := rfl
theorem mZ_sR (M : MM) (a j : Nat) (v : Option Nat) : mZ (sR M a j v) = mZ M := rfl
theorem mK_sR (M : MM) (a j : Nat) (v : Option Nat) : mK (sR M a j v) = mK M := rfl
theorem mN_sR (M : MM) (a j : Nat) (v : Option Nat) : mN (sR M a j v) = mN M := rfl
theorem mI_sR (M : MM) (a j : Nat) (v : Option Nat) : mI (sR M a j v) = mI M := rfl
theorem mL_sR (M : MM) (a j : Nat) (v : Option Nat) : mL (sR M a j v) = mL M := rfl
theorem mI_sI (M : MM) (a j b i : Nat) (v : Int32) : mI (sI M a j v) b i = if b = a ∧ i = j then v else mI M b i := rfl
theorem mL_sL (M : MM) (a j b i : Nat) (v : Int64) : mL (sL M a j v) b i = if b = a ∧ i = j then v else mL M b i := rfl
theorem mR_sR (M : MM) (a j b i : Nat) (v : Option Nat) : mR (sR M a j v) b i = if b = a ∧ i = j then v else mR M b i := rfl
theorem mI_sIs (M : MM) (a j : Nat) (v : Int32) : mI (sI M a j v) a j = v := by simp [mI_sI]
theorem mL_sLs (M : MM) (a j : Nat) (v : Int64) : mL (sL M a j v) a j = v := by simp [mL_sL]
theorem mR_sRs (M : MM) (a j : Nat) (v : Option Nat) : mR (sR M a j v) a j = v := by simp [mR_sR]
theorem mI_sIa {M : MM} {a j b i : Nat} {v : Int32} (h : b ≠ a) : mI (sI M a j v) b i = mI M b i := by simp [mI_sI, h]
theorem mI_sIj {M : MM} {a j b i : Nat} {v : Int32} (h : i ≠ j) : mI (sI M a j v) b i = mI M b i := by simp [mI_sI, h]
theorem mL_sLa {M : MM} {a j b i : Nat} {v : Int64} (h : b ≠ a) : mL (sL M a j v) b i = mL M b i := by simp [mL_sL, h]
theorem mL_sLj {M : MM} {a j b i : Nat} {v : Int64} (h : i ≠ j) : mL (sL M a j v) b i = mL M b i := by simp [mL_sL, h]
theorem mR_sRa {M : MM} {a j b i : Nat} {v : Option Nat} (h : b ≠ a) : mR (sR M a j v) b i = mR M b i := by simp [mR_sR, h]
theorem mR_sRj {M : MM} {a j b i : Nat} {v : Option Nat} (h : i ≠ j) : mR (sR M a j v) b i = mR M b i := by simp [mR_sR, h]
theorem mZ_nw (M : MM) (t n : Nat) : mZ (nw M t n) = mZ M + 1 := rfl
theorem mK_nw (M : MM) (t n b : Nat) : mK (nw M t n) b = if b = mZ M then t else mK M b := rfl
theorem mN_nw (M : MM) (t n b : Nat) : mN (nw M t n) b = if b = mZ M then n else mN M b := rfl
theorem mI_nw (M : MM) (t n b i : Nat) : mI (nw M t n) b i = if b = mZ M then 0 else mI M b i := rfl
theorem mL_nw (M : MM) (t n b i : Nat) : mL (nw M t n) b i = if b = mZ M then 0 else mL M b i := rfl
theorem mR_nw (M : MM) (t n b i : Nat) : mR (nw M t n) b i = if b = mZ M then none else mR M b i := rfl
/-! the classes by number: kind 20 + number -/
def clT : Nat → vw_C
  | 0 => (RX0, TX0, 23)
  | 1 => (RX1, TX1, 7)
  | 2 => (RX2, TX2, 8)
  | 3 => (RX3, TX3, 8)
  | 4 => (RX4, TX4, 1)
  | 5 => (RX5, TX5, 11)
  | 6 => (RX6, TX6, 113)
  | 7 => (RX7, TX7, 5)
  | 9 => (RX9, TX9, 2)
  | 10 => (RX10, TX10, 3)
  | 11 => (RX11, TX11, 1)
  | 12 => (RX12, TX12, 1)
  | 13 => (RX13, TX13, 3)
  | 15 => (RX15, TX15, 2)
  | 16 => (RX16, TX16, 1)
  | 18 => (RX18, TX18, 3)
  | 19 => (RX19, TX19, 5)
  | 20 => (RJ2, TJ2, 3)
  | 21 => (RJ15, TJ15, 4)
  | 22 => (RJ6, TJ6, 4)
  | _ => (RX17, TX4, 0)
def clY : Nat → Nat → FieldType
  | 0 => tyX0
  | 1 => tyX1
  | 2 => tyX2
  | 3 => tyX3
  | 4 => tyX4
  | 5 => tyX5
  | 6 => tyX6
  | 7 => tyX7
  | 9 => tyX9
  | 10 => tyX10
  | 11 => tyX11
  | 12 => tyX12
  | 13 => tyX13
  | 15 => tyX15
  | 16 => tyX16
  | 18 => tyX18
  | 19 => tyX19
  | 20 => tyJ2
  | 21 => tyJ15
  | 22 => tyJ6
  | _ => tyX4
theorem cl_cases {P : Nat → Prop} (h : P 0 ∧ P 1 ∧ P 2 ∧ P 3 ∧ P 4 ∧ P 5 ∧ P 6 ∧ P 7 ∧ P 8 ∧ P 9 ∧ P 10 ∧ P 11 ∧ P 12 ∧ P 13 ∧ P 14 ∧ P 15 ∧ P 16 ∧ P 17 ∧ P 18 ∧ P 19 ∧ P 20 ∧ P 21 ∧ P 22) (ci : Nat) (hc : ci < 23) : P ci := by
  obtain ⟨h0, h1, h2, h3, h4, h5, h6, h7, h8, h9, h10, h11, h12, h13, h14, h15, h16, h17, h18, h19, h20, h21, h22⟩ := h
  match ci, hc with
  | 0, _ => exact h0
  | 1, _ => exact h1
  | 2, _ => exact h2
  | 3, _ => exact h3
  | 4, _ => exact h4
  | 5, _ => exact h5
  | 6, _ => exact h6
  | 7, _ => exact h7
  | 8, _ => exact h8
  | 9, _ => exact h9
  | 10, _ => exact h10
  | 11, _ => exact h11
  | 12, _ => exact h12
  | 13, _ => exact h13
  | 14, _ => exact h14
  | 15, _ => exact h15
  | 16, _ => exact h16
  | 17, _ => exact h17
  | 18, _ => exact h18
  | 19, _ => exact h19
  | 20, _ => exact h20
  | 21, _ => exact h21
  | 22, _ => exact h22
  | n + 23, h => exact absurd h (by omega)
theorem cl_nil {C : String} {T : u_T} : ∀ w ∈ u_ws C T 0, w ∈ lw_all := fun w h => nomatch h
theorem cl_in : ∀ ci, ci < 23 → ∀ w ∈ u_ws (clT ci).1 (clT ci).2.1 (clT ci).2.2, w ∈ lw_all :=
  cl_cases (P := fun ci => ∀ w ∈ u_ws (clT ci).1 (clT ci).2.1 (clT ci).2.2, w ∈ lw_all) ⟨in_X0, in_X1, in_X2, in_X3, in_X4, in_X5, in_X6, in_X7, cl_nil, in_X9, in_X10, in_X11, in_X12, in_X13, cl_nil, in_X15, in_X16, cl_nil, in_X18, in_X19, in_J2, in_J15, in_J6⟩
theorem cl_ty : ∀ ci, ci < 23 → ∀ k, k < (clT ci).2.2 → parseFieldDescriptor ((clT ci).2.1 k).2.2.1 = some (clY ci k) :=
  cl_cases (P := fun ci => ∀ k, k < (clT ci).2.2 → parseFieldDescriptor ((clT ci).2.1 k).2.2.1 = some (clY ci k)) ⟨tyX0_ok, tyX1_ok, tyX2_ok, tyX3_ok, tyX4_ok, tyX5_ok, tyX6_ok, tyX7_ok, (fun k h => absurd h (Nat.not_lt_zero k)), tyX9_ok, tyX10_ok, tyX11_ok, tyX12_ok, tyX13_ok, (fun k h => absurd h (Nat.not_lt_zero k)), tyX15_ok, tyX16_ok, (fun k h => absurd h (Nat.not_lt_zero k)), tyX18_ok, tyX19_ok, tyJ2_ok, tyJ15_ok, tyJ6_ok⟩
theorem cl_nm : ∀ ci, ci < 23 → ∀ a, a < (clT ci).2.2 → ∀ b, b < (clT ci).2.2 → a ≠ b → ((clT ci).2.1 a).2.1 ≠ ((clT ci).2.1 b).2.1 :=
  cl_cases (P := fun ci => ∀ a, a < (clT ci).2.2 → ∀ b, b < (clT ci).2.2 → a ≠ b → ((clT ci).2.1 a).2.1 ≠ ((clT ci).2.1 b).2.1) ⟨nmX0, nmX1, nmX2, nmX3, nmX4, nmX5, nmX6, nmX7, (fun k h => absurd h (Nat.not_lt_zero k)), nmX9, nmX10, nmX11, nmX12, nmX13, (fun k h => absurd h (Nat.not_lt_zero k)), nmX15, nmX16, (fun k h => absurd h (Nat.not_lt_zero k)), nmX18, nmX19, nmJ2, nmJ15, nmJ6⟩
/-! element types of the array kinds 1 .. 9 -/
def arrTy : Nat → FieldType
  | 1 => .int
  | 2 => .long
  | 3 => .byte
  | 4 => .boolean
  | 5 => .char
  | 6 => .object "java/lang/Object"
  | 7 => .array .int
  | 8 => .object "Retouched$State"
  | _ => .object "java/lang/String"
def fc : FieldType → Nat
  | .long => 1
  | .object _ => 2
  | .array _ => 2
  | _ => 0
/-- the value of a place by the code of its type: 0 int, 1 long, 2 reference -/
def fv (M : MM) (a k : Nat) : Nat → Value
  | 0 => .int (mI M a k)
  | 1 => .long (mL M a k)
  | _ => va_rf (mR M a k)
/-! the run's fixed data: launch, base address, classes, slots, array classes, what else stays -/
abbrev GC : Type := Launch × Nat × (Nat → ClassId) × (Nat → Nat → Nat) × (Nat → ClassId) × (State → Heap → Prop)
def gl (g : GC) : Launch := g.1
def gb (g : GC) : Nat := g.2.1
def gC (g : GC) : Nat → ClassId := g.2.2.1
def gI (g : GC) : Nat → Nat → Nat := g.2.2.2.1
def gA (g : GC) : Nat → ClassId := g.2.2.2.2.1
def gE (g : GC) : State → Heap → Prop := g.2.2.2.2.2
/-- an old array's cell: its lock and its hash are not told -/
def Aw (c v : Cell) : Prop := c.cls = v.cls ∧ c.slots = v.slots ∧ c.vm.isStatics = false ∧ c.vm ≠ .unknown
theorem Aw.rf {cA : ClassId} {n : Nat} {z : Nat → Value} : Aw (arrV cA n z) (arrV cA n z) := ⟨rfl, rfl, rfl, fun h => by cases h⟩
/-- an object's cell; an old String's machine part is not told -/
def ObW (g : GC) (a ci : Nat) (H : Heap) (V : Nat → Value) : Prop := ∃ cell : Cell, H[a]? = some cell ∧ cell.cls = gC g ci ∧ (cell.vm.isStatics = false ∧ cell.vm ≠ .unknown ∧ (ci ≠ 22 ∨ gb g ≤ a → cell.vm = .none)) ∧ ∀ k, k < (clT ci).2.2 → cell.slots[gI g ci k]? = some (V k)
theorem ObW.of {g : GC} {a ci : Nat} {H : Heap} {V : Nat → Value} (h : t_OB a (gC g ci) (clT ci).2.2 (gI g ci) H V) : ObW g a ci H V := by
  obtain ⟨cell, q1, q2, q3, q4⟩ := h
  exact ⟨cell, q1, q2, ⟨by rw [q3]; rfl, (fun h => by rw [q3] at h; cases h), fun _ => q3⟩, q4⟩
/-- the heap holds the memory -/
def Hd (g : GC) (M : MM) (H : Heap) : Prop := mZ M = H.size ∧ ∀ a : Nat, (1 ≤ mK M a → mK M a ≤ 9 → ∃ cell : Cell, H[a]? = some cell ∧ Aw cell (arrV (gA g (mK M a)) (mN M a) (fun j => fv M a j (fc (arrTy (mK M a))))) ∧ (gb g ≤ a → cell = arrV (gA g (mK M a)) (mN M a) (fun j => fv M a j (fc (arrTy (mK M a)))))) ∧ ∀ ci, mK M a = 20 + ci → ci < 23 ∧ ObW g a ci H (fun k => fv M a k (fc (clY ci k)))
def GS (g : GC) (s : State) : Prop := (∀ ci, ci < 23 → u_Kn s (clT ci).1 (clT ci).2.1 (clT ci).2.2 (gC g ci) (gI g ci)) ∧ (∀ t, 1 ≤ t → t ≤ 9 → ArrOfT s (gA g t) (arrTy t) ∧ va_RA s (gA g t) (arrTy t)) ∧ ∀ (s1 U : State) (H H' : Heap), s1.WarmedH U.vm → (∀ q, q < gb g → H'[q]? = H[q]?) → gE g s1 H → gE g U H'
theorem GS.moved {g : GC} {u U : State} (hvm : u.vm.Alike U.vm) (h : GS g u) : GS g U := ⟨fun ci hc => u_Kn_moved hvm (h.1 ci hc), fun t h1 h2 => ⟨arrOfT_moved hvm (h.2.1 t h1 h2).1, (h.2.1 t h1 h2).2.moved hvm⟩, h.2.2⟩
/-- locals by place; none: not known -/
def lg : List (Option Value) → Nat → Option Value
  | [], _ => none
  | x :: _, 0 => x
  | _ :: t, n + 1 => lg t n
def lst : List (Option Value) → Nat → Option Value → List (Option Value)
  | [], _, _ => []
  | _ :: t, 0, v => v :: t
  | x :: t, n + 1, v => x :: lst t n v
def LV (ls : Array Slot) (nL : Nat) (lv : List (Option Value)) : Prop := ls.size = nL ∧ lv_wf ls ∧ ∀ (i : Nat) (v : Value), lg lv i = some v → ls[i]? = some (.val v)
def Cx (g : GC) (y : MethodName) (cc : ByteArray) (nL : Nat) (rt : Option FieldType) (hh : List (Nat × Nat × Nat × Nat)) (p : Program) (s : State) (m : MethodId) (args : Array Value) (meth : Method) (c : Code) : Prop :=
  p.tables.exec = Jvm.exec ∧ c.code = cc ∧ c.maxLocals = nL ∧ meth.sig.returnType = rt ∧ meth.locks = false ∧ meth.name = y.name ∧ s.vm.findClass y.cls = some m.cls ∧ (∀ w ∈ lw_all, w.before args s = true) ∧ GS g s ∧ c.exceptionTable.toList = tableOf hh
def Hx (g : GC) (M : MM) (s : State) (H : Heap) (locs : List Loc) : Prop := Hd g M H ∧ s.heap.size ≤ H.size ∧ (∀ q, q < gb g → H[q]? = s.heap[q]?) ∧ (∀ q ∈ locs, gb g ≤ q.base) ∧ gb g ≤ s.heap.size ∧ gE g s H
def QQ (g : GC) (Q : Option Value → MM → Prop) : Array Value → State → Outcome → State → Prop := fun _ st o t => (∃ v M', o = .returned v ∧ Q v M' ∧ Hd g M' t.heap) ∧ st.heap.size ≤ t.heap.size ∧ ∀ q, q < gb g → t.heap[q]? = st.heap[q]?
def XX (g : GC) (X : Nat → MM → Prop) : String → Addr → State → State → Prop := fun E q st t => E = RX3 ∧ (∃ M', X q M' ∧ Hd g M' t.heap) ∧ st.heap.size ≤ t.heap.size ∧ ∀ q, q < gb g → t.heap[q]? = st.heap[q]?
def rmm (d mc ms : Nat) : Room := { frames := d, cells := mc, slots := ms, locals := 64 * d }
/-- THE BODY's JUDGEMENT: at pc with locals lv, stack st, memory M, with kc cells and ks slots to spend and d frames: it ends with Q or throws with X -/
def Bd (g : GC) (y : MethodName) (cc : ByteArray) (nL : Nat) (rt : Option FieldType) (hh : List (Nat × Nat × Nat × Nat)) (d kc ks : Nat) (M : MM) (pc : Nat) (lv : List (Option Value)) (st : List Value) (Q : Option Value → MM → Prop) (X : Nat → MM → Prop) : Prop :=
  ∀ (p : Program) (e : Env) (s : State) (m : MethodId) (args : Array Value) (below : List Frame) (meth : Method) (c : Code) (H : Heap) (locs : List Loc) (cells slots mc ms : Nat) (ls : Array Slot),
    Cx g y cc nL rt hh p s m args meth c → Hx g M s H locs → LV ls nL lv → cells + kc ≤ mc → slots + ks ≤ ms →
    W p (gl g) e (rmm d mc ms) s m args below meth c H locs cells slots (vx_MQ below (QQ g Q) (XX g X) args s mc ms (fun q => gb g ≤ q)) (F0 m pc ls st)
/-- THE CONTRACT of a method at these arguments and this memory: Q of what it answers and the memory behind it, X of what it throws -/
def PcM (g : GC) (as : List Value) (M : MM) : Array Value → State → Prop := fun v U => v = as.toArray ∧ GS g U ∧ Hd g M U.heap ∧ gb g ≤ U.heap.size ∧ gE g U U.heap
def Ct (g : GC) (y : MethodName) (cc : ByteArray) (nL : Nat) (rt : Option FieldType) (d mc ms : Nat) (as : List Value) (M : MM) (Q : Option Value → MM → Prop) (X : Nat → MM → Prop) : Prop :=
  vx_Met (gl g) y (ws_ y cc nL rt) (rmm d mc ms) (PcM g as M) (QQ g Q) (XX g X) mc ms (fun q => gb g ≤ q)
def noX : Nat → MM → Prop := fun _ _ => False
theorem PcM.blind {g : GC} {as : List Value} {M : MM} : FrameBlind (PcM g as M) := by
  intro a U f mk h
  obtain ⟨h1, h2, h3, h4, h5⟩ := h
  refine ⟨h1, GS.moved (u := U) (U := U.calling f mk a) (Vm.Alike.refl U.vm) h2, h3, h4, ?_⟩
  exact h2.2.2 U (U.calling f mk a) U.heap U.heap (State.WarmedH.refl U) (fun _ _ => rfl) h5
