set_option maxRecDepth 100000
/-! THE START: words of the tables stay -/
def nwOk (w : Cond) : Bool := match w with
  | .interfaceMethod r o n d => (Cond.interfaceMethod r o n d).faceAtom
  | _ => true
theorem nw_warm {s U : State} (hW : s.WarmedH U.vm) : ∀ {w : Cond}, w.onTables = true → nwOk w = true → va_Nw w s → va_Nw w U := by
  intro w hw hn h
  have key : w.keeps = true → va_Nw w U := fun hk => va_tabs hw (rfl : (s.setVm U.vm).vm = U.vm) (Cond.onTables_warm (T := s) (args' := #[]) hW hw hk h)
  have key2 : w.faceAtom = true → va_Nw w U := fun hk => va_tabs hw (rfl : (s.setVm U.vm).vm = U.vm) (Cond.faceAtom_setVm (args := #[]) hW.alike w hk h)
  cases w <;> first | (exact key rfl) | (exact key2 rfl) | (exact key2 hn) | (exact va_Nw.warmF hW h) | (exact va_Nw.warmM hW h) | (exact absurd hw (by simp [Cond.onTables]))
theorem tbl_ok : lw_tbl.all nwOk = true := by decide +kernel
/-- what stays: the tables only grow warmer, the old cells stand -/
def gE0 (s : State) (n : Nat) : State → Heap → Prop := fun u H => s.WarmedH u.vm ∧ ∀ q, q < n → H[q]? = s.heap[q]?
theorem gE0_stays {s s1 U : State} {n : Nat} {H H' : Heap} (hW : s1.WarmedH U.vm) (hl : ∀ q, q < n → H'[q]? = H[q]?) (h : gE0 s n s1 H) : gE0 s n U H' := ⟨State.WarmedH.trans h.1 hW, fun q hq => (hl q hq).trans (h.2 q hq)⟩
/-- the run's fixed data -/
def g0 (l : Launch) (s : State) (cC : Nat → ClassId) (iS : Nat → Nat → Nat) (cA : Nat → ClassId) : GC := (l, s.heap.size, cC, iS, cA, gE0 s s.heap.size)
section X112
variable {l : Launch} {s : State} {cC : Nat → ClassId} {iS : Nat → Nat → Nat} {cA : Nat → ClassId} {b : Nat}
theorem gx0 (hts : ∀ w ∈ lw_tbl, w.before #[Value.ref b] s = true) : GX (g0 l s cC iS cA) := fun w hw hT u H hE => nw_warm hE.1 hT (List.all_eq_true.mp tbl_ok w hw) (va_tabs hT rfl (hts w hw))
theorem go0 (hts : ∀ w ∈ lw_tbl, w.before #[Value.ref b] s = true) : GO (g0 l s cC iS cA) := fun t hw u H hE => by
  have h0 : (Cond.arrayOver t).before #[] s = true := hts _ hw
  have h1 : (Cond.arrayOver t).before #[] (s.setVm u.vm) = true := by rw [Cond.arrayOver_setVmC hE.1.alike]; exact h0
  exact h1
end X112
