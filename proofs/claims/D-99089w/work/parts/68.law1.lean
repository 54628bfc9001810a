set_option maxRecDepth 100000
/-! LAW 1: the model's way with sums comes to what the descent reads -/
section Law1
variable {f : Nat → Nat} {n x : Nat}
theorem Ends.step {c d : Cf} {r : Ou} (h : stpC f n x c = .inl d) (he : Ends f n x d r) : Ends f n x c r := by
  obtain ⟨k, hk⟩ := he
  refine ⟨k + 1, ?_⟩
  show (match stpC f n x c with | .inl d => runC f n x k d | .inr r => some r) = _
  rw [h]; exact hk
theorem Ends.done {c : Cf} {r : Ou} (h : stpC f n x c = .inr r) : Ends f n x c r := by
  refine ⟨1, ?_⟩
  show (match stpC f n x c with | .inl d => runC f n x 0 d | .inr r => some r) = _
  rw [h]
theorem Ends.same {c c' : Cf} {r : Ou} (h : stpC f n x c = stpC f n x c') (he : Ends f n x c' r) : Ends f n x c r := by
  obtain ⟨k, hk⟩ := he
  refine ⟨k, ?_⟩
  cases k with
  | zero => cases hk
  | succ k =>
    show (match stpC f n x c with | .inl d => runC f n x k d | .inr r => some r) = _
    rw [h]; exact hk
/-- no sign of a sum at a -/
def noOp (f : Nat → Nat) (n a : Nat) : Prop := opM f n a = none ∧ opA f n a = none
theorem opM_skip (a : Nat) : opM f n (skip f n a) = opM f n a := by unfold opM; rw [lookO_skip, skip_idem]
theorem opA_skip (a : Nat) : opA f n (skip f n a) = opA f n a := by unfold opA; rw [lookO_skip, skip_idem]
theorem stpA_skip (a : Nat) (cs V : List Nat) (op : Nat) : stpA f n (skip f n a) cs V op = stpA f n a cs V op := by
  unfold stpA; rw [lookO_skip, skip_idem, opM_skip, opA_skip]
theorem popW_no {g : Nat → Bool} {V : List Nat} (h : ∀ v, V.head? = some v → g v = false) : popW g V = ([], V) := by
  cases V with
  | nil => rfl
  | cons v V => unfold popW; rw [if_neg (by rw [h v rfl]; simp)]
theorem popW_app {g : Nat → Bool} : ∀ {P V : List Nat}, (∀ v ∈ P, g v = true) → popW g (P ++ V) = (P ++ (popW g V).1, (popW g V).2)
  | [], V, _ => rfl
  | p :: P, V, h => by
    have ih := popW_app (g := g) (P := P) (V := V) (fun v hv => h v (List.mem_cons_of_mem _ hv))
    show (if g p = true then (p :: (popW g (P ++ V)).1, (popW g (P ++ V)).2) else _) = _
    rw [if_pos (h p List.mem_cons_self), ih]; rfl
/-- what waits of a sum: signs -/
def pend (P : List Nat) : Prop := ∀ v ∈ P, v = 1 ∨ v = 2 ∨ v = 3 ∨ v = 4
theorem pend.gB {P : List Nat} (h : pend P) : ∀ v ∈ P, gB v = true := fun v hv => by rcases h v hv with e | e | e | e <;> subst e <;> rfl
theorem pend.gO {P V : List Nat} (h : pend P) (hP : P ≠ []) : popW gO (P ++ V) = ([], P ++ V) := by
  refine popW_no (fun v hv => ?_)
  cases P with
  | nil => exact absurd rfl hP
  | cons p P =>
    obtain rfl : p = v := Option.some.inj hv
    rcases h p List.mem_cons_self with e | e | e | e <;> subst e <;> rfl
theorem brk_app {P V : List Nat} (h : pend P) : brk (P ++ V) = brk V := by unfold brk; rw [popW_app h.gB]
theorem flush {a op : Nat} {cs P V : List Nat} (h : pend P) (ho : noOp f n a) : stpA f n a cs (P ++ V) op = stpA f n a (cs ++ P) V op := by
  unfold stpA clC clB
  rw [brk_app h, popW_app h.gB, ho.1, ho.2]
  simp only [List.append_assoc]
/-- a bracket on top, or nothing -/
def topB (V : List Nat) : Prop := ∀ v, V.head? = some v → isBr v = true
theorem topB.pM {V : List Nat} (h : topB V) : popW gM V = ([], V) := popW_no (fun v hv => by
  have := h v hv
  unfold isBr at this
  have : 20 ≤ v ∧ v ≤ 24 := by simpa using this
  unfold gM; simp; omega)
theorem topB.pS {V : List Nat} (h : topB V) : popW gS4 V = ([], V) := popW_no (fun v hv => by
  have := h v hv
  unfold isBr at this
  have : 20 ≤ v ∧ v ≤ 24 := by simpa using this
  unfold gS4; simp; omega)
theorem topB.gBr {V : List Nat} (h : topB V) : popW gB V = ([], V) := popW_no (fun v hv => by unfold gB; rw [h v hv]; rfl)
/-- the pile behind a part -/
def aft (b : Nat) (cs V : List Nat) (op : Nat) : Cf := (false, b, cs ++ (popW gO V).1, (popW gO V).2, op - (popW gO V).1.length)
def atomSim (f : Nat → Nat) (n x o : Nat) : Prop := ∀ (a op : Nat) (cs V : List Nat), op + o = 6 → match atomP f n x o a with
  | .error e => Ends f n x (true, a, cs, V, op) (.error e)
  | .ok y => ∀ r, Ends f n x (aft y.2 (cs ++ y.1) V op) r → Ends f n x (true, a, cs, V, op) r
theorem aft_pend {b op : Nat} {cs P V : List Nat} (h : pend P) (hP : P ≠ []) : aft b cs (P ++ V) op = (false, b, cs, P ++ V, op) := by
  unfold aft; rw [h.gO hP]; simp
theorem aft_top {b op : Nat} {cs V : List Nat} (h : topB V) : aft b cs V op = (false, b, cs, V, op) := by
  unfold aft
  rw [popW_no (fun v hv => by
    have := h v hv
    unfold isBr at this
    have : 20 ≤ v ∧ v ≤ 24 := by simpa using this
    unfold gO; simp; omega)]
  simp
theorem opM_lt {a : Nat} {y : Nat × Nat} (h : opM f n a = some y) : (y.1 = 3 ∨ y.1 = 4) ∧ y.2 = skip f n a + 1 := by
  unfold opM at h
  split at h
  · cases h; exact ⟨Or.inl rfl, rfl⟩
  · split at h
    · cases h; exact ⟨Or.inr rfl, rfl⟩
    · cases h
theorem opA_lt {a : Nat} {y : Nat × Nat} (h : opA f n a = some y) : (y.1 = 1 ∨ y.1 = 2) ∧ y.2 = skip f n a + 1 := by
  unfold opA at h
  split at h
  · cases h; exact ⟨Or.inl rfl, rfl⟩
  · split at h
    · cases h; exact ⟨Or.inr rfl, rfl⟩
    · cases h
theorem opM_41 {a : Nat} {y : Nat × Nat} (h : opM f n a = some y) : lookO f n a ≠ some 41 := by
  unfold opM at h
  intro q; rw [q] at h; simp at h
theorem opA_41 {a : Nat} {y : Nat × Nat} (h : opA f n a = some y) : lookO f n a ≠ some 41 := by
  unfold opA at h
  intro q; rw [q] at h; simp at h
theorem opA_M {a : Nat} {y : Nat × Nat} (h : opA f n a = some y) : opM f n a = none := by
  unfold opA at h; unfold opM
  split at h
  · next q => rw [q]; simp
  · split at h
    · next q => rw [q]; simp
    · cases h
/-- what multiplies is read: mm waits, or nothing; then A; then a bracket -/
def isMm (m : List Nat) : Prop := m = [] ∨ m = [3] ∨ m = [4]
def isAa (m : List Nat) : Prop := m = [] ∨ m = [1] ∨ m = [2]
theorem isMm.pend {m A : List Nat} (h : isMm m) (h2 : isAa A) : pend (m ++ A) := by
  rcases h with e | e | e <;> rcases h2 with e2 | e2 | e2 <;> subst e <;> subst e2 <;> (intro v hv; simp at hv; try omega)
theorem pop_m {m A V : List Nat} (h : isMm m) (h2 : isAa A) (hV : topB V) : popW gM (m ++ A ++ V) = (m, A ++ V) := by
  have e1 : popW gM (A ++ V) = ([], A ++ V) := by
    rcases h2 with e | e | e <;> subst e
    · exact hV.pM
    · rfl
    · rfl
  rw [List.append_assoc, popW_app (fun v hv => by rcases h with e | e | e <;> subst e <;> simp at hv <;> subst hv <;> rfl), e1]
  simp
theorem pop_s {m A V : List Nat} (h : isMm m) (h2 : isAa A) (hV : topB V) : popW gS4 (m ++ A ++ V) = (m ++ A, V) := by
  have hg : ∀ v ∈ m ++ A, gS4 v = true := fun v hv => by rcases h.pend h2 v hv with e | e | e | e <;> subst e <;> rfl
  rw [popW_app hg, hV.pS]
  simp
theorem mulSim {o : Nat} (ho : atomSim f n x o) {op : Nat} (hop : op + o = 6) {A V C0 : List Nat} (hA : isAa A) (hV : topB V) :
    ∀ (k b : Nat) (acc C m : List Nat), n < b + k → isMm m → C ++ m = C0 ++ acc → match loopP f n (atomP f n x o) (opM f n) k acc b with
      | .error e => Ends f n x (false, b, C, m ++ A ++ V, op) (.error e)
      | .ok y => ∀ r, (∀ C' m', isMm m' → C' ++ m' = C0 ++ y.1 → opM f n y.2 = none → Ends f n x (false, y.2, C', m' ++ A ++ V, op) r) → Ends f n x (false, b, C, m ++ A ++ V, op) r := by
  intro k
  induction k with
  | zero =>
    intro b acc C m hb hm hC r hr
    have hs : lookO f n b = none := by unfold lookO; rw [if_neg (by have := skip_ge f n b; omega)]
    exact hr C m hm hC (by unfold opM; rw [hs]; simp)
  | succ k ih =>
    intro b acc C m hb hm hC
    show match (match opM f n b with
      | none => .ok (acc, skip f n b)
      | some y => thn (atomP f n x o y.2) (fun ds b => loopP f n (atomP f n x o) (opM f n) k (acc ++ (ds ++ [y.1])) b) : Rz) with
      | .error e => _
      | .ok y => _
    cases h1 : opM f n b with
    | none =>
      intro r hr
      have hr := hr C m hm hC (by rw [← h1]; exact opM_skip b)
      refine Ends.same ?_ hr
      exact (stpA_skip b C (m ++ A ++ V) op).symm
    | some y =>
      obtain ⟨y1, y2⟩ := opM_lt h1
      have hst : stpC f n x (false, b, C, m ++ A ++ V, op) = .inl (true, y.2, C ++ m, y.1 :: (A ++ V), op) := by
        show stpA f n b C (m ++ A ++ V) op = _
        unfold stpA
        rw [if_neg (fun q => opM_41 h1 q.1), h1]
        show Sum.inl (true, y.2, C ++ (popW gM (m ++ A ++ V)).1, y.1 :: (popW gM (m ++ A ++ V)).2, op) = _
        rw [pop_m hm hA hV]
      have hm2 : isMm [y.1] := by rcases y1 with e | e <;> rw [e]; exact Or.inr (Or.inl rfl); exact Or.inr (Or.inr rfl)
      have hat := ho y.2 op (C ++ m) ([y.1] ++ (A ++ V)) hop
      show match thn (atomP f n x o y.2) (fun ds b => loopP f n (atomP f n x o) (opM f n) k (acc ++ (ds ++ [y.1])) b) with
        | .error e => _
        | .ok y => _
      cases h2 : atomP f n x o y.2 with
      | error e => rw [h2] at hat; exact Ends.step hst hat
      | ok z =>
        rw [h2] at hat
        have hz : ∀ r, Ends f n x (false, z.2, C ++ m ++ z.1, [y.1] ++ A ++ V, op) r → Ends f n x (false, b, C, m ++ A ++ V, op) r := by
          intro r hr
          refine Ends.step hst (hat r ?_)
          rw [aft_pend (by have := hm2.pend (Or.inl rfl : isAa []); simpa using this) (by simp)]
          simpa using hr
        have hb2 : n < z.2 + k := by
          have := (atomP_prg o _ _ h2).1
          have := (opM_ok h1).1
          have := skip_ge f n b
          omega
        have hih := ih z.2 (acc ++ (z.1 ++ [y.1])) (C ++ m ++ z.1) [y.1] hb2 hm2 (by rw [hC]; simp)
        show match loopP f n (atomP f n x o) (opM f n) k (acc ++ (z.1 ++ [y.1])) z.2 with
          | .error e => _
          | .ok y => _
        cases h3 : loopP f n (atomP f n x o) (opM f n) k (acc ++ (z.1 ++ [y.1])) z.2 with
        | error e => rw [h3] at hih; exact hz _ hih
        | ok w => rw [h3] at hih; exact fun r hr => hz r (hih r hr)
theorem addSim {o : Nat} (ho : atomSim f n x o) {op : Nat} (hop : op + o = 6) {V C0 : List Nat} (hV : topB V) :
    ∀ (k b : Nat) (acc C m A : List Nat), n < b + k → isMm m → isAa A → C ++ m ++ A = C0 ++ acc → opM f n b = none → match loopP f n (prodP f n (atomP f n x o)) (opA f n) k acc b with
      | .error e => Ends f n x (false, b, C, m ++ A ++ V, op) (.error e)
      | .ok y => ∀ r, (noOp f n y.2 → Ends f n x (false, y.2, C0 ++ y.1, V, op) r) → Ends f n x (false, b, C, m ++ A ++ V, op) r := by
  intro k
  induction k with
  | zero =>
    intro b acc C m A hb hm hA hC hM r hr
    have hs : lookO f n b = none := by unfold lookO; rw [if_neg (by have := skip_ge f n b; omega)]
    have hno : noOp f n b := ⟨hM, by unfold opA; rw [hs]; simp⟩
    have hr := hr hno
    refine Ends.same ?_ hr
    show stpA f n b C (m ++ A ++ V) op = stpA f n b (C0 ++ acc) V op
    rw [flush (hm.pend hA) hno, ← hC, List.append_assoc]
  | succ k ih =>
    intro b acc C m A hb hm hA hC hM
    show match (match opA f n b with
      | none => .ok (acc, skip f n b)
      | some y => thn (prodP f n (atomP f n x o) y.2) (fun ds b => loopP f n (prodP f n (atomP f n x o)) (opA f n) k (acc ++ (ds ++ [y.1])) b) : Rz) with
      | .error e => _
      | .ok y => _
    cases h1 : opA f n b with
    | none =>
      intro r hr
      have hno : noOp f n b := ⟨hM, h1⟩
      have hr := hr ⟨(opM_skip b).trans hM, (opA_skip b).trans h1⟩
      refine Ends.same ?_ hr
      show stpA f n b C (m ++ A ++ V) op = stpA f n (skip f n b) (C0 ++ acc) V op
      rw [flush (hm.pend hA) hno, stpA_skip, ← hC, List.append_assoc]
    | some y =>
      obtain ⟨y1, y2⟩ := opA_lt h1
      have hst : stpC f n x (false, b, C, m ++ A ++ V, op) = .inl (true, y.2, C ++ (m ++ A), y.1 :: V, op) := by
        show stpA f n b C (m ++ A ++ V) op = _
        unfold stpA
        rw [if_neg (fun q => opA_41 h1 q.1), hM, h1]
        show Sum.inl (true, y.2, C ++ (popW gS4 (m ++ A ++ V)).1, y.1 :: (popW gS4 (m ++ A ++ V)).2, op) = _
        rw [pop_s hm hA hV]
      have hA2 : isAa [y.1] := by rcases y1 with e | e <;> rw [e]; exact Or.inr (Or.inl rfl); exact Or.inr (Or.inr rfl)
      have hat := ho y.2 op (C ++ (m ++ A)) ([y.1] ++ V) hop
      show match thn (thn (atomP f n x o y.2) (fun cs b => loopP f n (atomP f n x o) (opM f n) (n + 1) cs b)) (fun ds b => loopP f n (prodP f n (atomP f n x o)) (opA f n) k (acc ++ (ds ++ [y.1])) b) with
        | .error e => _
        | .ok y => _
      cases h2 : atomP f n x o y.2 with
      | error e => rw [h2] at hat; exact Ends.step hst hat
      | ok z =>
        rw [h2] at hat
        have hz : ∀ r, Ends f n x (false, z.2, C ++ (m ++ A) ++ z.1, [] ++ [y.1] ++ V, op) r → Ends f n x (false, b, C, m ++ A ++ V, op) r := by
          intro r hr
          refine Ends.step hst (hat r ?_)
          rw [aft_pend (by have := isMm.pend (Or.inl rfl : isMm []) hA2; simpa using this) (by simp)]
          simpa using hr
        have hmul := mulSim ho hop hA2 hV (C0 := C ++ (m ++ A)) (n + 1) z.2 z.1 (C ++ (m ++ A) ++ z.1) [] (by omega) (Or.inl rfl) (by simp)
        show match thn (loopP f n (atomP f n x o) (opM f n) (n + 1) z.1 z.2) (fun ds b => loopP f n (prodP f n (atomP f n x o)) (opA f n) k (acc ++ (ds ++ [y.1])) b) with
          | .error e => _
          | .ok y => _
        cases h3 : loopP f n (atomP f n x o) (opM f n) (n + 1) z.1 z.2 with
        | error e => rw [h3] at hmul; exact hz _ hmul
        | ok w =>
          rw [h3] at hmul
          have hw := loopP_ok (atomP_prg (x := x) o) (fun a y => opM_ok) _ _ _ _ h3 (atomP_prg o _ _ h2).2.1
          have hb2 : n < w.2 + k := by
            have := (atomP_prg o _ _ h2).1
            have := (opA_ok h1).1
            omega
          have hih : ∀ C' m', isMm m' → C' ++ m' = C ++ (m ++ A) ++ w.1 → opM f n w.2 = none → _ := fun C' m' g1 g2 g3 => ih w.2 (acc ++ (w.1 ++ [y.1])) C' m' [y.1] hb2 g1 hA2 (by rw [g2]; rw [List.append_assoc] at hC; rw [hC]; simp) g3
          show match loopP f n (prodP f n (atomP f n x o)) (opA f n) k (acc ++ (w.1 ++ [y.1])) w.2 with
            | .error e => _
            | .ok y => _
          cases h4 : loopP f n (prodP f n (atomP f n x o)) (opA f n) k (acc ++ (w.1 ++ [y.1])) w.2 with
          | error e =>
            refine hz _ (hmul _ (fun C' m' g1 g2 g3 => ?_))
            have := hih C' m' g1 g2 g3
            rw [h4] at this; exact this
          | ok v =>
            intro r hr
            refine hz _ (hmul _ (fun C' m' g1 g2 g3 => ?_))
            have := hih C' m' g1 g2 g3
            rw [h4] at this; exact this r hr
def sumSim (f : Nat → Nat) (n x o : Nat) : Prop := ∀ (a op : Nat) (cs V : List Nat), op + o = 6 → topB V → match sumP f n (atomP f n x o) a with
  | .error e => Ends f n x (true, a, cs, V, op) (.error e)
  | .ok y => ∀ r, (noOp f n y.2 → Ends f n x (false, y.2, cs ++ y.1, V, op) r) → Ends f n x (true, a, cs, V, op) r
theorem sumSim_of {o : Nat} (ho : atomSim f n x o) : sumSim f n x o := by
  intro a op cs V hop hV
  have hat := ho a op cs V hop
  show match thn (thn (atomP f n x o a) (fun cs b => loopP f n (atomP f n x o) (opM f n) (n + 1) cs b)) (fun ds b => loopP f n (prodP f n (atomP f n x o)) (opA f n) (n + 1) ds b) with
    | .error e => _
    | .ok y => _
  cases h2 : atomP f n x o a with
  | error e => rw [h2] at hat; exact hat
  | ok z =>
    rw [h2] at hat
    have hz : ∀ r, Ends f n x (false, z.2, cs ++ z.1, [] ++ [] ++ V, op) r → Ends f n x (true, a, cs, V, op) r := by
      intro r hr
      refine hat r ?_
      rw [aft_top hV]
      exact hr
    have hmul := mulSim ho hop (Or.inl rfl : isAa []) hV (C0 := cs) (n + 1) z.2 z.1 (cs ++ z.1) [] (by omega) (Or.inl rfl) (by simp)
    show match thn (loopP f n (atomP f n x o) (opM f n) (n + 1) z.1 z.2) (fun ds b => loopP f n (prodP f n (atomP f n x o)) (opA f n) (n + 1) ds b) with
      | .error e => _
      | .ok y => _
    cases h3 : loopP f n (atomP f n x o) (opM f n) (n + 1) z.1 z.2 with
    | error e => rw [h3] at hmul; exact hz _ hmul
    | ok w =>
      rw [h3] at hmul
      have hih : ∀ C' m', isMm m' → C' ++ m' = cs ++ w.1 → opM f n w.2 = none → _ := fun C' m' g1 g2 g3 => addSim ho hop hV (C0 := cs) (n + 1) w.2 w.1 C' m' [] (by omega) g1 (Or.inl rfl) (by rw [List.append_nil]; exact g2) g3
      show match loopP f n (prodP f n (atomP f n x o)) (opA f n) (n + 1) w.1 w.2 with
        | .error e => _
        | .ok y => _
      cases h4 : loopP f n (prodP f n (atomP f n x o)) (opA f n) (n + 1) w.1 w.2 with
      | error e =>
        refine hz _ (hmul _ (fun C' m' g1 g2 g3 => ?_))
        have := hih C' m' g1 g2 g3
        rw [h4] at this; exact this
      | ok v =>
        intro r hr
        refine hz _ (hmul _ (fun C' m' g1 g2 g3 => ?_))
        have := hih C' m' g1 g2 g3
        rw [h4] at this; exact this r hr
theorem topB_c {b : Nat} {V : List Nat} (h : 20 ≤ b ∧ b ≤ 24) : topB (b :: V) := fun v hv => by cases hv; unfold isBr; simp; exact h
theorem brk_c {b : Nat} {V : List Nat} (h : 20 ≤ b ∧ b ≤ 24) : brk (b :: V) = some b := by unfold brk; rw [(topB_c h).gBr]; rfl
theorem sgP_er {c a : Nat} {e : Nat × Nat} (h : sgP f n c a = .error e) : lookO f n a ≠ some c ∧ e = (1, skip f n a) := by
  unfold sgP at h
  split at h
  · cases h
  · next q => cases h; exact ⟨q, rfl⟩
/-- a bracket is closed -/
theorem stpA_cl {c d b op : Nat} {cs V : List Nat} (hb : b = 20 ∨ b = 23 ∨ b = 24) (hs : sgP f n 41 c = .ok d) :
    stpA f n c cs (b :: V) (op + 1) = .inl (aft d (cs ++ (if b = 20 then [] else if b = 23 then [5] else [6])) V op) := by
  obtain ⟨s1, s2, s3, s4⟩ := sgP_ok hs
  have hbr : brk (b :: V) = some b := brk_c (by omega)
  unfold stpA clC clB aft
  rw [hbr, (topB_c (show 20 ≤ b ∧ b ≤ 24 by omega)).gBr, if_pos ⟨s3, by rcases hb with e | e | e <;> simp [e]⟩, s4]
  rcases hb with e | e | e <;> subst e <;> simp
/-- it isn't, and must be -/
theorem stpA_er {c b op : Nat} {cs V : List Nat} {e : Nat × Nat} (hb : b = 20 ∨ b = 23 ∨ b = 24) (hs : sgP f n 41 c = .error e) (ho : noOp f n c) : stpA f n c cs (b :: V) op = .inr (.error e) := by
  obtain ⟨s1, rfl⟩ := sgP_er hs
  have hbr : brk (b :: V) = some b := brk_c (by omega)
  unfold stpA
  rw [if_neg (fun q => s1 q.1), ho.1, ho.2, hbr]
  show (if b = 21 ∨ b = 22 then _ else _ : Cf ⊕ Ou) = _
  rw [if_neg (by omega)]
theorem stpA_co {c d v op : Nat} {cs V : List Nat} (hv : v ≤ 1) (hs : sgP f n 44 c = .ok d) (ho : noOp f n c) : stpA f n c cs ((21 + v) :: V) op = .inl (true, d, cs, (23 + v) :: V, op) := by
  obtain ⟨s1, s2, s3, s4⟩ := sgP_ok hs
  have hbr : brk ((21 + v) :: V) = some (21 + v) := brk_c (by omega)
  unfold stpA
  rw [if_neg (fun q => by rw [s3] at q; exact absurd q.1 (by decide)), ho.1, ho.2, hbr]
  show (if 21 + v = 21 ∨ 21 + v = 22 then _ else _ : Cf ⊕ Ou) = _
  rw [if_pos (by omega), if_pos s3, (topB_c (show 20 ≤ 21 + v ∧ 21 + v ≤ 24 by omega)).gBr, s4]
  show Sum.inl (true, _, cs ++ [], (21 + v + 2) :: V, op) = _
  rw [List.append_nil, show 21 + v + 2 = 23 + v by omega]
theorem stpA_coe {c v op : Nat} {cs V : List Nat} {e : Nat × Nat} (hv : v ≤ 1) (hs : sgP f n 44 c = .error e) (ho : noOp f n c) : stpA f n c cs ((21 + v) :: V) op = .inr (.error e) := by
  obtain ⟨s1, rfl⟩ := sgP_er hs
  have hbr : brk ((21 + v) :: V) = some (21 + v) := brk_c (by omega)
  unfold stpA
  rw [hbr, if_neg (by rintro ⟨-, q | q | q⟩ <;> (have := Option.some.inj q; omega)), ho.1, ho.2]
  show (if 21 + v = 21 ∨ 21 + v = 22 then _ else _ : Cf ⊕ Ou) = _
  rw [if_pos (by omega), if_neg s1]
theorem atom_step {o : Nat} (r : Option (Nat → Rz)) (hr : ∀ it, r = some it → ∃ o', o = o' + 1 ∧ it = atomP f n x o' ∧ atomSim f n x o') (hr0 : r = none → o = 0) (a op : Nat) (cs V : List Nat) (hop : op + o = 6) : match atmK f n x r a with
  | .error e => Ends f n x (true, a, cs, V, op) (.error e)
  | .ok y => ∀ r', Ends f n x (aft y.2 (cs ++ y.1) V op) r' → Ends f n x (true, a, cs, V, op) r' := by
  have hsp : stpC f n x (true, a, cs, V, op) = stpP f n x a cs V op := rfl
  unfold atmK
  cases ht : aTok f n x (skip f n a) with
  | error e =>
    refine Ends.done ?_
    rw [hsp]; unfold stpP; rw [ht]
  | ok t =>
    obtain ⟨t1, t2, t3, t4⟩ := aTok_ok ht
    rcases t4 with k0 | ⟨k1, k2⟩ | ⟨k1, k2, -⟩ | k3
    · have hst : stpP f n x a cs V op = if op = 6 then .inr (.error (4, skip f n a)) else .inl (true, t.2.2, cs, 20 :: V, op + 1) := by
        unfold stpP; rw [ht]; show (if t.1 = 0 then _ else _ : Cf ⊕ Ou) = _; rw [if_pos k0]
      show match (if t.1 = 0 then _ else _ : Rz) with | .error e => _ | .ok y => _
      rw [if_pos k0]
      cases r with
      | none =>
        have := hr0 rfl
        exact Ends.done (by rw [hsp, hst, if_pos (by omega)])
      | some it =>
        obtain ⟨o', rfl, rfl, ho'⟩ := hr it rfl
        rw [if_neg (by omega)] at hst
        have hs := sumSim_of ho' t.2.2 (op + 1) cs (20 :: V) (by omega) (topB_c (by decide))
        show match thn (sumP f n (atomP f n x o') t.2.2) (fun cs c => fin cs (sgP f n 41 c)) with | .error e => _ | .ok y => _
        cases h2 : sumP f n (atomP f n x o') t.2.2 with
        | error e => rw [h2] at hs; exact Ends.step (hsp.trans hst) hs
        | ok z =>
          rw [h2] at hs
          show match fin z.1 (sgP f n 41 z.2) with | .error e => _ | .ok y => _
          cases h3 : sgP f n 41 z.2 with
          | error e => exact Ends.step (hsp.trans hst) (hs _ (fun hno => Ends.done (stpA_er (Or.inl rfl) h3 hno)))
          | ok d =>
            intro r' hr'
            refine Ends.step (hsp.trans hst) (hs _ (fun hno => Ends.step (stpA_cl (Or.inl rfl) h3) ?_))
            simpa using hr'
    · have hst : stpP f n x a cs V op = if lookO f n t.2.2 = some 40 then (if op = 6 then .inr (.error (4, skip f n t.2.2)) else .inl (true, skip f n t.2.2 + 1, cs, (21 + t.2.1) :: V, op + 1)) else .inr (.error (1, skip f n t.2.2)) := by
        unfold stpP; rw [ht]; show (if t.1 = 0 then _ else _ : Cf ⊕ Ou) = _; rw [if_neg (by omega), if_pos k1]
      show match (if t.1 = 0 then _ else _ : Rz) with | .error e => _ | .ok y => _
      rw [if_neg (by omega), if_pos k1]
      by_cases hl : lookO f n t.2.2 = some 40
      · rw [if_pos hl] at hst ⊢
        cases r with
        | none =>
          have := hr0 rfl
          exact Ends.done (by rw [hsp, hst, if_pos (by omega)])
        | some it =>
          obtain ⟨o', rfl, rfl, ho'⟩ := hr it rfl
          rw [if_neg (by omega)] at hst
          have hs := sumSim_of ho' (skip f n t.2.2 + 1) (op + 1) cs ((21 + t.2.1) :: V) (by omega) (topB_c (by omega))
          show match thn (sumP f n (atomP f n x o') (skip f n t.2.2 + 1)) (fun cs c => secP f n (atomP f n x o') t.2.1 cs (sgP f n 44 c)) with | .error e => _ | .ok y => _
          cases h2 : sumP f n (atomP f n x o') (skip f n t.2.2 + 1) with
          | error e => rw [h2] at hs; exact Ends.step (hsp.trans hst) hs
          | ok z =>
            rw [h2] at hs
            show match secP f n (atomP f n x o') t.2.1 z.1 (sgP f n 44 z.2) with | .error e => _ | .ok y => _
            cases h3 : sgP f n 44 z.2 with
            | error e => exact Ends.step (hsp.trans hst) (hs _ (fun hno => Ends.done (stpA_coe k2 h3 hno)))
            | ok d =>
              have hs2 := sumSim_of ho' d (op + 1) (cs ++ z.1) ((23 + t.2.1) :: V) (by omega) (topB_c (by omega))
              have hz : ∀ r', Ends f n x (true, d, cs ++ z.1, (23 + t.2.1) :: V, op + 1) r' → Ends f n x (true, a, cs, V, op) r' := fun r' hr' =>
                Ends.step (hsp.trans hst) (hs _ (fun hno => Ends.step (stpA_co k2 h3 hno) hr'))
              show match thn (sumP f n (atomP f n x o') d) (fun ds b => fin (z.1 ++ (ds ++ [5 + t.2.1])) (sgP f n 41 b)) with | .error e => _ | .ok y => _
              cases h4 : sumP f n (atomP f n x o') d with
              | error e => rw [h4] at hs2; exact hz _ hs2
              | ok w =>
                rw [h4] at hs2
                show match fin (z.1 ++ (w.1 ++ [5 + t.2.1])) (sgP f n 41 w.2) with | .error e => _ | .ok y => _
                have h24 : 23 + t.2.1 = 20 ∨ 23 + t.2.1 = 23 ∨ 23 + t.2.1 = 24 := by omega
                cases h5 : sgP f n 41 w.2 with
                | error e => exact hz _ (hs2 _ (fun hno => Ends.done (stpA_er h24 h5 hno)))
                | ok d2 =>
                  intro r' hr'
                  refine hz _ (hs2 _ (fun hno => Ends.step (stpA_cl h24 h5) ?_))
                  have hcd : (if 23 + t.2.1 = 20 then [] else if 23 + t.2.1 = 23 then [5] else [6] : List Nat) = [5 + t.2.1] := by
                    rw [if_neg (by omega)]
                    by_cases e : t.2.1 = 0
                    · rw [if_pos (by omega), e]
                    · rw [if_neg (by omega), show t.2.1 = 1 by omega]
                  rw [hcd]
                  simpa using hr'
      · rw [if_neg hl] at hst ⊢
        exact Ends.done (by rw [hsp, hst])
    · have hst : stpP f n x a cs V op = if op = 6 then .inr (.error (4, skip f n a)) else .inl (true, t.2.2, cs, (60 + t.2.1) :: V, op + 1) := by
        unfold stpP; rw [ht]; show (if t.1 = 0 then _ else _ : Cf ⊕ Ou) = _; rw [if_neg (by omega), if_neg (by omega), if_pos k1]
      show match (if t.1 = 0 then _ else _ : Rz) with | .error e => _ | .ok y => _
      rw [if_neg (by omega), if_neg (by omega), if_pos k1]
      cases r with
      | none =>
        have := hr0 rfl
        exact Ends.done (by rw [hsp, hst, if_pos (by omega)])
      | some it =>
        obtain ⟨o', rfl, rfl, ho'⟩ := hr it rfl
        rw [if_neg (by omega)] at hst
        have hs := ho' t.2.2 (op + 1) cs ((60 + t.2.1) :: V) (by omega)
        show match thn (atomP f n x o' t.2.2) (fun cs c => .ok (cs ++ [60 + t.2.1], c)) with | .error e => _ | .ok y => _
        cases h2 : atomP f n x o' t.2.2 with
        | error e => rw [h2] at hs; exact Ends.step (hsp.trans hst) hs
        | ok z =>
          rw [h2] at hs
          intro r' hr'
          refine Ends.step (hsp.trans hst) (hs _ ?_)
          have hp : popW gO ((60 + t.2.1) :: V) = ((60 + t.2.1) :: (popW gO V).1, (popW gO V).2) := by
            show (if gO (60 + t.2.1) = true then _ else _) = _
            rw [if_pos (by unfold gO; simp)]
          unfold aft at hr' ⊢
          rw [hp]
          have e : op + 1 - ((60 + t.2.1) :: (popW gO V).1).length = op - (popW gO V).1.length := by simp
          rw [e]
          simpa using hr'
    · have hst : stpP f n x a cs V op = .inl (aft t.2.2 (cs ++ [t.2.1]) V op) := by
        unfold stpP; rw [ht]; show (if t.1 = 0 then _ else _ : Cf ⊕ Ou) = _; rw [if_neg (by omega), if_neg (by omega), if_neg (by omega)]; rfl
      show match (if t.1 = 0 then _ else _ : Rz) with | .error e => _ | .ok y => _
      rw [if_neg (by omega), if_neg (by omega), if_neg (by omega)]
      exact fun r' hr' => Ends.step (hsp.trans hst) hr'
theorem atomSim_all : ∀ o, atomSim f n x o
  | 0 => fun a op cs V hop => atom_step none (fun it h => by cases h) (fun _ => rfl) a op cs V hop
  | o + 1 => fun a op cs V hop => atom_step (some (atomP f n x o)) (fun it h => ⟨o, rfl, by cases h; rfl, atomSim_all o⟩) (fun h => by cases h) a op cs V hop
def outP (cs : List Nat) (op : Nat) : Rz → Ou
  | .error e => .error e
  | .ok y => .ok (y.2, cs ++ y.1, op)
theorem sumP_skip {o a : Nat} {y : List Nat × Nat} (h : sumP f n (atomP f n x o) a = .ok y) : skip f n y.2 = y.2 := by
  obtain ⟨w, hw, h⟩ := thn_ok h
  have hw2 := prodP_prg (atomP_prg o) _ _ hw
  have key : ∀ k cs a, n < a + k → loopP f n (prodP f n (atomP f n x o)) (opA f n) k cs a = .ok y → skip f n y.2 = y.2 := by
    intro k
    induction k with
    | zero =>
      intro cs a ha h; cases h
      show skip f n a = a
      unfold skip; rw [show n - a = 0 by omega]; rfl
    | succ k ih =>
      intro cs a ha h
      unfold loopP at h
      cases h1 : opA f n a with
      | none => rw [h1] at h; cases h; exact skip_idem f n a
      | some z =>
        rw [h1] at h
        obtain ⟨v, hv, h⟩ := thn_ok h
        have h2 := opA_ok h1
        have h3 := prodP_prg (atomP_prg o) _ _ hv
        exact ih _ _ (by omega) h
  exact key _ _ _ (by omega) h
/-- what a sum comes to by the model's way -/
theorem sumsLaw {o a op : Nat} (cs : List Nat) (hop : op + o = 6) : Ends f n x (true, a, cs, [], op) (outP cs op (sumP f n (atomP f n x o) a)) := by
  have hs := sumSim_of (atomSim_all (f := f) (n := n) (x := x) o) a op cs [] hop (fun v hv => by cases hv)
  cases h : sumP f n (atomP f n x o) a with
  | error e => rw [h] at hs; exact hs
  | ok y =>
    rw [h] at hs
    refine hs _ (fun hno => Ends.done ?_)
    show stpA f n y.2 (cs ++ y.1) [] op = _
    unfold stpA
    rw [if_neg (by rintro ⟨-, q | q | q⟩ <;> cases q), hno.1, hno.2, sumP_skip h]
    show (Sum.inr (.ok (y.2, cs ++ y.1 ++ [], op)) : Cf ⊕ Ou) = _
    rw [List.append_nil]; rfl
end Law1
