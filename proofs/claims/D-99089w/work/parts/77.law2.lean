set_option maxRecDepth 100000
/-! LAW 2: the model's way with tests comes to what the descent reads -/
section Law2
variable {f : Nat → Nat} {n x : Nat}
theorem EndT.step {c d : Cf} {r : Ou} (h : stpT f n x c = .inl d) (he : EndT f n x d r) : EndT f n x c r := by
  obtain ⟨k, hk⟩ := he
  refine ⟨k + 1, ?_⟩
  show (match stpT f n x c with | .inl d => runT f n x k d | .inr r => some r) = _
  rw [h]; exact hk
theorem EndT.done {c : Cf} {r : Ou} (h : stpT f n x c = .inr r) : EndT f n x c r := by
  refine ⟨1, ?_⟩
  show (match stpT f n x c with | .inl d => runT f n x 0 d | .inr r => some r) = _
  rw [h]
theorem EndT.same {c c' : Cf} {r : Ou} (h : stpT f n x c = stpT f n x c') (he : EndT f n x c' r) : EndT f n x c r := by
  obtain ⟨k, hk⟩ := he
  refine ⟨k, ?_⟩
  cases k with
  | zero => cases hk
  | succ k =>
    show (match stpT f n x c with | .inl d => runT f n x k d | .inr r => some r) = _
    rw [h]; exact hk
theorem EndE.by {c d : Cf} {e : Nat × Nat} (h : ∀ r, EndT f n x d r → EndT f n x c r) (he : EndE f n x d e) : EndE f n x c e := by
  rcases he with he | ⟨cs, op, he, h1⟩
  · exact Or.inl (h _ he)
  · exact Or.inr ⟨cs, op, h _ he, h1⟩
theorem stpV_skip (a : Nat) (cs V : List Nat) (op : Nat) : stpV f n (skip f n a) cs V op = stpV f n a cs V op := by
  unfold stpV; rw [lookO_skip, skip_idem]
/-- neither and nor or, and what is there is parted -/
def noAO (f : Nat → Nat) (n a : Nat) : Prop := word f n (skip f n a) ≠ some wAnd ∧ word f n (skip f n a) ≠ some wOr
def penT (P : List Nat) : Prop := ∀ v ∈ P, v = 10 ∨ v = 11
theorem flushT {a op : Nat} {cs P W : List Nat} (h : penT P) (ho : noAO f n a) : stpV f n a cs (P ++ W) op = stpV f n a (cs ++ P) W op := by
  have hm : 25 ∈ P ++ W ↔ 25 ∈ W := by
    rw [List.mem_append]
    exact ⟨fun q => by rcases q with q | q; (have := h 25 q; omega); exact q, Or.inr⟩
  have hp : popW gSq (P ++ W) = (P ++ (popW gSq W).1, (popW gSq W).2) := popW_app (fun v hv => by rcases h v hv with e | e <;> subst e <;> rfl)
  unfold stpV
  rw [hp, if_neg ho.1, if_neg ho.2, if_neg ho.1, if_neg ho.2]
  by_cases c : 25 ∈ W
  · have c2 := hm.mpr c
    simp only [c, c2, and_true, if_true, List.append_assoc]
  · have c2 : ¬ 25 ∈ P ++ W := fun q => c (hm.mp q)
    simp only [c, c2, and_false, if_false, List.append_assoc]
/-- a square on top, or nothing -/
def topS (W : List Nat) : Prop := ∀ v, W.head? = some v → v = 25
theorem topS.p1 {W : List Nat} (h : topS W) : popW gA1 W = ([], W) := popW_no (fun v hv => by rw [h v hv]; rfl)
theorem topS.p2 {W : List Nat} (h : topS W) : popW gA2 W = ([], W) := popW_no (fun v hv => by rw [h v hv]; rfl)
theorem topS.pN {W : List Nat} (h : topS W) : popW gN W = ([], W) := popW_no (fun v hv => by rw [h v hv]; rfl)
def isM1 (m : List Nat) : Prop := m = [] ∨ m = [10]
def isO1 (m : List Nat) : Prop := m = [] ∨ m = [11]
theorem isM1.pen {m A : List Nat} (h : isM1 m) (h2 : isO1 A) : penT (m ++ A) := by
  rcases h with e | e <;> rcases h2 with e2 | e2 <;> subst e <;> subst e2 <;> (intro v hv; simp at hv; try omega)
theorem pop_1 {m A W : List Nat} (h : isM1 m) (h2 : isO1 A) (hW : topS W) : popW gA1 (m ++ A ++ W) = (m, A ++ W) := by
  have e1 : popW gA1 (A ++ W) = ([], A ++ W) := by
    rcases h2 with e | e <;> subst e
    · exact hW.p1
    · rfl
  rw [List.append_assoc, popW_app (fun v hv => by rcases h with e | e <;> subst e <;> simp at hv <;> subst hv <;> rfl), e1]
  simp
theorem pop_2 {m A W : List Nat} (h : isM1 m) (h2 : isO1 A) (hW : topS W) : popW gA2 (m ++ A ++ W) = (m ++ A, W) := by
  have hg : ∀ v ∈ m ++ A, gA2 v = true := fun v hv => by rcases h.pen h2 v hv with e | e <;> subst e <;> rfl
  rw [popW_app hg, hW.p2]
  simp
def aftT (b : Nat) (cs W : List Nat) (op : Nat) : Cf := (false, b, cs ++ (popW gN W).1, (popW gN W).2, op - (popW gN W).1.length)
theorem aftT_no {b op : Nat} {cs W : List Nat} (h : ∀ v, W.head? = some v → v ≠ 12) : aftT b cs W op = (false, b, cs, W, op) := by
  unfold aftT
  rw [popW_no (fun v hv => by have := h v hv; unfold gN; simp [this])]
  simp
theorem head_pen {m A W : List Nat} (h : isM1 m) (h2 : isO1 A) (hW : topS W) : ∀ v, (m ++ A ++ W).head? = some v → v ≠ 12 := by
  rcases h with e | e <;> rcases h2 with e2 | e2 <;> subst e <;> subst e2 <;> intro v hv
  · have := hW v hv; omega
  · have := Option.some.inj hv; omega
  · have := Option.some.inj hv; omega
  · have := Option.some.inj hv; omega
def factSim (f : Nat → Nat) (n x o : Nat) : Prop := ∀ (a op : Nat) (cs W : List Nat), op + o = 6 → match factP f n x o a with
  | .error e => EndE f n x (true, a, cs, W, op) e
  | .ok y => ∀ r, EndT f n x (aftT y.2 (cs ++ y.1) W op) r → EndT f n x (true, a, cs, W, op) r
theorem lt93 {a : Nat} (h : ltrO (lookO f n a) = true) : lookO f n a ≠ some 93 := by
  intro q; rw [q] at h; cases h
theorem word_ltr {a : Nat} {w : List Nat} (h : word f n (skip f n a) = some w) : ltrO (lookO f n a) = true := by
  obtain ⟨h1, h2, -⟩ := word_some h
  unfold lookO; rw [if_pos h1]; exact h2
/-- at a word that isn't parted -/
theorem bad_end {a op : Nat} {cs W : List Nat} (hl : ltrO (lookO f n a) = true) (hp : ptd f (skip f n a) = true) : EndE f n x (false, a, cs, W, op) (1, skip f n a) := by
  have hw : word f n (skip f n a) = none := by unfold word; rw [if_neg (fun q => by rw [hp] at q; cases q.2.2)]
  obtain ⟨l1, l2⟩ := ltrO_some hl
  have hst : stpT f n x (false, a, cs, W, op) = if 25 ∈ W then .inr (.error (1, skip f n a)) else .inr (.ok (skip f n a, cs ++ W, op)) := by
    show stpV f n a cs W op = _
    unfold stpV
    rw [if_neg (fun q => lt93 hl q.1), hw, if_neg (by intro q; cases q), if_neg (by intro q; cases q)]
  by_cases c : 25 ∈ W
  · rw [if_pos c] at hst; exact Or.inl (EndT.done hst)
  · rw [if_neg c] at hst; exact Or.inr ⟨_, _, EndT.done hst, rfl, l1, l2⟩
theorem andSim {o : Nat} (ho : factSim f n x o) {op : Nat} (hop : op + o = 6) {A W C0 : List Nat} (hA : isO1 A) (hW : topS W) :
    ∀ (k b : Nat) (acc C m : List Nat), n < b + k → isM1 m → C ++ m = C0 ++ acc → match loopT f n (factP f n x o) wAnd 10 k acc b with
      | .error e => EndE f n x (false, b, C, m ++ A ++ W, op) e
      | .ok y => ∃ C' m', isM1 m' ∧ C' ++ m' = C0 ++ y.1 ∧ word f n (skip f n y.2) ≠ some wAnd ∧ ∀ r, EndT f n x (false, y.2, C', m' ++ A ++ W, op) r → EndT f n x (false, b, C, m ++ A ++ W, op) r := by
  intro k
  induction k with
  | zero =>
    intro b acc C m hb hm hC
    refine ⟨C, m, hm, hC, ?_, fun r hr => hr⟩
    intro q
    have : skip f n b < n := (word_some q).1
    have := skip_ge f n b
    omega
  | succ k ih =>
    intro b acc C m hb hm hC
    show match (match psW f n wAnd b with
      | .error e => .error e
      | .ok none => .ok (acc, skip f n b)
      | .ok (some b') => thn (factP f n x o b') (fun ds c => loopT f n (factP f n x o) wAnd 10 k (acc ++ (ds ++ [10])) c) : Rz) with
      | .error e => _
      | .ok y => _
    cases h1 : psW f n wAnd b with
    | error e =>
      obtain ⟨rfl, e1, e2⟩ := psW_err h1
      exact bad_end e1 e2
    | ok z =>
      cases z with
      | none =>
        refine ⟨C, m, hm, hC, (by show word f n (skip f n (skip f n b)) ≠ _; rw [skip_idem]; exact (psW_none h1).1), fun r hr => EndT.same ?_ hr⟩
        exact (stpV_skip b C (m ++ A ++ W) op).symm
      | some b' =>
        obtain ⟨w1, w2⟩ := psW_some h1
        have w3 := word_end w1
        have hst : stpT f n x (false, b, C, m ++ A ++ W, op) = .inl (true, b', C ++ m, 10 :: (A ++ W), op) := by
          show stpV f n b C (m ++ A ++ W) op = _
          unfold stpV
          rw [if_neg (fun q => lt93 (word_ltr w1) q.1), if_pos w1, pop_1 hm hA hW, w2]
          rfl
        have hat := ho b' op (C ++ m) ([10] ++ (A ++ W)) hop
        show match thn (factP f n x o b') (fun ds c => loopT f n (factP f n x o) wAnd 10 k (acc ++ (ds ++ [10])) c) with
          | .error e => _
          | .ok y => _
        cases h2 : factP f n x o b' with
        | error e => rw [h2] at hat; exact EndE.by (fun r hr => EndT.step hst hr) hat
        | ok z =>
          rw [h2] at hat
          have hz : ∀ r, EndT f n x (false, z.2, C ++ m ++ z.1, [10] ++ A ++ W, op) r → EndT f n x (false, b, C, m ++ A ++ W, op) r := by
            intro r hr
            refine EndT.step hst (hat r ?_)
            rw [aftT_no (by intro v hv; have := Option.some.inj hv; omega)]
            simpa using hr
          have hb2 : n < z.2 + k := by
            have := (factP_prg o _ _ h2).1
            have := skip_ge f n b
            omega
          have hih := ih z.2 (acc ++ (z.1 ++ [10])) (C ++ m ++ z.1) [10] hb2 (Or.inr rfl) (by rw [hC]; simp)
          show match loopT f n (factP f n x o) wAnd 10 k (acc ++ (z.1 ++ [10])) z.2 with
            | .error e => _
            | .ok y => _
          cases h3 : loopT f n (factP f n x o) wAnd 10 k (acc ++ (z.1 ++ [10])) z.2 with
          | error e => rw [h3] at hih; exact EndE.by hz hih
          | ok w =>
            rw [h3] at hih
            obtain ⟨C', m', g1, g2, g3, g4⟩ := hih
            exact ⟨C', m', g1, g2, g3, fun r hr => hz r (g4 r hr)⟩
theorem orSim {o : Nat} (ho : factSim f n x o) {op : Nat} (hop : op + o = 6) {W C0 : List Nat} (hW : topS W) :
    ∀ (k b : Nat) (acc C m A : List Nat), n < b + k → isM1 m → isO1 A → C ++ m ++ A = C0 ++ acc → word f n (skip f n b) ≠ some wAnd → match loopT f n (bothP f n (factP f n x o)) wOr 11 k acc b with
      | .error e => EndE f n x (false, b, C, m ++ A ++ W, op) e
      | .ok y => noAO f n y.2 ∧ ∀ r, EndT f n x (false, y.2, C0 ++ y.1, W, op) r → EndT f n x (false, b, C, m ++ A ++ W, op) r := by
  intro k
  induction k with
  | zero =>
    intro b acc C m A hb hm hA hC hM
    have hno : noAO f n b := ⟨hM, fun q => by have := (word_some q).1; have := skip_ge f n b; omega⟩
    refine ⟨hno, fun r hr => EndT.same ?_ hr⟩
    show stpV f n b C (m ++ A ++ W) op = stpV f n b (C0 ++ acc) W op
    rw [flushT (hm.pen hA) hno, ← hC, List.append_assoc]
  | succ k ih =>
    intro b acc C m A hb hm hA hC hM
    show match (match psW f n wOr b with
      | .error e => .error e
      | .ok none => .ok (acc, skip f n b)
      | .ok (some b') => thn (bothP f n (factP f n x o) b') (fun ds c => loopT f n (bothP f n (factP f n x o)) wOr 11 k (acc ++ (ds ++ [11])) c) : Rz) with
      | .error e => _
      | .ok y => _
    cases h1 : psW f n wOr b with
    | error e =>
      obtain ⟨rfl, e1, e2⟩ := psW_err h1
      exact bad_end e1 e2
    | ok z =>
      cases z with
      | none =>
        have hno : noAO f n b := ⟨hM, (psW_none h1).1⟩
        refine ⟨(by unfold noAO; rw [show skip f n (acc, skip f n b).2 = skip f n b from skip_idem f n b]; exact hno), fun r hr => EndT.same ?_ hr⟩
        show stpV f n b C (m ++ A ++ W) op = stpV f n (skip f n b) (C0 ++ acc) W op
        rw [flushT (hm.pen hA) hno, stpV_skip, ← hC, List.append_assoc]
      | some b' =>
        obtain ⟨w1, w2⟩ := psW_some h1
        have w3 := word_end w1
        have hst : stpT f n x (false, b, C, m ++ A ++ W, op) = .inl (true, b', C ++ (m ++ A), 11 :: W, op) := by
          show stpV f n b C (m ++ A ++ W) op = _
          unfold stpV
          rw [if_neg (fun q => lt93 (word_ltr w1) q.1), if_neg hM, if_pos w1, pop_2 hm hA hW, w2]
          rfl
        have hat := ho b' op (C ++ (m ++ A)) ([11] ++ W) hop
        show match thn (thn (factP f n x o b') (fun cs b => loopT f n (factP f n x o) wAnd 10 (n + 1) cs b)) (fun ds c => loopT f n (bothP f n (factP f n x o)) wOr 11 k (acc ++ (ds ++ [11])) c) with
          | .error e => _
          | .ok y => _
        cases h2 : factP f n x o b' with
        | error e => rw [h2] at hat; exact EndE.by (fun r hr => EndT.step hst hr) hat
        | ok z =>
          rw [h2] at hat
          have hz : ∀ r, EndT f n x (false, z.2, C ++ (m ++ A) ++ z.1, [] ++ [11] ++ W, op) r → EndT f n x (false, b, C, m ++ A ++ W, op) r := by
            intro r hr
            refine EndT.step hst (hat r ?_)
            rw [aftT_no (by intro v hv; have := Option.some.inj hv; omega)]
            simpa using hr
          have hmul := andSim ho hop (Or.inr rfl : isO1 [11]) hW (C0 := C ++ (m ++ A)) (n + 1) z.2 z.1 (C ++ (m ++ A) ++ z.1) [] (by omega) (Or.inl rfl) (by simp)
          show match thn (loopT f n (factP f n x o) wAnd 10 (n + 1) z.1 z.2) (fun ds c => loopT f n (bothP f n (factP f n x o)) wOr 11 k (acc ++ (ds ++ [11])) c) with
            | .error e => _
            | .ok y => _
          cases h3 : loopT f n (factP f n x o) wAnd 10 (n + 1) z.1 z.2 with
          | error e => rw [h3] at hmul; exact EndE.by hz hmul
          | ok w =>
            rw [h3] at hmul
            have hw := loopT_ok (factP_prg (x := x) o) _ _ _ _ h3 (factP_prg o _ _ h2).2.1
            have hb2 : n < w.2 + k := by
              have := (factP_prg o _ _ h2).1
              have := skip_ge f n b
              omega
            obtain ⟨C', m', g1, g2, g3, g4⟩ := hmul
            have hih := ih w.2 (acc ++ (w.1 ++ [11])) C' m' [11] hb2 g1 (Or.inr rfl) (by rw [g2]; rw [List.append_assoc] at hC; rw [hC]; simp) g3
            show match loopT f n (bothP f n (factP f n x o)) wOr 11 k (acc ++ (w.1 ++ [11])) w.2 with
              | .error e => _
              | .ok y => _
            cases h4 : loopT f n (bothP f n (factP f n x o)) wOr 11 k (acc ++ (w.1 ++ [11])) w.2 with
            | error e => rw [h4] at hih; exact EndE.by (fun r hr => hz r (g4 r hr)) hih
            | ok v => rw [h4] at hih; exact ⟨hih.1, fun r hr => hz r (g4 r (hih.2 r hr))⟩
def testSim (f : Nat → Nat) (n x o : Nat) : Prop := ∀ (a op : Nat) (cs W : List Nat), op + o = 6 → topS W → match testP f n (factP f n x o) a with
  | .error e => EndE f n x (true, a, cs, W, op) e
  | .ok y => noAO f n y.2 ∧ ∀ r, EndT f n x (false, y.2, cs ++ y.1, W, op) r → EndT f n x (true, a, cs, W, op) r
theorem testSim_of {o : Nat} (ho : factSim f n x o) : testSim f n x o := by
  intro a op cs W hop hW
  have hat := ho a op cs W hop
  show match thn (thn (factP f n x o a) (fun cs b => loopT f n (factP f n x o) wAnd 10 (n + 1) cs b)) (fun ds b => loopT f n (bothP f n (factP f n x o)) wOr 11 (n + 1) ds b) with
    | .error e => _
    | .ok y => _
  cases h2 : factP f n x o a with
  | error e => rw [h2] at hat; exact hat
  | ok z =>
    rw [h2] at hat
    have hz : ∀ r, EndT f n x (false, z.2, cs ++ z.1, [] ++ [] ++ W, op) r → EndT f n x (true, a, cs, W, op) r := by
      intro r hr
      refine hat r ?_
      rw [aftT_no (fun v hv => by have := hW v hv; omega)]
      exact hr
    have hmul := andSim ho hop (Or.inl rfl : isO1 []) hW (C0 := cs) (n + 1) z.2 z.1 (cs ++ z.1) [] (by omega) (Or.inl rfl) (by simp)
    show match thn (loopT f n (factP f n x o) wAnd 10 (n + 1) z.1 z.2) (fun ds b => loopT f n (bothP f n (factP f n x o)) wOr 11 (n + 1) ds b) with
      | .error e => _
      | .ok y => _
    cases h3 : loopT f n (factP f n x o) wAnd 10 (n + 1) z.1 z.2 with
    | error e => rw [h3] at hmul; exact EndE.by hz hmul
    | ok w =>
      rw [h3] at hmul
      obtain ⟨C', m', g1, g2, g3, g4⟩ := hmul
      have hih := orSim ho hop hW (C0 := cs) (n + 1) w.2 w.1 C' m' [] (by omega) g1 (Or.inl rfl) (by rw [List.append_nil]; exact g2) g3
      show match loopT f n (bothP f n (factP f n x o)) wOr 11 (n + 1) w.1 w.2 with
        | .error e => _
        | .ok y => _
      cases h4 : loopT f n (bothP f n (factP f n x o)) wOr 11 (n + 1) w.1 w.2 with
      | error e => rw [h4] at hih; exact EndE.by (fun r hr => hz r (g4 r hr)) hih
      | ok v => rw [h4] at hih; exact ⟨hih.1, fun r hr => hz r (g4 r (hih.2 r hr))⟩
theorem topS_c {W : List Nat} : topS (25 :: W) := fun v hv => (Option.some.inj hv).symm
theorem fact_step {o : Nat} (r : Option (Nat → Rz)) (hr : ∀ it, r = some it → ∃ o', o = o' + 1 ∧ it = factP f n x o' ∧ factSim f n x o') (hr0 : r = none → o = 0) (a op : Nat) (cs W : List Nat) (hop : op + o = 6) : match fctK f n x o r a with
  | .error e => EndE f n x (true, a, cs, W, op) e
  | .ok y => ∀ r', EndT f n x (aftT y.2 (cs ++ y.1) W op) r' → EndT f n x (true, a, cs, W, op) r' := by
  have hsp : stpT f n x (true, a, cs, W, op) = stpU f n x a cs W op := rfl
  have ho6 : 6 - op = o := by omega
  unfold fctK
  by_cases hl : lookO f n a = some 91
  · rw [if_pos hl]
    have hst : stpU f n x a cs W op = if op = 6 then .inr (.error (4, skip f n a)) else .inl (true, skip f n a + 1, cs, 25 :: W, op + 1) := by
      unfold stpU; rw [if_pos hl]
    cases r with
    | none =>
      have := hr0 rfl
      exact Or.inl (EndT.done (by rw [hsp, hst, if_pos (by omega)]))
    | some it =>
      obtain ⟨o', rfl, rfl, ho'⟩ := hr it rfl
      rw [if_neg (by omega)] at hst
      have hs := testSim_of ho' (skip f n a + 1) (op + 1) cs (25 :: W) (by omega) topS_c
      show match thn (testP f n (factP f n x o') (skip f n a + 1)) (fun cs c => fin cs (sgP f n 93 c)) with | .error e => _ | .ok y => _
      cases h2 : testP f n (factP f n x o') (skip f n a + 1) with
      | error e => rw [h2] at hs; exact EndE.by (fun r' hr' => EndT.step (hsp.trans hst) hr') hs
      | ok z =>
        rw [h2] at hs
        show match fin z.1 (sgP f n 93 z.2) with | .error e => _ | .ok y => _
        have hz : ∀ r', EndT f n x (false, z.2, cs ++ z.1, 25 :: W, op + 1) r' → EndT f n x (true, a, cs, W, op) r' := fun r' hr' => EndT.step (hsp.trans hst) (hs.2 r' hr')
        cases h3 : sgP f n 93 z.2 with
        | error e =>
          obtain ⟨s1, rfl⟩ := sgP_er h3
          refine Or.inl (hz _ (EndT.done ?_))
          show stpV f n z.2 (cs ++ z.1) (25 :: W) (op + 1) = _
          unfold stpV
          rw [if_neg (fun q => s1 q.1), if_neg hs.1.1, if_neg hs.1.2, if_pos List.mem_cons_self]
        | ok d =>
          obtain ⟨s1, s2, s3, s4⟩ := sgP_ok h3
          intro r' hr'
          refine hz _ (EndT.step ?_ hr')
          show stpV f n z.2 (cs ++ z.1) (25 :: W) (op + 1) = _
          unfold stpV aftT
          rw [if_pos ⟨s3, List.mem_cons_self⟩, s4]
          show Sum.inl (false, skip f n z.2 + 1, cs ++ z.1 ++ [] ++ (popW gN W).1, (popW gN W).2, op + 1 - 1 - (popW gN W).1.length) = _
          rw [List.append_nil, Nat.add_sub_cancel]
  · rw [if_neg hl]
    cases h1 : psW f n wNot a with
    | error e =>
      obtain ⟨rfl, e1, e2⟩ := psW_err h1
      obtain ⟨l1, l2⟩ := ltrO_some e1
      have hw : word f n (skip f n a) = none := by unfold word; rw [if_neg (fun q => by rw [e2] at q; cases q.2.2)]
      refine Or.inl (EndT.done ?_)
      rw [hsp]; unfold stpU
      rw [if_neg hl, hw, if_neg (by intro q; cases q)]
      have hfm : facM f n x op (skip f n a) = .error (1, skip f n a) := by
        unfold facM
        rw [hw, if_neg (by intro q; cases q), thanP_sk]
        exact thanP_bad l2 e2
      rw [hfm]
    | ok z =>
      cases z with
      | some b =>
        obtain ⟨w1, w2⟩ := psW_some h1
        have hst : stpU f n x a cs W op = if op = 6 then .inr (.error (4, skip f n a)) else .inl (true, b, cs, 12 :: W, op + 1) := by
          unfold stpU; rw [if_neg hl, if_pos w1, w2]
          rfl
        cases r with
        | none =>
          have := hr0 rfl
          exact Or.inl (EndT.done (by rw [hsp, hst, if_pos (by omega)]))
        | some it =>
          obtain ⟨o', rfl, rfl, ho'⟩ := hr it rfl
          rw [if_neg (by omega)] at hst
          have hs := ho' b (op + 1) cs (12 :: W) (by omega)
          show match thn (factP f n x o' b) (fun cs c => .ok (cs ++ [12], c)) with | .error e => _ | .ok y => _
          cases h2 : factP f n x o' b with
          | error e => rw [h2] at hs; exact EndE.by (fun r' hr' => EndT.step (hsp.trans hst) hr') hs
          | ok z =>
            rw [h2] at hs
            intro r' hr'
            refine EndT.step (hsp.trans hst) (hs _ ?_)
            have hp : popW gN (12 :: W) = (12 :: (popW gN W).1, (popW gN W).2) := rfl
            unfold aftT at hr' ⊢
            rw [hp]
            have e : op + 1 - (12 :: (popW gN W).1).length = op - (popW gN W).1.length := by simp
            rw [e]
            simpa using hr'
      | none =>
        obtain ⟨n1, n2⟩ := psW_none h1
        show match (match psW f n wAll a with
          | .error e => .error e
          | .ok (some b) => .ok ([13], b)
          | .ok none => thanP f n (atomP f n x o) a : Rz) with | .error e => _ | .ok y => _
        have hst : stpU f n x a cs W op = match facM f n x op (skip f n a) with
            | .error e => .inr (.error e)
            | .ok y => .inl (aftT y.2 (cs ++ y.1) W op) := by
          unfold stpU; rw [if_neg hl, if_neg n1]; rfl
        cases h2 : psW f n wAll a with
        | error e => obtain ⟨rfl, e1, e2⟩ := psW_err h2; exact absurd ⟨e1, e2⟩ n2
        | ok z =>
          cases z with
          | some b =>
            obtain ⟨w1, w2⟩ := psW_some h2
            have hfm : facM f n x op (skip f n a) = .ok ([13], b) := by unfold facM; rw [if_pos w1, w2]; rfl
            rw [hfm] at hst
            exact fun r' hr' => EndT.step (hsp.trans hst) hr'
          | none =>
            obtain ⟨m1, m2⟩ := psW_none h2
            have hfm : facM f n x op (skip f n a) = thanP f n (atomP f n x o) a := by unfold facM; rw [if_neg m1, thanP_sk, ho6]
            rw [hfm] at hst
            show match thanP f n (atomP f n x o) a with | .error e => _ | .ok y => _
            cases h3 : thanP f n (atomP f n x o) a with
            | error e => rw [h3] at hst; exact Or.inl (EndT.done (hsp.trans hst))
            | ok y => rw [h3] at hst; exact fun r' hr' => EndT.step (hsp.trans hst) hr'
theorem factSim_all : ∀ o, factSim f n x o
  | 0 => fun a op cs W hop => fact_step none (fun it h => by cases h) (fun _ => rfl) a op cs W hop
  | o + 1 => fun a op cs W hop => fact_step (some (factP f n x o)) (fun it h => ⟨o, rfl, by cases h; rfl, factSim_all o⟩) (fun h => by cases h) a op cs W hop
/-- what a test comes to by the model's way -/
theorem testLaw {o a op : Nat} (cs : List Nat) (hop : op + o = 6) : match testP f n (factP f n x o) a with
    | .error e => EndE f n x (true, a, cs, [], op) e
    | .ok y => EndT f n x (true, a, cs, [], op) (.ok (skip f n y.2, cs ++ y.1, op)) := by
  have hs := testSim_of (factSim_all (f := f) (n := n) (x := x) o) a op cs [] hop (fun v hv => by cases hv)
  cases h : testP f n (factP f n x o) a with
  | error e => rw [h] at hs; exact hs
  | ok y =>
    rw [h] at hs
    refine hs.2 _ (EndT.done ?_)
    show stpV f n y.2 (cs ++ y.1) [] op = _
    unfold stpV
    rw [if_neg (fun q => nomatch q.2), if_neg hs.1.1, if_neg hs.1.2, if_neg (fun q => nomatch q), List.append_nil]
end Law2
