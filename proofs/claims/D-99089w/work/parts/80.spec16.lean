set_option maxRecDepth 100000
/-! SPEC 16: a terrace that is told -/
def bnd {α β : Type} (r : Pz α) (k : α → Pz β) : Pz β := match r with
  | .error e => .error e
  | .ok y => k y
theorem bnd_ok {α β : Type} (y : α) (k : α → Pz β) : bnd (.ok y) k = k y := rfl
theorem bnd_er {α β : Type} (e : Nat × Nat) (k : α → Pz β) : bnd (.error e) k = .error e := rfl
theorem bnd_some {α β : Type} {r : Pz α} {k : α → Pz β} {z : β} (h : bnd r k = .ok z) : ∃ y, r = .ok y ∧ k y = .ok z := by
  cases r with
  | error e => cases h
  | ok y => exact ⟨y, rfl, h⟩
/-- a soul: name, home, face, kindness -/
abbrev So : Type := List Nat × Nat × Nat × Nat
/-- houses, souls, thoughts at first, codes, slip -/
abbrev To : Type := Nat × List So × (Nat → Nat → Nat) × (Nat → Option (List Nat)) × Nat
def oH (T : To) : Nat := T.1
def oS (T : To) : List So := T.2.1
def oT (T : To) : Nat → Nat → Nat := T.2.2.1
def oC (T : To) : Nat → Option (List Nat) := T.2.2.2.1
def oL (T : To) : Nat := T.2.2.2.2
def pS (T : To) (e : So) : To := (oH T, oS T ++ [e], oT T, oC T, oL T)
def pT (T : To) (i j v : Nat) : To := (oH T, oS T, (fun p r => if p = i ∧ r = j then v else oT T p r), oC T, oL T)
def pC (T : To) (w : Nat) (cs : List Nat) : To := (oH T, oS T, oT T, va_up (oC T) w (some cs), oL T)
def pL (T : To) (v : Nat) : To := (oH T, oS T, oT T, oC T, v)
def To0 (H : Nat) : To := (H, [], (fun _ _ => 5), (fun _ => none), 0)
def sAt (T : To) (k : Nat) : So := (oS T).getD k ([], 0, 0, 0)
def fndS (T : To) (nm : List Nat) : Option Nat := ff (fun k => decide ((sAt T k).1 = nm)) (oS T).length 0
def full (T : To) (h : Nat) : Option Nat := ff (fun k => (sAt T k).2.1 == h) (oS T).length 0
abbrev wAt : List Nat := [97, 116]
abbrev wOf : List Nat := [111, 102]
abbrev wTerrace : List Nat := [116, 101, 114, 114, 97, 99, 101]
abbrev wSoul : List Nat := [115, 111, 117, 108]
abbrev wPaints : List Nat := [112, 97, 105, 110, 116, 115]
abbrev wMinds : List Nat := [109, 105, 110, 100, 115]
abbrev wFeud : List Nat := [102, 101, 117, 100]
abbrev wSlip : List Nat := [115, 108, 105, 112]
section Told
variable (f : Nat → Nat) (n : Nat)
def soulK (T : To) (nm : List Nat) (h : Nat) (b : Nat) : Pz (To × Nat) :=
  bnd (kwP f n wFace b) (fun c => bnd (numP f n 0 9 (skip f n c)) (fun y => bnd (kwP f n wKind y.2) (fun d => bnd (numP f n 0 9 (skip f n d)) (fun z => .ok (pS T (nm, h, y.1, z.1), z.2)))))
def soulH (T : To) (nm : List Nat) (b : Nat) : Pz (To × Nat) :=
  bnd (kwP f n wAt b) (fun c => bnd (numP f n 0 (oH T - 1) (skip f n c)) (fun y => if full T y.1 = none then soulK f n T nm y.1 y.2 else .error (2, skip f n c)))
def soulP (T : To) (pl a : Nat) : Pz (To × Nat) := if (oS T).length = 8 then .error (5, pl) else
  bnd (nmP f n (skip f n a)) (fun y => if fndS T y.1 = none then soulH f n T y.1 y.2 else .error (3, skip f n a))
/-- one of the souls told -/
def oneP (T : To) (a : Nat) : Pz (Nat × Nat) := bnd (nmP f n (skip f n a)) (fun y => match fndS T y.1 with
  | none => .error (3, skip f n a)
  | some i => .ok (i, y.2))
def thinksP (T : To) (a : Nat) : Pz (To × Nat) := bnd (oneP f n T a) (fun y => bnd (kwP f n wOf y.2) (fun b => bnd (oneP f n T b) (fun z => if y.1 = z.1 then .error (3, skip f n b) else bnd (numP f n 0 9 (skip f n z.2)) (fun v => .ok (pT T y.1 z.1 v.1, v.2)))))
def codP (w a : Nat) : Rz := if w = 2 then testP f n (factP f n 2 6) a else sumP f n (atomP f n w 6) a
def codesP (T : To) (w pl a : Nat) : Pz (To × Nat) := if oC T w = none then bnd (codP f n w a) (fun y => .ok (pC T w y.1, y.2)) else .error (5, pl)
def slipP (T : To) (a : Nat) : Pz (To × Nat) := bnd (numP f n 0 100 (skip f n a)) (fun y => .ok (pL T y.1, y.2))
def bodyP (T : To) (w : List Nat) (p b : Nat) : Pz (To × Nat) :=
  if w = wSoul then soulP f n T p b else if w = wThinks then thinksP f n T b else if w = wPaints then codesP f n T 0 p b else if w = wMinds then codesP f n T 1 p b else if w = wFeud then codesP f n T 2 p b else if w = wSlip then slipP f n T b else .error (1, p)
def endP (r : Pz (To × Nat)) : Pz (To × Nat) := bnd r (fun y => bnd (sgP f n 59 y.2) (fun c => .ok (y.1, c)))
/-- a statement at p -/
def stmtP (T : To) (m p : Nat) : Pz (To × Nat) := if m = 80 then .error (5, p) else match word f n p with
  | none => .error (1, p)
  | some w => endP f n (bodyP f n T w p (p + w.length))
def stmtsP : Nat → To → Nat → Nat → Pz (To × Nat)
  | 0, T, m, _ => .ok (T, m)
  | k + 1, T, m, a => if lookO f n a = none then .ok (T, m) else bnd (stmtP f n T m (skip f n a)) (fun y => stmtsP k y.1 (m + 1) y.2)
def headP : Pz (Nat × Nat) := bnd (kwP f n wTerrace 0) (fun a => bnd (numP f n 2 9 (skip f n a)) (fun y => bnd (sgP f n 59 y.2) (fun b => .ok (y.1, b))))
def allP : Pz (To × Nat) := bnd (headP f n) (fun y => stmtsP f n (n + 1) (To0 y.1) 1 y.2)
end Told
def teO (T : To) : Te := (oH T, (oS T).length, (fun p => (sAt T p).2.2.1), (fun p => (sAt T p).2.2.2), oC T, oL T, fun p => (sAt T p).1)
def stO (T : To) : St := (0, (fun p => (sAt T p).2.1), (fun p => 10 * (sAt T p).2.2.1), (fun _ => 0), oT T)
def terraceQ (q : Sg) : Int32 × Sg := match allP (gTp q) (gTd q) with
  | .error e => (-1, uFt (uRf (uTp q (gTp q) 0) 1) (e.1, some e.2))
  | .ok y => (nI y.2, uRw (uUn (uNw (uTe (uFt (uTp q (gTp q) 0) (0, none)) (teO y.1, true)) (stO y.1, [])) []) [])
/-! what is told stays within its bounds -/
def okSo (H : Nat) (e : So) : Prop := 1 ≤ e.1.length ∧ e.1.length ≤ 6 ∧ (∀ c ∈ e.1, 1 ≤ c ∧ c ≤ 26) ∧ e.2.1 < H ∧ e.2.2.1 ≤ 9 ∧ e.2.2.2 ≤ 9
def VT (T : To) : Prop := 2 ≤ oH T ∧ oH T ≤ 9 ∧ (oS T).length ≤ 8 ∧ (∀ e ∈ oS T, okSo (oH T) e) ∧ (∀ p r, oT T p r ≤ 9) ∧ oL T ≤ 100 ∧ ∀ w, w < 3 → ∀ cs, oC T w = some cs → okC (alw w) cs ∧ tyC cs [] = some [decide (w ≠ 2)] ∧ cs.length ≤ 1600
section ToldB
variable {f : Nat → Nat} {n x : Nat}
theorem nmL_ok : ∀ (k a : Nat) (cs : List Nat) (y : List Nat × Nat), nmL f k a cs = .ok y → cs.length ≤ 6 → (∀ c ∈ cs, 1 ≤ c ∧ c ≤ 26) → cs.length ≤ y.1.length ∧ y.1.length ≤ 6 ∧ (∀ c ∈ y.1, 1 ≤ c ∧ c ≤ 26) ∧ a ≤ y.2 ∧ y.2 ≤ a + k := by
  intro k
  induction k with
  | zero => intro a cs y h h1 h2; cases h; exact ⟨Nat.le_refl _, h1, h2, Nat.le_refl _, Nat.le_refl _⟩
  | succ k ih =>
    intro a cs y h h1 h2
    unfold nmL at h
    split at h
    · next hl =>
      split at h
      · cases h
      · next h6 =>
        have hl2 : 97 ≤ f a ∧ f a ≤ 122 := by unfold ltr at hl; simpa using hl
        have := ih (a + 1) (cs ++ [f a - 96]) y h (by rw [List.length_append]; show cs.length + 1 ≤ 6; omega) (fun c hc => by
          rcases List.mem_append.mp hc with e | e
          · exact h2 c e
          · have := List.mem_singleton.mp e; omega)
        rw [List.length_append] at this
        exact ⟨by have := this.1; omega, this.2.1, this.2.2.1, by omega, by omega⟩
    · cases h; exact ⟨Nat.le_refl _, h1, h2, Nat.le_refl _, by omega⟩
theorem nmP_ok {p : Nat} {y : List Nat × Nat} (h : nmP f n p = .ok y) : p < n ∧ 1 ≤ y.1.length ∧ y.1.length ≤ 6 ∧ (∀ c ∈ y.1, 1 ≤ c ∧ c ≤ 26) ∧ p < y.2 ∧ y.2 ≤ n := by
  unfold nmP at h
  cases hw : word f n p with
  | none => rw [hw] at h; cases h
  | some w =>
    rw [hw] at h
    have h : (if w ∈ ownW then (.error (1, p) : Pz (List Nat × Nat)) else nmL f (n - p) p []) = .ok y := h
    obtain ⟨w1, w2, w3, w4⟩ := word_some hw
    split at h
    · cases h
    · obtain ⟨k, hk⟩ : ∃ k, n - p = k + 1 := ⟨n - p - 1, by omega⟩
      rw [hk] at h
      unfold nmL at h
      have hl2 : 97 ≤ f p ∧ f p ≤ 122 := by unfold ltr at w2; simpa using w2
      rw [if_pos w2, if_neg (by decide)] at h
      have := nmL_ok k (p + 1) _ y h (show 1 ≤ 6 by decide) (fun c hc => by have := List.mem_singleton.mp hc; omega)
      have h1 : 1 ≤ y.1.length := this.1
      exact ⟨w1, h1, this.2.1, this.2.2.1, by omega, by omega⟩
theorem kwP_ok {w : List Nat} {a b : Nat} (h : kwP f n w a = .ok b) : a < b ∧ b ≤ n ∧ word f n (skip f n a) = some w := by
  unfold kwP at h
  split at h
  · next hw =>
    have := word_end hw
    have := skip_ge f n a
    cases h; exact ⟨by omega, by omega, hw⟩
  · cases h
/-- typed codes -/
def tyv (t : Bool) (cs : List Nat) : Prop := ∀ st, tyC cs st = some (t :: st)
theorem tyv_bin {a b t : Bool} {cs ds : List Nat} {c : Nat} (h1 : tyv a cs) (h2 : tyv b ds) (hc : ∀ st, tyS c (b :: a :: st) = some (t :: st)) : tyv t (cs ++ (ds ++ [c])) := by
  intro st
  rw [tyC_app, h1 st]
  show tyC (ds ++ [c]) (a :: st) = _
  rw [tyC_app, h2 (a :: st)]
  show (tyS c (b :: a :: st)).bind (tyC []) = _
  rw [hc st]; rfl
theorem tyv_un {a t : Bool} {cs : List Nat} {c : Nat} (h1 : tyv a cs) (hc : ∀ st, tyS c (a :: st) = some (t :: st)) : tyv t (cs ++ [c]) := by
  intro st
  rw [tyC_app, h1 st]
  show (tyS c (a :: st)).bind (tyC []) = _
  rw [hc st]; rfl
/-- which codes may stand in a text of kind x -/
def okX (x : Nat) (cs : List Nat) : Prop := ∀ c ∈ cs, ((1 ≤ c ∧ c ≤ 13) ∨ (1000 ≤ c ∧ c < 11000)) ∨ (40 ≤ c ∧ c < 51 ∧ alwQ x (c - 40) = true) ∨ (x = 3 ∧ (c = 60 ∨ c = 61))
def gd (x : Nat) (t : Bool) (it : Nat → Rz) : Prop := ∀ a y, it a = .ok y → tyv t y.1 ∧ okX x y.1
theorem okX_app {cs ds : List Nat} (h1 : okX x cs) (h2 : okX x ds) : okX x (cs ++ ds) := fun c hc => by
  rcases List.mem_append.mp hc with e | e
  · exact h1 c e
  · exact h2 c e
theorem okX_one {c : Nat} (h : ((1 ≤ c ∧ c ≤ 13) ∨ (1000 ≤ c ∧ c < 11000)) ∨ (40 ≤ c ∧ c < 51 ∧ alwQ x (c - 40) = true) ∨ (x = 3 ∧ (c = 60 ∨ c = 61))) : okX x [c] := fun d hd => by rw [List.mem_singleton.mp hd]; exact h
theorem loopP_gd {it : Nat → Rz} {op : Nat → Option (Nat × Nat)} (hi : gd x true it) (ho : ∀ a y, op a = some y → 1 ≤ y.1 ∧ y.1 ≤ 6) : ∀ k cs a y, loopP f n it op k cs a = .ok y → tyv true cs → okX x cs → tyv true y.1 ∧ okX x y.1 := by
  intro k
  induction k with
  | zero => intro cs a y h h1 h2; cases h; exact ⟨h1, h2⟩
  | succ k ih =>
    intro cs a y h h1 h2
    unfold loopP at h
    cases hop : op a with
    | none => rw [hop] at h; cases h; exact ⟨h1, h2⟩
    | some z =>
      rw [hop] at h
      obtain ⟨w, hw, h⟩ := thn_ok h
      have h3 := ho a z hop
      have h4 := hi _ _ hw
      refine ih _ _ _ h (tyv_bin h1 h4.1 (fun st => ?_)) (okX_app h2 (okX_app h4.2 (okX_one (Or.inl (Or.inl ⟨h3.1, by omega⟩)))))
      have : z.1 = 1 ∨ z.1 = 2 ∨ z.1 = 3 ∨ z.1 = 4 ∨ z.1 = 5 ∨ z.1 = 6 := by omega
      rcases this with e | e | e | e | e | e <;> rw [e] <;> rfl
theorem opM_c {a : Nat} {y : Nat × Nat} (h : opM f n a = some y) : 1 ≤ y.1 ∧ y.1 ≤ 6 := by have := (opM_lt h).1; omega
theorem opA_c {a : Nat} {y : Nat × Nat} (h : opA f n a = some y) : 1 ≤ y.1 ∧ y.1 ≤ 6 := by have := (opA_lt h).1; omega
theorem prodP_gd {it : Nat → Rz} (hi : gd x true it) : gd x true (prodP f n it) := by
  intro a y h
  obtain ⟨w, hw, h⟩ := thn_ok h
  exact loopP_gd hi (fun a y => opM_c) _ _ _ _ h (hi _ _ hw).1 (hi _ _ hw).2
theorem sumP_gd {it : Nat → Rz} (hi : gd x true it) : gd x true (sumP f n it) := by
  intro a y h
  obtain ⟨w, hw, h⟩ := thn_ok h
  exact loopP_gd (prodP_gd hi) (fun a y => opA_c) _ _ _ _ h (prodP_gd hi _ _ hw).1 (prodP_gd hi _ _ hw).2
theorem aTok_code {p : Nat} {y : Nat × Nat × Nat} (h : aTok f n x p = .ok y) (h3 : y.1 = 3) : (1000 ≤ y.2.1 ∧ y.2.1 < 11000) ∨ (40 ≤ y.2.1 ∧ y.2.1 < 51 ∧ alwQ x (y.2.1 - 40) = true) := by
  unfold aTok at h
  split at h
  · cases h; cases h3
  · split at h
    · cases h; cases h3
    · split at h
      · cases h; cases h3
      · split at h
        · cases h; cases h3
        · split at h
          · next k hk =>
            obtain ⟨k1, k2, k3, -⟩ := wrdO_some hk
            cases h
            exact Or.inr ⟨(by show 40 ≤ 40 + k; omega), (by show 40 + k < 51; omega), (by show alwQ x (40 + k - 40) = true; rw [Nat.add_sub_cancel_left]; exact k3)⟩
          · cases hn : numP f n 0 9999 p with
            | error e => rw [hn] at h; cases h
            | ok z =>
              rw [hn] at h
              have := numP_ok hn
              cases h
              exact Or.inl ⟨(by show 1000 ≤ 1000 + z.1; omega), (by show 1000 + z.1 < 11000; omega)⟩
theorem atmK_gd {r : Option (Nat → Rz)} (hx : x ≤ 3) (hr : ∀ it, r = some it → gd x true it) : gd x true (atmK f n x r) := by
  intro a y h
  unfold atmK at h
  cases ht : aTok f n x (skip f n a) with
  | error e => rw [ht] at h; cases h
  | ok t =>
    rw [ht] at h
    obtain ⟨t1, t2, t3, t4⟩ := aTok_ok ht
    have h : (if t.1 = 0 then _ else _ : Rz) = .ok y := h
    split at h
    · cases r with
      | none => cases h
      | some it =>
        obtain ⟨w, hw, h⟩ := thn_ok h
        obtain ⟨b, hb, rfl⟩ := fin_ok h
        have h9 := sumP_gd (f := f) (n := n) (hr it rfl) _ _ hw
        exact h9
    · next k0 =>
      split at h
      · next k1 =>
        split at h
        · cases r with
          | none => cases h
          | some it =>
            obtain ⟨w, hw, h⟩ := thn_ok h
            have h3 := sumP_gd (f := f) (n := n) (hr it rfl) _ _ hw
            cases hs : sgP f n 44 w.2 with
            | error e => rw [hs] at h; cases h
            | ok d =>
              rw [hs] at h
              have h : thn (sumP f n it d) (fun ds b => fin (w.1 ++ (ds ++ [5 + t.2.1])) (sgP f n 41 b)) = .ok y := h
              obtain ⟨v, hv, h⟩ := thn_ok h
              have h5 := sumP_gd (f := f) (n := n) (hr it rfl) _ _ hv
              obtain ⟨b, hb, rfl⟩ := fin_ok h
              have hv1 : t.2.1 ≤ 1 := by rcases t4 with e | ⟨-, e⟩ | ⟨e, -⟩ | e <;> omega
              refine ⟨tyv_bin h3.1 h5.1 (fun st => ?_), okX_app h3.2 (okX_app h5.2 (okX_one (Or.inl (Or.inl ⟨by omega, by omega⟩))))⟩
              have : t.2.1 = 0 ∨ t.2.1 = 1 := by omega
              rcases this with e | e <;> rw [e] <;> rfl
        · cases h
      · next k1 =>
        split at h
        · next k2 =>
          have hv1 : t.2.1 ≤ 1 ∧ x = 3 := by rcases t4 with e | ⟨e, -⟩ | ⟨-, e, e2⟩ | e <;> omega
          cases r with
          | none => cases h
          | some it =>
            obtain ⟨w, hw, h⟩ := thn_ok h
            have h3 := hr it rfl _ _ hw
            cases h
            refine ⟨tyv_un h3.1 (fun st => ?_), okX_app h3.2 (okX_one (Or.inr (Or.inr ⟨hv1.2, by omega⟩)))⟩
            have : t.2.1 = 0 ∨ t.2.1 = 1 := by omega
            rcases this with e | e <;> rw [e] <;> rfl
        · next k2 =>
          cases h
          have hc := aTok_code ht (by rcases t4 with e | ⟨e, -⟩ | ⟨e, -⟩ | e <;> omega)
          refine ⟨fun st => ?_, okX_one (by rcases hc with e | e; exact Or.inl (Or.inr e); exact Or.inr (Or.inl e))⟩
          show (tyS t.2.1 st).bind (tyC []) = _
          have : tyS t.2.1 st = some (true :: st) := by
            unfold tyS
            rcases hc with e | e
            · rw [if_pos e.1, if_pos e.2]
            · rw [if_neg (by omega), if_neg (by omega), if_pos e.1]
          rw [this]; rfl
theorem atomP_gd (hx : x ≤ 3) : ∀ o, gd x true (atomP f n x o)
  | 0 => atmK_gd hx (fun it h => by cases h)
  | o + 1 => atmK_gd hx (fun it h => by cases h; exact atomP_gd hx o)
theorem loopT_gd {it : Nat → Rz} {w : List Nat} {v : Nat} (hv : v = 10 ∨ v = 11) (hi : gd x false it) : ∀ k cs a y, loopT f n it w v k cs a = .ok y → tyv false cs → okX x cs → tyv false y.1 ∧ okX x y.1 := by
  intro k
  induction k with
  | zero => intro cs a y h h1 h2; cases h; exact ⟨h1, h2⟩
  | succ k ih =>
    intro cs a y h h1 h2
    unfold loopT at h
    cases hp : psW f n w a with
    | error e => rw [hp] at h; cases h
    | ok o =>
      rw [hp] at h
      cases o with
      | none => cases h; exact ⟨h1, h2⟩
      | some b =>
        obtain ⟨z, hz, h⟩ := thn_ok h
        have h4 := hi _ _ hz
        refine ih _ _ _ h (tyv_bin h1 h4.1 (fun st => ?_)) (okX_app h2 (okX_app h4.2 (okX_one (Or.inl (Or.inl ⟨by omega, by omega⟩)))))
        rcases hv with e | e <;> rw [e] <;> rfl
theorem bothP_gd {it : Nat → Rz} (hi : gd x false it) : gd x false (bothP f n it) := by
  intro a y h
  obtain ⟨w, hw, h⟩ := thn_ok h
  exact loopT_gd (Or.inl rfl) hi _ _ _ _ h (hi _ _ hw).1 (hi _ _ hw).2
theorem testP_gd {it : Nat → Rz} (hi : gd x false it) : gd x false (testP f n it) := by
  intro a y h
  obtain ⟨w, hw, h⟩ := thn_ok h
  exact loopT_gd (Or.inr rfl) (bothP_gd hi) _ _ _ _ h (bothP_gd hi _ _ hw).1 (bothP_gd hi _ _ hw).2
theorem sgT_c {a v : Nat} (h : sgT f n a = some v) : v = 7 ∨ v = 8 ∨ v = 9 := by
  unfold sgT at h
  split at h
  · cases h; exact Or.inl rfl
  · split at h
    · cases h; exact Or.inr (Or.inl rfl)
    · split at h
      · cases h; exact Or.inr (Or.inr rfl)
      · cases h
theorem thanP_gd {it : Nat → Rz} (hi : gd x true it) : gd x false (thanP f n it) := by
  intro a y h
  obtain ⟨w, hw, h⟩ := thn_ok h
  have h3 := sumP_gd (f := f) (n := n) hi _ _ hw
  cases hs : sgT f n w.2 with
  | none => rw [hs] at h; cases h
  | some v =>
    rw [hs] at h
    have h : thn (sumP f n it (skip f n w.2 + 1)) (fun ds c => .ok (w.1 ++ (ds ++ [v]), c)) = .ok y := h
    obtain ⟨z, hz, h⟩ := thn_ok h
    have h4 := sumP_gd (f := f) (n := n) hi _ _ hz
    have h5 := sgT_c hs
    cases h
    refine ⟨tyv_bin h3.1 h4.1 (fun st => ?_), okX_app h3.2 (okX_app h4.2 (okX_one (Or.inl (Or.inl ⟨by omega, by omega⟩))))⟩
    rcases h5 with e | e | e <;> rw [e] <;> rfl
theorem fctK_gd {o : Nat} {r : Option (Nat → Rz)} (hx : x ≤ 3) (hr : ∀ it, r = some it → gd x false it) : gd x false (fctK f n x o r) := by
  intro a y h
  unfold fctK at h
  split at h
  · cases r with
    | none => cases h
    | some it =>
      obtain ⟨w, hw, h⟩ := thn_ok h
      obtain ⟨b, hb, rfl⟩ := fin_ok h
      have h9 := testP_gd (f := f) (n := n) (hr it rfl) _ _ hw
      exact h9
  · cases h1 : psW f n wNot a with
    | error e => rw [h1] at h; cases h
    | ok z =>
      rw [h1] at h
      cases z with
      | some b =>
        cases r with
        | none => cases h
        | some it =>
          obtain ⟨w, hw, h⟩ := thn_ok h
          have h3 := hr it rfl _ _ hw
          cases h
          exact ⟨tyv_un h3.1 (fun st => rfl), okX_app h3.2 (okX_one (Or.inl (Or.inl ⟨by decide, by decide⟩)))⟩
      | none =>
        have h : (match psW f n wAll a with
          | .error e => .error e
          | .ok (some b) => .ok ([13], b)
          | .ok none => thanP f n (atomP f n x o) a : Rz) = .ok y := h
        cases h2 : psW f n wAll a with
        | error e => rw [h2] at h; cases h
        | ok z =>
          rw [h2] at h
          cases z with
          | some b => cases h; exact ⟨fun st => rfl, okX_one (Or.inl (Or.inl ⟨by decide, by decide⟩))⟩
          | none => exact thanP_gd (atomP_gd hx o) a y h
theorem factP_gd (hx : x ≤ 3) : ∀ o, gd x false (factP f n x o)
  | 0 => fctK_gd hx (fun it h => by cases h)
  | o + 1 => fctK_gd hx (fun it h => by cases h; exact factP_gd hx o)
theorem okX_okC {w : Nat} {cs : List Nat} (hw : w < 3) (h : okX w cs) : okC (alw w) cs := by
  intro c hc
  rcases h c hc with e | e | e
  · refine Or.inl ?_; omega
  · refine Or.inr ⟨e.1, ?_, ?_⟩
    · have := e.2.2
      have : w = 0 ∨ w = 1 ∨ w = 2 := by omega
      rcases this with rfl | rfl | rfl <;> (unfold alwQ at this; simp at this; omega)
    · have h3 := e.2.2
      have : w = 0 ∨ w = 1 ∨ w = 2 := by omega
      rcases this with rfl | rfl | rfl <;> exact h3
  · omega
theorem codP_ok {w a : Nat} {y : List Nat × Nat} (hw : w < 3) (h : codP f n w a = .ok y) : (okC (alw w) y.1 ∧ tyC y.1 [] = some [decide (w ≠ 2)]) ∧ a < y.2 ∧ y.2 ≤ n ∧ a + y.1.length ≤ y.2 := by
  unfold codP at h
  split at h
  · next e =>
    subst e
    have h1 := testP_gd (factP_gd (f := f) (n := n) (x := 2) (by decide) 6) _ _ h
    exact ⟨⟨okX_okC (by decide) h1.2, h1.1 []⟩, testP_prg (factP_prg 6) _ _ h⟩
  · next e =>
    have h1 := sumP_gd (atomP_gd (f := f) (n := n) (x := w) (by omega) 6) _ _ h
    exact ⟨⟨okX_okC hw h1.2, by rw [h1.1 []]; rw [decide_eq_true e]⟩, sumP_prg (atomP_prg 6) _ _ h⟩
end ToldB
