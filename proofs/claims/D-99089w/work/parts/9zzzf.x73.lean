set_option maxRecDepth 100000
/-! THE READER: tests that are being made; what their reading tells, and costs -/
def RTQ (M : MM) (o n : Nat) (f : Nat → Nat) (D : Nat) (r : Rz) : Option Value → MM → Prop := fun v M' => ∃ y z b, r = .ok y ∧ v = some (.ref z) ∧ TST M' o (fun c => mZ M ≤ c ∧ c < mZ M') D z y.1 ∧ RO M o b M' ∧ b ≤ n ∧ skip f n b = skip f n y.2
def CtT (g : GC) (y : MethodName) (cc : ByteArray) (nL d tC FC tS FS o n : Nat) (f : Nat → Nat) (x oo D : Nat) (it : Nat → Rz) : Prop := ∀ M a, RWA g M o n f x oo a → Ct g y cc nL (some (.object "Retouched$Test")) d (cst 60 tC FC n a (it a)) (cst 4000 tS FS n a (it a)) [.ref (o + 5)] M (RTQ M o n f D (it a)) (RVX M o (it a))
theorem psW_eq {f : Nat → Nat} {n a b : Nat} {w : List Nat} (h : skip f n b = skip f n a) : psW f n w b = psW f n w a := by
  unfold psW
  rw [lookO_eq h, h]
theorem itcT {K t F F' tL s n b p : Nat} {r : Rz} {L : List Nat → Nat → Rz} (hb : b < p) (hp : p ≤ n) (hpr : ∀ y, r = .ok y → p < y.2 ∧ y.2 ≤ n) (hL : ∀ y z, r = .ok y → L y.1 y.2 = .ok z → y.2 ≤ z.2) (h1 : s + t ≤ K * (p + 1 - b)) (h2 : s + F ≤ K * (p - b) + F') :
    s + cst K t F n p r ≤ clp K tL F' n b (thn r L) ∧ ∀ y, r = .ok y → s + clp K tL F' n y.2 (L y.1 y.2) + cst K t F n p r ≤ clp K tL F' n b (thn r L) := by
  have key : ∀ y, r = .ok y → s + clp K tL F' n y.2 (L y.1 y.2) + cst K t F n p r ≤ clp K tL F' n b (thn r L) := by
    intro y hy
    subst hy
    obtain ⟨q1, q2⟩ := hpr y rfl
    show s + clp K tL F' n y.2 (L y.1 y.2) + cst K t F n p (.ok y) ≤ clp K tL F' n b (L y.1 y.2)
    rw [cst_ok]
    cases hq : L y.1 y.2 with
    | ok z =>
      have q3 := hL y z rfl hq
      rw [clp_ok, clp_ok]
      have e : K * (z.2 - b) = K * (z.2 - y.2) + K * (y.2 - p - 1) + K * (p + 1 - b) := by rw [← Nat.mul_add, ← Nat.mul_add]; congr 1; omega
      omega
    | error e0 =>
      rw [clp_er, clp_er]
      have e : K * (n - b) = K * (n - y.2) + K * (y.2 - p - 1) + K * (p + 1 - b) := by rw [← Nat.mul_add, ← Nat.mul_add]; congr 1; omega
      omega
  refine ⟨?_, key⟩
  cases hr : r with
  | ok y => have := key y hr; rw [hr] at this; omega
  | error e0 =>
    show s + cst K t F n p (.error e0) ≤ clp K tL F' n b (.error e0)
    rw [cst_er, clp_er]
    have e : K * (n - b) = K * (n - p) + K * (p - b) := by rw [← Nat.mul_add]; congr 1; omega
    omega
theorem stcT {K t F t' F' FL tL s n a : Nat} {r : Rz} {L : List Nat → Nat → Rz} (hpr : ∀ y, r = .ok y → a < y.2 ∧ y.2 ≤ n) (hL : ∀ y z, r = .ok y → L y.1 y.2 = .ok z → y.2 ≤ z.2) (h1 : s + t + tL ≤ t') (h2 : s + F ≤ F') (h3 : s + t + FL ≤ K + F') :
    s + cst K t F n a r ≤ cst K t' F' n a (thn r L) ∧ ∀ y, r = .ok y → s + clp K tL FL n y.2 (L y.1 y.2) + cst K t F n a r ≤ cst K t' F' n a (thn r L) := by
  have key : ∀ y, r = .ok y → s + clp K tL FL n y.2 (L y.1 y.2) + cst K t F n a r ≤ cst K t' F' n a (thn r L) := by
    intro y hy
    subst hy
    obtain ⟨q1, q2⟩ := hpr y rfl
    show s + clp K tL FL n y.2 (L y.1 y.2) + cst K t F n a (.ok y) ≤ cst K t' F' n a (L y.1 y.2)
    rw [cst_ok]
    cases hq : L y.1 y.2 with
    | ok z =>
      have q3 := hL y z rfl hq
      rw [clp_ok, cst_ok]
      have e : K * (z.2 - a - 1) = K * (z.2 - y.2) + K * (y.2 - a - 1) := by rw [← Nat.mul_add]; congr 1; omega
      omega
    | error e0 =>
      rw [clp_er, cst_er]
      have e : K * (n - a) = K * (n - y.2) + K * (y.2 - a - 1) + K := by rw [← Nat.mul_add, ← Nat.mul_succ]; congr 1; omega
      omega
  refine ⟨?_, key⟩
  cases hr : r with
  | ok y => have := key y hr; rw [hr] at this; omega
  | error e0 =>
    show s + cst K t F n a (.error e0) ≤ cst K t' F' n a (.error e0)
    rw [cst_er, cst_er]
    omega
/-- joined tests that are being made -/
def FCW (g : GC) (M0 M : MM) (o D fa l v k : Nat) (all : Bool) (F : Nat → List Nat) : Prop := (mK M fa = 35 ∧ mR M fa 0 = some l ∧ mI M fa 1 = zI (all = true)) ∧ LsX M l v k ∧ (fa < mZ M ∧ l < mZ M ∧ v < mZ M) ∧ (gb g ≤ l ∧ gb g ≤ v) ∧ (mZ M0 ≤ fa ∧ mZ M0 ≤ l ∧ mZ M0 ≤ v) ∧ 0 < mN M v ∧ (∀ i z, mR M v i = some z → OB g M z) ∧ k < 100000 ∧ ∀ i, i < k → ∃ e, mR M v i = some e ∧ TST M o (fun c => mZ M0 ≤ c ∧ c < mZ M ∧ c ≠ l ∧ c ≠ v) D e (F i)
section Fcw
variable {g : GC} {M0 M M1 M2 : MM} {o D fa l v k mi : Nat} {all : Bool} {F : Nat → List Nat}
theorem FCW.ne (h : FCW g M0 M o D fa l v k all F) : fa ≠ l ∧ fa ≠ v ∧ l ≠ v := by
  obtain ⟨⟨h1, -⟩, ⟨h2, -, -, h3, -⟩, -⟩ := h
  refine ⟨?_, ?_, ?_⟩ <;> (intro e; subst e; omega)
theorem FCW.fr (h : FCW g M0 M o D fa l v k all F) (hr : RFr o M M1) (ho : o + 6 < mZ M0) : FCW g M0 M1 o D fa l v k all F := by
  obtain ⟨⟨h1, h2, h3⟩, h4, ⟨a1, a2, a3⟩, h6, ⟨p1, p2, p3⟩, h8, h9, h10, h11⟩ := h
  have hz := hr.1.1
  have hS : ∀ c, mZ M0 ≤ c → c < mZ M → Sm M M1 c := fun c hc hc2 => hr.sm hc2 (by omega)
  have sf := hS fa p1 a1
  have sl := hS l p2 a2
  have sv := hS v p3 a3
  refine ⟨⟨sf.1.trans h1, by rw [sf.2.2.2.2]; exact h2, by rw [sf.2.2.1]; exact h3⟩, h4.fr sl sv, ⟨by omega, by omega, by omega⟩, h6, ⟨p1, p2, p3⟩, by rw [sv.2.1]; exact h8, fun i z hz' => ?_, h10, fun i hi => ?_⟩
  · rw [sv.2.2.2.2] at hz'
    obtain ⟨q1, ci, q2, q3⟩ := h9 i z hz'
    exact ⟨by omega, ci, (hr.k q1).trans q2, q3⟩
  · obtain ⟨e, e1, e2⟩ := h11 i hi
    exact ⟨e, by rw [sv.2.2.2.2]; exact e1, TST.fr (fun c hc => hS c hc.1 hc.2.1) (fun c hc => ⟨hc.1, by omega, hc.2.2⟩) D D e (F i) (Nat.le_refl _) e2⟩
theorem FCW.gw (h : FCW g M0 M o D fa l v k all F) (hg : GX g) (hO : GO g) (hz : NM g "[Ljava/lang/Object;" mi) (hgz : gb g ≤ mZ M) : LGw g M l v k mi := ⟨hg, hO, hz, h.2.1, h.2.2.1.2.1, h.2.2.1.2.2, h.2.2.2.1.1, h.2.2.2.1.2, hgz, fun i _ z q => h.2.2.2.2.2.2.1 i z q, h.2.2.2.2.2.2.2.1, h.2.2.2.2.2.1⟩
theorem FCW.add {x ci : Nat} {ds : List Nat} (h : FCW g M0 M o D fa l v k all F) (hA : LAD M l v k x M2) (hk1 : k + 1 < 100000) (hgz : gb g ≤ mZ M) (hx : TST M o (fun q => mZ M1 ≤ q ∧ q < mZ M) D x ds) (hxk : mK M x = 20 + ci) (hca : NW g (.castable (clT ci).1 "java/lang/Object")) (hxz : x < mZ M) (h01 : mZ M0 ≤ mZ M1) (hch : l < mZ M1 ∧ v < mZ M1) :
    ∃ v', FCW g M0 M2 o D fa l v' (k + 1) all (upF F k ds) ∧ FM (fun q => mZ M0 ≤ q) M M2 := by
  obtain ⟨n1, n2, n3⟩ := h.ne
  obtain ⟨⟨h1, h2, h3⟩, h4, ⟨a1, a2, a3⟩, ⟨g1, g2⟩, ⟨p1, p2, p3⟩, h8, h9, h10, h11⟩ := h
  obtain ⟨v', c1, c2, c3, c4, c5, c6, c7, c8, c9⟩ := hA
  have hz := c6.1
  have hS : ∀ q, q < mZ M → q ≠ l → q ≠ v → Sm M M2 q := fun q hq e1 e2 => c6.2 q hq (fun e => by omega)
  have sf := hS fa a1 n1 n2
  have ob : ∀ z, OB g M z → OB g M2 z := fun z hz' => by
    obtain ⟨q1, cj, q2, q3⟩ := hz'
    by_cases e1 : z = l
    · subst e1
      exact ⟨by omega, cj, by rw [c1.1, ← h4.1]; exact q2, q3⟩
    by_cases e2 : z = v
    · subst e2; rw [h4.2.2.2.1] at q2; omega
    exact ⟨by omega, cj, (hS z q1 e1 e2).1.trans q2, q3⟩
  refine ⟨v', ⟨⟨sf.1.trans h1, by rw [sf.2.2.2.2]; exact h2, by rw [sf.2.2.1]; exact h3⟩, c1, ⟨by omega, by omega, c9⟩, ⟨g1, by omega⟩, ⟨p1, p2, by omega⟩, ?_, fun i z hz' => ?_, hk1, fun i hi => ?_⟩, ⟨hz, fun q hq hn => hS q hq (by omega) (by omega)⟩⟩
  · have := c1.2.2.2.2.1; omega
  · by_cases e1 : i = k
    · subst e1
      rw [c3] at hz'
      cases hz'
      exact ob x ⟨hxz, ci, hxk, hca⟩
    · by_cases e2 : i < k
      · rw [c2 i e2] at hz'
        exact ob z (h9 i z hz')
      · rcases c4 i (by omega) with q | q
        · rw [q] at hz'
          exact ob z (h9 i z hz')
        · rw [q] at hz'; cases hz'
  · by_cases e : i = k
    · subst e
      refine ⟨x, c3, ?_⟩
      rw [upF, if_pos rfl]
      exact TST.fr (fun q hq => hS q hq.2 (by omega) (by omega)) (fun q hq => ⟨by omega, by omega, by omega, by omega⟩) D D x ds (Nat.le_refl _) hx
    · obtain ⟨z, z1, z2⟩ := h11 i (by omega)
      refine ⟨z, (c2 i (by omega)).trans z1, ?_⟩
      rw [upF, if_neg e]
      exact TST.fr (fun q hq => hS q hq.2.1 hq.2.2.1 hq.2.2.2) (fun q hq => ⟨hq.1, by omega, by omega, by omega⟩) D D z (F i) (Nat.le_refl _) z2
theorem FCW.tst (h : FCW g M0 M o D fa l v k all F) (hk : 1 ≤ k) : TST M o (fun c => mZ M0 ≤ c ∧ c < mZ M) (D + 1) fa (chC F (fun _ => if all = true then 10 else 11) (k - 1)) := by
  obtain ⟨⟨h1, h2, h3⟩, h4, ⟨a1, a2, a3⟩, -, ⟨p1, p2, p3⟩, -, -, -, h11⟩ := h
  refine Or.inr (Or.inr (Or.inr ⟨l, v, k, F, all, ⟨⟨⟨p1, a1⟩, ⟨p2, a2⟩, ⟨p3, a3⟩⟩, h1, h2, h3, h4⟩, hk, fun i hi => ?_, rfl⟩))
  obtain ⟨e, e1, e2⟩ := h11 i hi
  exact ⟨e, e1, TST.fr (fun c _ => Sm.rf) (fun c hc => ⟨hc.1, hc.2.1⟩) D D e (F i) (Nat.le_refl _) e2⟩
theorem FCW.mk {z : Int32} (h : FNW M fa z M1) (hK : mK M fa = 35) (hz : z = zI (all = true)) (hf : fa < mZ M) (h0 : mZ M0 ≤ fa) (hm : mZ M0 ≤ mZ M) (hgz : gb g ≤ mZ M) : FCW g M0 M1 o D fa (mZ M) (mZ M + 1) 0 all F := by
  obtain ⟨f1, f2, f3, f4, f5, f6, f7, f8⟩ := h
  exact ⟨⟨f6.trans hK, f4, f5.trans hz⟩, f1, ⟨by omega, by omega, by omega⟩, ⟨hgz, by omega⟩, ⟨h0, hm, by omega⟩, by rw [f2]; decide, fun i z q => (by rw [f3 i] at q; cases q), by decide, fun i hi => absurd hi (Nat.not_lt_zero i)⟩
theorem TST.ob {P : Nat → Prop} {x : Nat} {cs : List Nat} (hg : GX g) : ∀ D, TST M o P D x cs → ∃ ci, mK M x = 20 + ci ∧ NW g (.castable (clT ci).1 "java/lang/Object") ∧ P x
  | 0, h => h.elim
  | D + 1, h => by
    rcases h with ⟨p, h1, -⟩ | ⟨p, h1, -⟩ | ⟨p, h1, -⟩ | ⟨l, v, n, f, all, h1, -⟩
    · exact ⟨17, h1, hg _ q2523 rfl, p⟩
    · exact ⟨16, h1, hg _ q2522 rfl, p⟩
    · exact ⟨18, h1, hg _ q2524 rfl, p⟩
    · exact ⟨15, h1.2.1, hg _ q2521 rfl, h1.1.1⟩
theorem chC_upF {V : Nat} {ds : List Nat} (hk : 1 ≤ k) : chC (upF F k ds) (fun _ => V) (k + 1 - 1) = chC F (fun _ => V) (k - 1) ++ (ds ++ [V]) := by
  obtain ⟨j, rfl⟩ : ∃ j, k = j + 1 := ⟨k - 1, by omega⟩
  rw [Nat.add_sub_cancel, Nat.add_sub_cancel]
  show chC (upF F (j + 1) ds) (fun _ => V) j ++ (upF F (j + 1) ds (j + 1) ++ [V]) = _
  rw [upF, if_pos rfl]
  rw [chC_congr (f := upF F (j + 1) ds) (f' := F) (op := fun _ => V) (op' := fun _ => V) j (fun i hi => if_neg (by omega)) (fun i _ hi => rfl)]
end Fcw
def ptT (f : Nat → Nat) (n : Nat) (w : List Nat) (v : Nat) (it : Nat → Rz) (a : Nat) : Rz := thn (it a) (fun cs b => loopT f n it w v (n + 1) cs b)
theorem bothP_pt {f : Nat → Nat} {n : Nat} {it : Nat → Rz} : bothP f n it = ptT f n wAnd 10 it := rfl
theorem testP_pt {f : Nat → Nat} {n : Nat} {it : Nat → Rz} : testP f n it = ptT f n wOr 11 (bothP f n it) := rfl
