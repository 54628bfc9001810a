set_option maxRecDepth 100000
/-! THE OTHER SIDE: ask -/
section X96
variable {g : GC} {M M2 G : MM} {o ta zq k : Nat} {P : Nat → Prop} {s s3 : XS} {q : Sg} {T : Te} {t : St} {cs : List Nat}
theorem ix_ft {x : Nat × Option Nat} (hI : IX g M o P ta s q) (hG : GI q) (hPz : ∀ c, P c → c < mZ M) (hF : FO o M M2) (hS : ShX g M2 o) (hX : FxX (rX s3) o) (er : ∀ c j, ow c → c ≠ 5 → c ≠ 6 → rX s3 c j = rX s c j) (el : ∀ c, ow c → c ≠ 5 → c ≠ 6 → c ≠ 10 → lX s3 c = lX s c) (m10 : MmX s3 10) (ei : ∀ c j, ow c → c ≠ 5 → c ≠ 6 → c ≠ 0 → iX s3 c j = iX s c j) (e0 : ∀ j, j ≠ 2 → j ≠ 3 → j ≠ 4 → j ≠ 20 → iX s3 0 j = iX s 0 j) (e2 : iX s3 0 2 = nI 0) (e3 : iX s3 0 3 = nI x.1) (e4 : iX s3 0 4 = oI x.2) : IX g M2 o P ta s3 (uFt (uTp q (gTp q) 0) x) := by
  have hP := hI.1.2.2.2.1
  obtain ⟨w1, w2, ⟨a1, a1b, a1c⟩, a2, a3, a4, a5, a6, a7, a8, a9, a10⟩ := hI
  have hn : tn (gT q) ≤ 8 := w1.B.1
  have owS : ∀ c, 12 ≤ c → c < 1517 → ow c := fun c h1 h2 => by unfold ow; omega
  have m8 : MmX s3 8 := fun j hj => by rw [el 8 ow_8 (by decide) (by decide) (by decide)]; exact w1.m j hj
  refine ⟨w1.fr2 hPz hF hS hX (er 0 0 ow_0 (by decide) (by decide)) m8, w2.fr w1.2.2.2.2.2.1.1 (fun c hc => hF.2 c (hPz c hc) (hP c hc)) (fun _ z => z), ⟨e2, fun j hj => ?_, fun j hj => ?_⟩, ⟨e3, e4⟩, fun i hi => ?_, a4.fr hn (fun c j hc => ?_) (fun j => ?_), a5.fr hn hG.2.2.2.2.2.2.2.1 (fun c j hc => ?_) (fun c j h1 h2 => ?_), fun b hb => ?_, a7.fr (fun c j hc => ?_), ?_, a9.fr (fun c j hc => ?_), m10⟩
  · rw [ei 4 j ow_4 (by decide) (by decide) (by decide)]; exact a1b j hj
  · rw [ei 4 j ow_4 (by decide) (by decide) (by decide)]; exact a1c j hj
  · rw [ei 11 i (by unfold ow; omega) (by decide) (by decide) (by decide)]; exact a3 i hi
  · unfold rNw at hc; exact ei c j (owS c (by omega) (by omega)) (by omega) (by omega) (by omega)
  · exact er 27 j (owS 27 (by decide) (by decide)) (by decide) (by decide)
  · rcases hc with ⟨rfl, rfl⟩ | hc
    · exact e0 18 (by decide) (by decide) (by decide) (by decide)
    · exact ei c j (owS c (by omega) (by omega)) (by omega) (by omega) (by omega)
  · exact er c j (owS c (by omega) (by omega)) (by omega) (by omega)
  · have hb2 := isS_c hb
    obtain ⟨pm, p1, p2⟩ := a6 b hb
    exact ⟨pm, fun j hj => ⟨(p1 j hj).1, (er (b + 15) j (owS _ (by omega) (by omega)) (by omega) (by omega)).trans (p1 j hj).2⟩, p2⟩
  · rcases hc with ⟨rfl, rfl⟩ | hc
    · exact e0 15 (by decide) (by decide) (by decide) (by decide)
    · exact ei c j (owS c (by omega) (by omega)) (by omega) (by omega) (by omega)
  · unfold cSd; rw [el 0 ow_0 (by decide) (by decide) (by decide)]; exact a8
  · rcases hc with ⟨rfl, rfl⟩ | rfl
    · exact e0 22 (by decide) (by decide) (by decide) (by decide)
    · exact ei 1516 j (owS _ (by decide) (by decide)) (by decide) (by decide) (by decide)
theorem putX_sI {a j : Nat} {v : Int32} (h : ¬ owA o a) : sI (putX M o s) a j v = putX (sI M a j v) o s := by
  refine Prod.ext rfl (Prod.ext rfl (Prod.ext rfl (Prod.ext ?_ (Prod.ext rfl rfl))))
  funext b i
  show mI (sI (putX M o s) a j v) b i = mI (putX (sI M a j v) o s) b i
  by_cases e : owA o b
  · rw [mI_sIa (fun q => h (by rw [← q]; exact e))]
    show (if b = o ∨ (o + 4 ≤ b ∧ b < o + 1517) then iX s (b - o) i else mI M b i) = (if b = o ∨ (o + 4 ≤ b ∧ b < o + 1517) then iX s (b - o) i else mI (sI M a j v) b i)
    have e' : b = o ∨ (o + 4 ≤ b ∧ b < o + 1517) := e
    rw [if_pos e', if_pos e']
  · rw [mI_putXn e, mI_sI, mI_sI, mI_putXn e]
theorem putX_sL {a j : Nat} {v : Int64} (h : ¬ owA o a) : sL (putX M o s) a j v = putX (sL M a j v) o s := by
  refine Prod.ext rfl (Prod.ext rfl (Prod.ext rfl (Prod.ext rfl (Prod.ext ?_ rfl))))
  funext b i
  show mL (sL (putX M o s) a j v) b i = mL (putX (sL M a j v) o s) b i
  by_cases e : owA o b
  · rw [mL_sLa (fun q => h (by rw [← q]; exact e))]
    show (if b = o ∨ (o + 4 ≤ b ∧ b < o + 1517) then lX s (b - o) i else mL M b i) = (if b = o ∨ (o + 4 ≤ b ∧ b < o + 1517) then lX s (b - o) i else mL (sL M a j v) b i)
    have e' : b = o ∨ (o + 4 ≤ b ∧ b < o + 1517) := e
    rw [if_pos e', if_pos e']
  · rw [mL_putXn e, mL_sL, mL_sL, mL_putXn e]
/-- the question's trees, wherever only zq may have changed -/
def QTr (G : MM) (o : Nat) (Pq : Nat → Prop) (zq k : Nat) (cs : List Nat) : Prop := (k < 3 → ∃ t, mR G zq 1 = some t ∧ TST G o Pq 40 t cs) ∧ (3 ≤ k → ∃ t, mR G zq 2 = some t ∧ VAL G o Pq 40 t cs)
theorem QTr.fr {G' : MM} {Pq : Nat → Prop} (h : QTr G o Pq zq k cs) (hS : ∀ c, Pq c → Sm G G' c) (hr : mR G' zq = mR G zq) : QTr G' o Pq zq k cs := by
  refine ⟨fun q => ?_, fun q => ?_⟩
  · obtain ⟨t, t1, t2⟩ := h.1 q
    exact ⟨t, by rw [hr]; exact t1, TST.fr hS (fun _ z => z) 40 40 t cs (Nat.le_refl _) t2⟩
  · obtain ⟨t, t1, t2⟩ := h.2 q
    exact ⟨t, by rw [hr]; exact t1, VAL.fr hS (fun _ z => z) 40 40 t cs (Nat.le_refl _) t2⟩
/-- all that stands while persons are asked -/
def AK (g : GC) (G : MM) (o : Nat) (P : Nat → Prop) (ta : Nat) (T : Te) (t : St) (Pq : Nat → Prop) (zq k : Nat) (cs : List Nat) (s : XS) : Prop := WS g G o P ta T s ∧ SoX G P ta T ∧ SX s 12 (tn T) (fa T) (ki T) t ∧ SB (tn T) t ∧ (¬ owA o zq ∧ gb g ≤ zq ∧ ¬ P zq ∧ ¬ Pq zq ∧ ∀ c, Pq c → ¬ owA o c) ∧ QTr G o Pq zq k cs ∧ okX 3 cs ∧ MmX s 10
theorem ofnA_b {i kk : Nat} {r : Int} (hB : SB (tn T) t) (hi : i < tn T) : b62 (ofnA T t i kk r) := by
  unfold ofnA
  split
  · next hc =>
    obtain ⟨m, rfl⟩ : ∃ m : Nat, r = (m : Int) := ⟨r.toNat, by omega⟩
    have hm : m < tn T := by omega
    have hti := (hB.2 i hi).2.2.2 m hm
    have htm := (hB.2 m hm).2.2.2 i hi
    have e : ((m : Int)).toNat = m := rfl
    rw [e]
    split <;> (constructor <;> omega)
  · constructor <;> decide
/-- one moment: what it tells -/
theorem ak_at {Pq : Nat → Prop} {i : Nat} {E : Nat → Int} (h : AK g G o P ta T t Pq zq k cs s) (hA : iX s 0 20 = nI i) (hi : i < tn T) (hE : ∀ j, j < 11 → lX s 10 j = lI (E j) ∧ b31 (E j)) (he : ∀ j, alwQ 3 j = true → j < 11 → E j = envA T t i j) : (k < 3 → ∃ tt, mR (putX G o s) zq 1 = some tt ∧ (evA T t cs i = 0 ∨ evA T t cs i = 1) ∧ HO g (putX G o s) 420 tt (o + 9) (.int (zI (evA T t cs i = 1)))) ∧ (3 ≤ k → ∃ tt, mR (putX G o s) zq 2 = some tt ∧ b6 (evA T t cs i) ∧ AT g (putX G o s) 410 tt (o + 9) (.long (lI (evA T t cs i)))) := by
  obtain ⟨W, S, hN, hB, ⟨z1, z2, z3, z4, z5⟩, ⟨q1, q2⟩, hok, hm⟩ := h
  have hMo := MoX.of9 W.S W.X hE
  have hL : LKD g (putX G o s) o (ofnA T t i) cs := fun kk hkk hk2 r hr => ⟨ofnA_b hB hi, W.S.k ow_0 kd_0, fun d hd => ct_X0_looked W S hN hB hA hi hk2 hr hd⟩
  have ev : ∀ r, (∀ st, rpn E (ofnA T t i) cs st = r :: st) → evA T t cs i = r := fun r hr => by
    unfold evA
    rw [← rpn_c3 he cs [] hok, hr]; rfl
  refine ⟨fun hk => ?_, fun hk => ?_⟩
  · obtain ⟨tt, t1, t2⟩ := q1 hk
    have t3 : TST (putX G o s) o Pq 40 tt cs := TST.fr (fun c hc => Sm.put (z5 c hc)) (fun _ z => z) 40 40 tt cs (Nat.le_refl _) t2
    obtain ⟨r, r1, r2, r3⟩ := TST.ho (ofn := ofnA T t i) W.gx W.z hMo 40 tt cs hL t3
    rw [ev r r2]
    exact ⟨tt, (mR_putXn z1).trans t1, r1, r3 420 (by decide)⟩
  · obtain ⟨tt, t1, t2⟩ := q2 hk
    have t3 : VAL (putX G o s) o Pq 40 tt cs := VAL.fr (fun c hc => Sm.put (z5 c hc)) (fun _ z => z) 40 40 tt cs (Nat.le_refl _) t2
    obtain ⟨r, r1, r2, r3⟩ := VAL.at (ofn := ofnA T t i) W.gx W.z hMo 40 tt cs hL t3
    rw [ev r r2]
    exact ⟨tt, (mR_putXn z1).trans t1, r1, r3 410 (by decide)⟩
theorem AK.toS {Pq : Nat → Prop} (h : AK g G o P ta T t Pq zq k cs s) (hr : rX s3 = rX s) (hi : ∀ c j, c ≠ 0 → iX s3 c j = iX s c j) (hl : lX s3 8 = lX s 8) (hm : MmX s3 10) : AK g G o P ta T t Pq zq k cs s3 := by
  obtain ⟨W, S, hN, hB, z, hq, hok, -⟩ := h
  refine ⟨W.rx hr (fun j hj => by rw [hl]; exact W.m j hj), S, ?_, hB, z, hq, hok, hm⟩
  obtain ⟨c1, c2, c3, c4, c5, c6, c7, c8⟩ := hN
  exact ⟨(hi _ _ (by decide)).trans c1, (hi _ _ (by decide)).trans c2, fun p hp => (hi _ _ (by decide)).trans (c3 p hp), fun p hp => (hi _ _ (by decide)).trans (c4 p hp), fun p hp => (hi _ _ (by decide)).trans (c5 p hp), fun p hp => (hi _ _ (by decide)).trans (c6 p hp), fun p hp => (hi _ _ (by decide)).trans (c7 p hp), fun p hp r hr2 => (hi _ _ (by omega)).trans (c8 p hp r hr2)⟩
theorem AK.toQ {Pq : Nat → Prop} {v : Int64} {x : Int32} (h : AK g G o P ta T t Pq zq k cs s) : AK g (sI (sL G zq 3 v) zq 4 x) o P ta T t Pq zq k cs s := by
  obtain ⟨W, S, hN, hB, ⟨z1, z2, z3, z4, z5⟩, hq, hok, hm⟩ := h
  have hS : ∀ c, c ≠ zq → Sm G (sI (sL G zq 3 v) zq 4 x) c := fun c hc => (Sm.sL hc).trans (Sm.sI hc)
  have hSP : ∀ c, P c → Sm G (sI (sL G zq 3 v) zq 4 x) c := fun c hc => hS c (fun e => z3 (by rw [← e]; exact hc))
  obtain ⟨w1, w2, w3, w4, w5, w6, w7, w8⟩ := W
  exact ⟨⟨w1, w2, w3, w4, w5, w6.fr hSP (fun _ z => z), w7, w8⟩, S.fr w6.1 hSP (fun _ z => z), hN, hB, ⟨z1, z2, z3, z4, z5⟩, hq.fr (fun c hc => hS c (fun e => z4 (by rw [← e]; exact hc))) rfl, hok, hm⟩
end X96
