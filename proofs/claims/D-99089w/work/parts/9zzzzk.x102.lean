set_option maxRecDepth 100000
/-! CONSTRUCTORS: the model object -/
def mk0 : Nat → Nat
  | 1 => 1
  | 2 => 1
  | 3 => 5
  | 4 => 5
  | 5 => 5
  | 6 => 5
  | 7 => 5
  | 8 => 5
  | 9 => 5
  | 10 => 5
  | 11 => 5
  | 12 => 5
  | 13 => 5
  | 14 => 5
  | 15 => 5
  | 16 => 5
  | 17 => 5
  | 18 => 5
  | 19 => 5
  | 20 => 5
  | 21 => 5
  | 22 => 5
  | 23 => 5
  | 24 => 5
  | 25 => 5
  | 26 => 5
  | 27 => 5
  | 28 => 2
  | 29 => 1
  | 30 => 1
  | 31 => 1
  | 32 => 1
  | 33 => 1
  | 34 => 1
  | 35 => 1
  | 36 => 1
  | 37 => 1
  | 38 => 1
  | 39 => 1
  | 40 => 1
  | 41 => 4
  | 42 => 1
  | 43 => 5
  | 44 => 5
  | 45 => 5
  | 46 => 5
  | 47 => 5
  | 48 => 5
  | 49 => 5
  | 50 => 5
  | 51 => 5
  | 52 => 5
  | 53 => 5
  | 54 => 5
  | 55 => 5
  | 56 => 5
  | 57 => 5
  | 58 => 5
  | 59 => 5
  | 60 => 5
  | 61 => 5
  | 62 => 5
  | 63 => 5
  | 64 => 5
  | 65 => 5
  | 66 => 5
  | 67 => 5
  | 68 => 1
  | 69 => 1
  | 70 => 2
  | 71 => 1
  | _ => 0
def mn0 : Nat → Nat
  | 1 => 1600
  | 2 => 6
  | 3 => 7
  | 4 => 4
  | 5 => 2
  | 6 => 4
  | 7 => 4
  | 8 => 6
  | 9 => 2
  | 10 => 6
  | 11 => 5
  | 12 => 4
  | 13 => 4
  | 14 => 4
  | 15 => 4
  | 16 => 4
  | 17 => 4
  | 18 => 4
  | 19 => 6
  | 20 => 5
  | 21 => 6
  | 22 => 2
  | 23 => 3
  | 24 => 3
  | 25 => 3
  | 26 => 3
  | 27 => 3
  | 28 => 16
  | 29 => 8
  | 30 => 16
  | 31 => 16
  | 32 => 64
  | 33 => 6
  | 34 => 6
  | 35 => 3200
  | 36 => 210
  | 37 => 89
  | 38 => 2048
  | 39 => 48
  | 40 => 310
  | 41 => 10
  | 42 => 4200
  | 43 => 5
  | 44 => 4
  | 45 => 5
  | 46 => 5
  | 47 => 4
  | 48 => 5
  | 49 => 3
  | 50 => 3
  | 51 => 2
  | 52 => 3
  | 53 => 3
  | 54 => 3
  | 55 => 4
  | 56 => 4
  | 57 => 6
  | 58 => 4
  | 59 => 4
  | 60 => 4
  | 61 => 4
  | 62 => 4
  | 63 => 6
  | 64 => 5
  | 65 => 6
  | 66 => 6
  | 67 => 4
  | 68 => 1700
  | 69 => 1700
  | 70 => 1700
  | 71 => 83
  | _ => 0
def mw0 : Nat → List Int32
  | 3 => [nI 116, nI 101, nI 114, nI 114, nI 97, nI 99, nI 101]
  | 4 => [nI 115, nI 111, nI 117, nI 108]
  | 5 => [nI 97, nI 116]
  | 6 => [nI 102, nI 97, nI 99, nI 101]
  | 7 => [nI 107, nI 105, nI 110, nI 100]
  | 8 => [nI 116, nI 104, nI 105, nI 110, nI 107, nI 115]
  | 9 => [nI 111, nI 102]
  | 10 => [nI 112, nI 97, nI 105, nI 110, nI 116, nI 115]
  | 11 => [nI 109, nI 105, nI 110, nI 100, nI 115]
  | 12 => [nI 102, nI 101, nI 117, nI 100]
  | 13 => [nI 115, nI 108, nI 105, nI 112]
  | 14 => [nI 108, nI 111, nI 111, nI 107]
  | 15 => [nI 115, nI 105, nI 100, nI 101]
  | 16 => [nI 103, nI 97, nI 105, nI 110]
  | 17 => [nI 98, nI 97, nI 99, nI 107]
  | 18 => [nI 121, nI 101, nI 97, nI 114]
  | 19 => [nI 110, nI 117, nI 109, nI 98, nI 101, nI 114]
  | 20 => [nI 104, nI 111, nI 117, nI 115, nI 101]
  | 21 => [nI 115, nI 112, nI 97, nI 114, nI 101, nI 115]
  | 22 => [nI 111, nI 114]
  | 23 => [nI 97, nI 110, nI 100]
  | 24 => [nI 110, nI 111, nI 116]
  | 25 => [nI 97, nI 108, nI 108]
  | 26 => [nI 109, nI 105, nI 110]
  | 27 => [nI 109, nI 97, nI 120]
  | 33 => [-1, -1, -1, -1, -1, -1]
  | 43 => [nI 102, nI 105, nI 114, nI 115, nI 116]
  | 44 => [nI 108, nI 97, nI 115, nI 116]
  | 45 => [nI 111, nI 102, nI 116, nI 101, nI 110]
  | 46 => [nI 116, nI 111, nI 116, nI 97, nI 108]
  | 47 => [nI 109, nI 111, nI 115, nI 116]
  | 48 => [nI 108, nI 101, nI 97, nI 115, nI 116]
  | 49 => [nI 110, nI 111, nI 116]
  | 50 => [nI 97, nI 110, nI 100]
  | 51 => [nI 111, nI 114]
  | 52 => [nI 97, nI 108, nI 108]
  | 53 => [nI 109, nI 105, nI 110]
  | 54 => [nI 109, nI 97, nI 120]
  | 55 => [nI 102, nI 97, nI 99, nI 101]
  | 56 => [nI 107, nI 105, nI 110, nI 100]
  | 57 => [nI 116, nI 104, nI 105, nI 110, nI 107, nI 115]
  | 58 => [nI 121, nI 101, nI 97, nI 114]
  | 59 => [nI 108, nI 111, nI 111, nI 107]
  | 60 => [nI 115, nI 105, nI 100, nI 101]
  | 61 => [nI 103, nI 97, nI 105, nI 110]
  | 62 => [nI 98, nI 97, nI 99, nI 107]
  | 63 => [nI 110, nI 117, nI 109, nI 98, nI 101, nI 114]
  | 64 => [nI 104, nI 111, nI 117, nI 115, nI 101]
  | 65 => [nI 115, nI 112, nI 97, nI 114, nI 101, nI 115]
  | 66 => [nI 116, nI 104, nI 105, nI 110, nI 107, nI 115]
  | 67 => [nI 98, nI 97, nI 99, nI 107]
  | _ => []
def stW (M : MM) (b k : Nat) : List Int32 → MM
  | [] => M
  | w :: ws => stW (sI M b k w) b (k + 1) ws
theorem stW_sm {b c : Nat} (h : c ≠ b) : ∀ (ws : List Int32) (M : MM) (k : Nat), Sm M (stW M b k ws) c
  | [], _, _ => Sm.rf
  | w :: ws, M, k => (Sm.sI h).trans (stW_sm h ws (sI M b k w) (k + 1))
theorem stW_Z {b : Nat} : ∀ (ws : List Int32) (M : MM) (k : Nat), mZ (stW M b k ws) = mZ M
  | [], _, _ => rfl
  | w :: ws, M, k => (stW_Z ws (sI M b k w) (k + 1))
theorem stW_b {b K N : Nat} {r : Nat → Option Nat} : ∀ (ws : List Int32) (M : MM) (k : Nat) (f : Nat → Int32), ZC M b K N f r → ZC (stW M b k ws) b K N (fun i => if k ≤ i ∧ i < k + ws.length then ws.getD (i - k) 0 else f i) r
  | [], M, k, f, h => h.cg rfl rfl (fun i => if_neg (by show ¬ (k ≤ i ∧ i < k + 0); omega)) (fun _ => rfl)
  | w :: ws, M, k, f, h => by
    have h1 : ZC (sI M b k w) b K N (fun i => if i = k then w else f i) r := ⟨h.1, h.2.1, fun i => by
      by_cases e : i = k
      · exact (if_pos ⟨rfl, e⟩).trans (if_pos e).symm
      · exact ((if_neg (fun q => e q.2)).trans (h.2.2.1 i)).trans (if_neg e).symm, h.2.2.2.1, h.2.2.2.2⟩
    refine (stW_b ws (sI M b k w) (k + 1) _ h1).cg rfl rfl (fun i => ?_) (fun _ => rfl)
    show (if k ≤ i ∧ i < k + (ws.length + 1) then (w :: ws).getD (i - k) 0 else f i) = if k + 1 ≤ i ∧ i < k + 1 + ws.length then ws.getD (i - (k + 1)) 0 else (if i = k then w else f i)
    by_cases e : i = k
    · subst e
      rw [if_pos (by omega), if_neg (by omega), if_pos rfl, Nat.sub_self]; rfl
    · by_cases e2 : k + 1 ≤ i ∧ i < k + 1 + ws.length
      · rw [if_pos (by omega), if_pos e2, show i - k = (i - (k + 1)) + 1 by omega]; rfl
      · rw [if_neg (by omega), if_neg e2, if_neg e]
/-- the model that is being made, n cells of it -/
def BM (M0 M : MM) (o n : Nat) (e : Nat → Int32) (f : Nat → Int64) : Prop := mZ M = o + n ∧ (∀ c, c < o → Sm M0 M c) ∧ (mK M o = 26 ∧ mN M o = 0 ∧ (∀ i, mI M o i = e i) ∧ ∀ i, mL M o i = f i) ∧ (∀ d, 1 ≤ d → d < n → mR M o (cf d) = some (o + d)) ∧ ∀ d, 1 ≤ d → d < n → ZC M (o + d) (mk0 d) (mn0 d) (fun i => (mw0 d).getD i 0) (fun _ => none)
section BM
variable {M0 M N : MM} {o n : Nat} {e : Nat → Int32} {f : Nat → Int64}
theorem BM.fresh (h : BM M0 M o n e f) {t m : Nat} (hN : nw M t m = N) : mK N (o + n) = t ∧ (∀ j, j < m → j < mN N (o + n)) ∧ (1 ≤ n → mK N o = 26) := by
  subst hN
  rw [← h.1]
  refine ⟨if_pos rfl, fun j hj => ?_, fun hn => ?_⟩
  · rw [show mN (nw M t m) (mZ M) = m from if_pos rfl]; exact hj
  · exact (if_neg (show ¬ o = mZ M by rw [h.1]; omega)).trans h.2.2.1.1
theorem BM.arr (h : BM M0 M o n e f) {t m : Nat} {ws : List Int32} (h1 : 1 ≤ n) (hn : n < 72) (hk : mk0 n = t) (hm : mn0 n = m) (hw : mw0 n = ws) : BM M0 (sR (stW (nw M t m) (o + n) 0 ws) o (cf n) (some (o + n))) o (n + 1) e f := by
  obtain ⟨z1, z2, ⟨z3, z4, z5, z6⟩, z7, z8⟩ := h
  have s1 : ∀ c, c < o + n → Sm M (stW (nw M t m) (o + n) 0 ws) c := fun c hc => (Sm.nw (by omega)).trans (stW_sm (by omega) ws _ 0)
  have s0 := s1 o (by omega)
  have b1 : ZC (stW (nw M t m) (o + n) 0 ws) (o + n) t m (fun i => ws.getD i 0) (fun _ => none) := by
    have hz : ZC (nw M t m) (o + n) t m (fun _ => 0) (fun _ => none) := by rw [← z1]; exact ZC.nw
    refine (stW_b ws _ 0 _ hz).cg rfl rfl (fun i => ?_) (fun _ => rfl)
    show _ = if 0 ≤ i ∧ i < 0 + ws.length then ws.getD (i - 0) 0 else (0 : Int32)
    by_cases q : i < ws.length
    · rw [if_pos (by omega), Nat.sub_zero]
    · rw [if_neg (by omega), List.getD_eq_getElem?_getD, List.getElem?_eq_none (by omega)]; rfl
  have zz : mZ (stW (nw M t m) (o + n) 0 ws) = o + n + 1 := by rw [stW_Z, mZ_nw, z1]
  generalize stW (nw M t m) (o + n) 0 ws = M1 at *
  refine ⟨zz, fun c hc => (z2 c hc).trans ((s1 c (by omega)).trans (Sm.sR (by omega))), ⟨s0.1.trans z3, s0.2.1.trans z4, fun i => by rw [mI_sR, s0.2.2.1]; exact z5 i, fun i => by rw [mL_sR, s0.2.2.2.1]; exact z6 i⟩, fun d q1 q2 => ?_, fun d q1 q2 => ?_⟩
  · by_cases q : d = n
    · subst q; exact mR_sRs _ _ _ _
    · rw [mR_sRj (fun x => q (cf_inj d (by omega) n hn q1 h1 x)), s0.2.2.2.2]; exact z7 d q1 (by omega)
  · by_cases q : d = n
    · subst q; rw [hk, hm, hw]; exact b1.sm (Sm.sR (by omega))
    · exact (z8 d q1 (by omega)).sm ((s1 _ (by omega)).trans (Sm.sR (by omega)))
theorem BM.i0 (h : BM M0 M o n e f) (j : Nat) (x : Int32) : BM M0 (sI M o j x) o n (fun i => if i = j then x else e i) f := by
  obtain ⟨z1, z2, ⟨z3, z4, z5, z6⟩, z7, z8⟩ := h
  refine ⟨z1, fun c hc => (z2 c hc).trans (Sm.sI (by omega)), ⟨z3, z4, fun i => ?_, z6⟩, z7, fun d q1 q2 => (z8 d q1 q2).sm (Sm.sI (by omega))⟩
  by_cases q : i = j
  · exact (if_pos ⟨rfl, q⟩).trans (if_pos q).symm
  · exact ((if_neg (fun u => q u.2)).trans (z5 i)).trans (if_neg q).symm
theorem BM.l0 (h : BM M0 M o n e f) (j : Nat) (x : Int64) : BM M0 (sL M o j x) o n e (fun i => if i = j then x else f i) := by
  obtain ⟨z1, z2, ⟨z3, z4, z5, z6⟩, z7, z8⟩ := h
  refine ⟨z1, fun c hc => (z2 c hc).trans (Sm.sL (by omega)), ⟨z3, z4, z5, fun i => ?_⟩, z7, fun d q1 q2 => (z8 d q1 q2).sm (Sm.sL (by omega))⟩
  by_cases q : i = j
  · exact (if_pos ⟨rfl, q⟩).trans (if_pos q).symm
  · exact ((if_neg (fun u => q u.2)).trans (z6 i)).trans (if_neg q).symm
end BM
