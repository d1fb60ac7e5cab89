/-! THE TWIN's WORLD: S = (doubles by array, ints by array, plain ints); array k (as in TX6) lies at ta k; Y: what else is known -/
abbrev Tw : Type := (Nat → Nat → UInt64) × (Nat → Nat → Int32) × (Nat → Int32)
def gD (S : Tw) (k : Nat) : Nat → UInt64 := S.1 k
def gI (S : Tw) (k : Nat) : Nat → Int32 := S.2.1 k
def gF (S : Tw) (k : Nat) : Int32 := S.2.2 k
def sD (S : Tw) (k j : Nat) (v : UInt64) : Tw := (va_up S.1 k (vf_upd (S.1 k) j v), S.2.1, S.2.2)
def sI (S : Tw) (k j : Nat) (v : Int32) : Tw := (S.1, va_up S.2.1 k (upd (S.2.1 k) j v), S.2.2)
def sF (S : Tw) (k : Nat) (v : Int32) : Tw := (S.1, S.2.1, va_up S.2.2 k v)
def twL (k : Nat) : Nat := match k with
  | 4 => 12
  | 5 => 12
  | 12 => 12
  | 13 => 12
  | 14 => 48
  | 15 => 48
  | _ => 6
abbrev twO (ta : Nat → Nat) (S : Tw) : List Value := [.ref (ta 0), .ref (ta 1), .ref (ta 2), .ref (ta 3), .ref (ta 4), .ref (ta 5), .ref (ta 6), .ref (ta 7), .ref (ta 8), .ref (ta 9), .ref (ta 10), .ref (ta 11), .ref (ta 12), .ref (ta 13), .ref (ta 14), .ref (ta 15), .ref (ta 16), .ref (ta 17), .ref (ta 18), .ref (ta 19), .ref (ta 20), .ref (ta 21), .int (gF S 22), .int (gF S 23), .int (gF S 24), .int (gF S 25), .int (gF S 26), .int (gF S 27), .int (gF S 28), .int (gF S 29), .int (gF S 30), .int (gF S 31), .int (gF S 32)]
def TR (G : Gw) (T : Nat) (ta : Nat → Nat) (S : Tw) (Y M : Mp) : Prop :=
  M T = some (ob 10 (twO ta S)) ∧ (∀ k, k < 6 → M (ta k) = some (aD G (twL k) (gD S k))) ∧ (∀ k, 6 ≤ k → k < 22 → M (ta k) = some (aI G (twL k) (gI S k))) ∧ (∀ i j, i < 22 → j < 22 → ta i = ta j → i = j) ∧ ∀ (q : Nat) (e : va_E), Y q = some e → M q = some e ∧ q ≠ T ∧ ∀ k, k < 22 → q ≠ ta k
theorem TR.eq {G : Gw} {T : Nat} {ta : Nat → Nat} {S S1 : Tw} {Y M : Mp} (h : S1 = S) (hW : TR G T ta S Y M) : TR G T ta S1 Y M := by
  rw [h]; exact hW
theorem TR.d {G : Gw} {T : Nat} {ta : Nat → Nat} {S : Tw} {Y M : Mp} (h : TR G T ta S Y M) (k n : Nat) (h1 : k < 6) (hn : twL k = n) : M (ta k) = some (aD G n (gD S k)) := by
  subst hn; exact h.2.1 k h1
theorem TR.i {G : Gw} {T : Nat} {ta : Nat → Nat} {S : Tw} {Y M : Mp} (h : TR G T ta S Y M) (k n : Nat) (h1 : 6 ≤ k) (h2 : k < 22) (hn : twL k = n) : M (ta k) = some (aI G n (gI S k)) := by
  subst hn; exact h.2.2.1 k h1 h2
theorem TR.nT {G : Gw} {T : Nat} {ta : Nat → Nat} {S : Tw} {Y M : Mp} (h : TR G T ta S Y M) (k : Nat) (hk : k < 22) : ta k ≠ T := by
  rcases Nat.lt_or_ge k 6 with q | q
  · exact ne_tag (h.2.1 k q) h.1 rfl
  · exact ne_tag (h.2.2.1 k q hk) h.1 rfl
theorem TR.setF {G : Gw} {T : Nat} {ta : Nat → Nat} {S : Tw} {Y M : Mp} (h : TR G T ta S Y M) (k : Nat) (h1 : 22 ≤ k) (h2 : k < 33) (v : Int32) : TR G T ta (sF S k v) Y (mu M T (ob 10 ((twO ta S).set k (.int v)))) := by
  have nT := h.nT
  obtain ⟨hO, hD, hI, hJ, hY⟩ := h
  refine ⟨?_, fun i hi => muL (nT i (by omega)) (hD i hi), fun i h6 hi => muL (nT i hi) (hI i h6 hi), hJ, fun q e hq => ?_⟩
  · rw [mu_eq]
    rcases (show k = 22 ∨ k = 23 ∨ k = 24 ∨ k = 25 ∨ k = 26 ∨ k = 27 ∨ k = 28 ∨ k = 29 ∨ k = 30 ∨ k = 31 ∨ k = 32 by omega) with rfl | rfl | rfl | rfl | rfl | rfl | rfl | rfl | rfl | rfl | rfl <;> rfl
  · obtain ⟨a, b, c⟩ := hY q e hq
    exact ⟨muL b a, b, c⟩
theorem TR.setD {G : Gw} {T : Nat} {ta : Nat → Nat} {S : Tw} {Y M : Mp} (h : TR G T ta S Y M) (k : Nat) (h1 : k < 6) (j : Nat) (v : UInt64) : TR G T ta (sD S k j v) Y (mu M (ta k) (aD G (twL k) (vf_upd (gD S k) j v))) := by
  have nT := h.nT
  obtain ⟨hO, hD, hI, hJ, hY⟩ := h
  refine ⟨muL (Ne.symm (nT k (by omega))) hO, fun i hi => ?_, fun i h6 hi => muL (fun q => by have := hJ _ _ hi (by omega) q; omega) (hI i h6 hi), hJ, fun q e hq => ?_⟩
  · by_cases q : i = k
    · subst q
      rw [mu_eq]
      simp [gD, sD, va_up]
    · have : gD (sD S k j v) i = gD S i := by simp [gD, sD, va_up, q]
      rw [this]
      exact muL (fun z => q (hJ _ _ (by omega) (by omega) z)) (hD i hi)
  · obtain ⟨a, b, c⟩ := hY q e hq
    exact ⟨muL (c k (by omega)) a, b, c⟩
theorem TR.setI {G : Gw} {T : Nat} {ta : Nat → Nat} {S : Tw} {Y M : Mp} (h : TR G T ta S Y M) (k : Nat) (h0 : 6 ≤ k) (h1 : k < 22) (j : Nat) (v : Int32) : TR G T ta (sI S k j v) Y (mu M (ta k) (aI G (twL k) (upd (gI S k) j v))) := by
  have nT := h.nT
  obtain ⟨hO, hD, hI, hJ, hY⟩ := h
  refine ⟨muL (Ne.symm (nT k (by omega))) hO, fun i hi => muL (fun q => by have := hJ _ _ (by omega) h1 q; omega) (hD i hi), fun i h6 hi => ?_, hJ, fun q e hq => ?_⟩
  · by_cases q : i = k
    · subst q
      rw [mu_eq]
      simp [gI, sI, va_up]
    · have : gI (sI S k j v) i = gI S i := by simp [gI, sI, va_up, q]
      rw [this]
      exact muL (fun z => q (hJ _ _ hi h1 z)) (hI i h6 hi)
  · obtain ⟨a, b, c⟩ := hY q e hq
    exact ⟨muL (c k h1) a, b, c⟩
/-! the plain functions, branch by branch as the code has them -/
def tSeek (S : Tw) (j : Nat) : Tw := sI (sI (sI S 6 j 1) 9 j 0) 16 j 0
def tPlace (S : Tw) (a : Int32) (d l : UInt64) : Tw := if outP a 5 then sF S 32 1 else if ltD d FP.dconst0 then sF S 32 1 else if gtD d c80 then sF S 32 1 else if ltD l FP.dconst0 then sF S 32 1 else if leG l c80 then sD (sD (sF S 32 0) 0 (ix a) d) 1 (ix a) l else sF S 32 1
def tPowOff (S : Tw) (j : Nat) : Tw := sI (sI S 6 j 0) 16 j 0
def tPowOn (S : Tw) (a : Int32) : Tw := sI (sD (sI (sD (sI (sD (sD (tSeek S (ix a)) 2 (ix a) FP.dconst0) 3 (ix a) FP.dconst0) 7 (ix a) (a + 1)) 5 (2 * ix a) FP.dconst0) 13 (2 * ix a) 0) 5 (2 * ix a + 1) FP.dconst0) 13 (2 * ix a + 1) 0
def tPower (S : Tw) (a on : Int32) : Tw := if outP a 5 then sF S 32 1 else if gI S 6 (ix a) ≤ 0 then (if on = 0 then sF S 32 2 else tPowOn (sF S 32 0) a) else (if on = 1 then sF S 32 2 else if on = 0 then tPowOff (sF S 32 0) (ix a) else tPowOn (sF S 32 0) a)
def tFlow (S : Tw) (a f pr : Int32) (r : UInt64) : Tw := if outP a 5 then sF S 32 1 else if outP f 1 then sF S 32 1 else if outP pr 3 then sF S 32 1 else if ltD r FP.dconst0 then sF S 32 1 else if leG r c8 then sD (sI (sF S 32 0) 12 (2 * ix a + ix f) pr) 4 (2 * ix a + ix f) r else sF S 32 1
def tPacket (S : Tw) (a f z v : Int32) : Tw × Int32 := if outP a 5 then (sF S 32 1, 0) else if outP f 1 then (sF S 32 1, 0) else if z < 1 then (sF S 32 1, 0) else if z ≤ 4 then (if gI S 6 (ix a) = 0 then (sF S 32 2, 0) else if gI S 13 (2 * ix a + ix f) = 4 then (sF S 32 3, 0) else (sI (sI (sI (sF S 32 0) 14 ((2 * ix a + ix f) * 4 + ix (gI S 13 (2 * ix a + ix f))) z) 15 ((2 * ix a + ix f) * 4 + ix (gI S 13 (2 * ix a + ix f))) v) 13 (2 * ix a + ix f) (gI S 13 (2 * ix a + ix f) + 1), gI S 13 (2 * ix a + ix f) + 1)) else (sF S 32 1, 0)
def tLate (S : Tw) (j : Nat) : UInt64 := lateV (gD S 0 j) (gD S 2 j)
def tStrong (S : Tw) (j : Nat) : UInt64 := strongV (gD S 3 j) (gD S 1 j)
abbrev tFine (S : Tw) (j : Nat) : Prop := fineV (gD S 0 j) (gD S 1 j) (gD S 2 j) (gD S 3 j)
/-- no NaN at modem j -/
def okM (S : Tw) (j : Nat) : Prop := okLate (gD S 0 j) (gD S 2 j) ∧ okStrong (gD S 1 j) (gD S 3 j) ∧ okAdj (gD S 0 j) (gD S 1 j) (gD S 2 j) (gD S 3 j)
def OkD (S : Tw) : Prop := ∀ j, j < 6 → okM S j
def tDraw (S : Tw) (j : Nat) : Tw := sI S 7 j (drawC (gI S 7 j))
def tMissed (S : Tw) (j : Nat) : Tw := if gI S 11 j + 1 = 3 then tSeek (sI (sF S 28 (gF S 28 + 1)) 11 j (gI S 11 j + 1)) j else sI (sF S 28 (gF S 28 + 1)) 11 j (gI S 11 j + 1)
def tAdj (S : Tw) (j : Nat) : Tw := sD (sD S 2 j (offN (gD S 0 j) (gD S 2 j))) 3 j (gainN (gD S 1 j) (gD S 3 j))
def tHeard (S : Tw) (j : Nat) : Tw := if tFine S j then sI (sI (sI (sI (tAdj S j) 6 j 2) 8 j (gF S 22)) 10 j 0) 11 j 0 else tAdj S j
def tSk1 (i : Nat) (x : Tw × Nat × Nat) : Tw × Nat × Nat := if gI x.1 6 i = 1 then (if gI x.1 9 i ≤ 0 then (sI (sI x.1 20 i 0) 20 i 1, x.2.1 + 1, i) else (sI (sI x.1 20 i 0) 9 i (gI x.1 9 i - 1), x.2.1, x.2.2)) else (sI x.1 20 i 0, x.2.1, x.2.2)
def tSk2 (i : Nat) (S : Tw) : Tw := if gI S 20 i = 1 then sI (tDraw S i) 9 i (drawR (gI S 7 i) 4) else S
def tSkEnd (x : Tw × Nat × Nat) : Tw := if nI x.2.1 = 1 then (if 2 ≤ nI x.2.1 then it tSk2 6 (sF (tHeard x.1 x.2.2) 26 (gF (tHeard x.1 x.2.2) 26 + 1)) else tHeard x.1 x.2.2) else (if 2 ≤ nI x.2.1 then it tSk2 6 (sF x.1 26 (gF x.1 26 + 1)) else x.1)
def tSeeking (S : Tw) : Tw := tSkEnd (it tSk1 6 (S, 0, 0))
def tWt1 (S : Tw) (f : Nat) : Int32 := if gI S 13 f ≤ 0 then (-1) else if ltD (gD S 5 f) (FP.i2d (gI S 14 (f * 4))) then (-1) else nI f
def tWanted (S : Tw) (j : Nat) : Int32 := if gI S 13 (2 * j) ≤ 0 then tWt1 S (2 * j + 1) else if ltD (gD S 5 (2 * j)) (FP.i2d (gI S 14 (2 * j * 4))) then tWt1 S (2 * j + 1) else nI (2 * j)
def tAs1 (i : Nat) (S : Tw) : Tw := if gI S 6 i = 2 then (if gI S 16 i = 0 then (if tWanted S i < 0 then sI S 20 i 0 else if gI S 10 i ≤ 0 then sI (tDraw (sI S 20 i 0) i) 20 i (1 + drawR (gI S 7 i) 2) else sI (sI S 20 i 0) 10 i (gI S 10 i - 1)) else sI S 20 i 0) else sI S 20 i 0
def tCt (S : Tw) (p : Int32) (i : Nat) (x : Nat × Nat) : Nat × Nat := if gI S 20 i = p then (x.1 + 1, i) else x
def tAs2 (p : Int32) (i : Nat) (S : Tw) : Tw := if gI S 20 i = p then sI (tDraw S i) 10 i (drawR (gI S 7 i) 4) else S
def tEnter (S : Tw) (j : Nat) : Tw := sI (sF (sI (sI (sI S 17 j (tWanted S j)) 16 j (gI S 14 (ix (tWanted S j) * 4))) 18 j (gI S 12 (ix (tWanted S j)))) 24 (gF S 24 + 1)) 19 j (gF S 24)
def tAskP1 (S : Tw) (p : Int32) (x : Nat × Nat) : Tw := if nI x.1 = 1 then (if tFine S x.2 then tEnter S x.2 else tMissed S x.2) else (if nI x.1 ≤ 1 then S else it (tAs2 p) 6 (sF S 27 (gF S 27 + 1)))
def tAskP (S : Tw) (p : Int32) : Tw := tAskP1 S p (it (tCt S p) 6 (0, 0))
def tAsking (S : Tw) : Tw := tAskP (tAskP (it tAs1 6 S) 1) 2
/-- the request at i comes before the one at j -/
abbrev tBef (S : Tw) (i j : Nat) : Prop := gI S 18 j < gI S 18 i ∨ (gI S 18 i = gI S 18 j ∧ ¬ gI S 19 j ≤ gI S 19 i)
def tRank (S : Tw) (j : Nat) (i n : Nat) : Nat := if gI S 16 i ≤ 0 then n else if i = j then n else if tBef S i j then n + 1 else n
def tReqF (S : Tw) (k : Int32) : Nat → Nat → Int32
  | 0, _ => -1
  | r + 1, i => if gI S 16 i ≤ 0 then tReqF S k r (i + 1) else if nI (it (tRank S i) 6 0) = k then nI i else tReqF S k r (i + 1)
def tReq (S : Tw) (k : Int32) : Int32 := tReqF S k 6 0
def tCnt1 (S : Tw) (i n : Nat) : Nat := if gI S 16 i ≤ 0 then n else n + 1
def tCnt (S : Tw) : Nat := it (tCnt1 S) 6 0
def tShL (i : Nat) (S : Tw) : Tw := sI S 21 i (gI S 21 (i + 1))
def tShP (f : Nat) (i : Nat) (S : Tw) : Tw := sI (sI S 14 (f * 4 + i) (gI S 14 (f * 4 + i + 1))) 15 (f * 4 + i) (gI S 15 (f * 4 + i + 1))
def tDrop (S : Tw) : Tw := sF (sF (it tShL 5 S) 23 (gF (it tShL 5 S) 23 - 1)) 31 (gF (it tShL 5 S) 31 + 1)
def tDel1 (S : Tw) (j f : Nat) : Tw := sI (sD (sI (sF S 23 (gF S 23 + 1)) 21 (ix (gF S 23)) (gI S 15 (f * 4) ^^^ gI S 8 j ^^^ gF S 22)) 5 f (FP.dsub (gD S 5 f) (FP.i2d (gI S 14 (f * 4))))) 13 f (gI S 13 f - 1)
def tDel2 (S : Tw) (f : Nat) : Tw := sF (it (tShP f) (ix (gI S 13 f)) S) 29 (gF (it (tShP f) (ix (gI S 13 f)) S) 29 + 1)
def tDel (S : Tw) (j f : Nat) : Tw := tDel2 (tDel1 S j f) f
def tDeliver (S : Tw) (j : Nat) : Tw := if tFine S j then (if gF S 23 = 6 then tDel (tDrop S) j (ix (gI S 17 j)) else tDel S j (ix (gI S 17 j))) else tMissed S j
def tGrA (k : Nat) (S : Tw) : Tw := sI S 20 k (tReq S (nI k))
def tMin (a b : Int32) : Int32 := if b ≤ a then b else a
def tGrB1 (S : Tw) (left : Int32) (j : Nat) : Tw := sF (sI S 16 j (gI S 16 j - tMin (gI S 16 j) left)) 30 (gF S 30 + tMin (gI S 16 j) left)
/-- the grants from request k on, r of them left: state, places left, how many are done -/
def tGrB : Nat → Nat → Tw → Int32 → Nat → Tw × Nat
  | 0, _, S, _, n => (S, n)
  | r + 1, k, S, left, n => if left ≤ 0 then (S, n) else if gI S 16 (ix (gI S 20 k)) - tMin (gI S 16 (ix (gI S 20 k))) left = 0 then tGrB r (k + 1) (tGrB1 S left (ix (gI S 20 k))) (left - tMin (gI S 16 (ix (gI S 20 k))) left) (n + 1) else tGrB r (k + 1) (tGrB1 S left (ix (gI S 20 k))) (left - tMin (gI S 16 (ix (gI S 20 k))) left) n
def tGrC (k : Nat) (S : Tw) : Tw := tDeliver S (ix (gI S 20 k))
def tGranting (S : Tw) : Tw := it tGrC (tGrB (tCnt S) 0 (it tGrA (tCnt S) S) 5 0).2 (tGrB (tCnt S) 0 (it tGrA (tCnt S) S) 5 0).1
def tEarn1 (f : Nat) (S : Tw) : Tw := if gI S 6 (f / 2) = 2 then (if leL (FP.dadd (gD S 5 f) (gD S 4 f)) c8 then sD S 5 f (FP.dadd (gD S 5 f) (gD S 4 f)) else sD S 5 f c8) else S
def tRnd (_ : Nat) (S : Tw) : Tw := tGranting (tAsking (tSeeking (it tEarn1 12 (sF S 25 (gF S 25 + 1)))))
def tRound (S : Tw) (n : Int32) : Tw := if n < 1 then sF S 32 1 else if n ≤ 50 then it tRnd (ix n) (sF S 32 0) else sF S 32 1
def tKey1 (k : Int32) (i : Nat) (x : Tw × Nat) : Tw × Nat := if gI x.1 6 i = 2 then (if tFine x.1 i then (sI x.1 8 i k, x.2 + 1) else x) else x
def tKey (S : Tw) (k : Int32) : Tw × Nat := it (tKey1 k) 6 (sF (sF S 32 0) 22 k, 0)
def tTake (S : Tw) : Tw × Int32 := if gF S 23 = 0 then (sF S 32 1, 0) else (it tShL (ix (gF S 23) - 1) (sF (sF S 32 0) 23 (gF S 23 - 1)), gI S 21 0)
def tLevel (S : Tw) (a b : Int32) : Tw × UInt64 := if outP a 5 then (sF S 32 1, FP.dconst0) else if outP b 3 then (sF S 32 1, FP.dconst0) else if b = 0 then (sF S 32 0, tLate S (ix a)) else if b = 1 then (sF S 32 0, tStrong S (ix a)) else (sF S 32 0, gD S 5 (2 * ix a + ix b - 2))
def tTold1 (S : Tw) (j : Nat) (b : Nat) : Int32 := match b with
  | 0 => gI S 6 j
  | 1 => if tFine S j then 1 else 0
  | 2 => if gI S 6 j = 1 then gI S 9 j else 0
  | 3 => if gI S 6 j = 2 then gI S 10 j else 0
  | 4 => gI S 16 j
  | 5 => if gI S 6 j = 2 then gI S 11 j else 0
  | 6 => gI S 13 (2 * j)
  | 7 => gI S 13 (2 * j + 1)
  | 8 => gI S 7 j
  | _ => gI S 8 j
def tTold (S : Tw) (a b : Int32) : Tw × Int32 := if outP a 5 then (sF S 32 1, 0) else if outP b 9 then (sF S 32 1, 0) else (sF S 32 0, tTold1 S (ix a) (ix b))
def tCount1 (S : Tw) (k : Nat) : Int32 := match k with
  | 0 => gF S 25
  | 1 => gF S 26
  | 2 => gF S 27
  | 3 => gF S 28
  | 4 => gF S 29
  | 5 => gF S 30
  | 6 => nI (tCnt S)
  | 7 => gF S 23
  | _ => gF S 31
def tCount (S : Tw) (a : Int32) : Int32 := if outP a 8 then (if a < 10 then (-2) else if 15 < a then (-2) else tReq S (a - 10)) else tCount1 S (ix a)
