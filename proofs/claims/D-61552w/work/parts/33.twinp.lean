/-! plain laws of the twin's functions that its walks use -/
theorem it_inv {α : Type} {f : Nat → α → α} (P : α → Prop) (h : ∀ k x, P x → P (f k x)) (k : Nat) (x : α) (hx : P x) : P (it f k x) := by
  induction k with
  | zero => exact hx
  | succ k ih => exact h k _ ih
theorem it_le {S : Tw} (k : Nat) : it (tCnt1 S) k 0 ≤ k := by
  induction k with
  | zero => exact Nat.le_refl 0
  | succ k ih =>
    show tCnt1 S k (it (tCnt1 S) k 0) ≤ k + 1
    generalize it (tCnt1 S) k 0 = z at ih ⊢
    unfold tCnt1
    split <;> omega
theorem tCnt_le (S : Tw) : tCnt S ≤ 6 := it_le 6
theorem shl_F (k : Nat) (S : Tw) (r : Nat) : gF (it tShL k S) r = gF S r := it_inv (f := tShL) (fun X => gF X r = gF S r) (fun _ _ h => h) k S rfl
theorem shl_D (k : Nat) (S : Tw) (r : Nat) : gD (it tShL k S) r = gD S r := it_inv (f := tShL) (fun X => gD X r = gD S r) (fun _ _ h => h) k S rfl
theorem gF_sI {S : Tw} {k j r : Nat} {v : Int32} : gF (sI S k j v) r = gF S r := rfl
theorem gF_sD {S : Tw} {k j r : Nat} {v : UInt64} : gF (sD S k j v) r = gF S r := rfl
theorem gF_sF_ne {S : Tw} {k r : Nat} {v : Int32} (h : r ≠ k) : gF (sF S k v) r = gF S r := by
  unfold gF sF
  exact va_up_ne _ _ h
theorem gI_sI_ne {S : Tw} {k r j : Nat} {v : Int32} (h : r ≠ k) : gI (sI S k j v) r = gI S r := by
  unfold gI sI
  exact va_up_ne _ _ h
theorem shl_I (k : Nat) (S : Tw) (r : Nat) (hr : r ≠ 21) : gI (it tShL k S) r = gI S r := it_inv (fun X => gI X r = gI S r) (fun i X h => (gI_sI_ne hr).trans h) k S rfl
theorem nb_pred {v : Int32} {n : Nat} (h : nb v (n + 1)) (hn : ¬ v = nI (n + 1)) : nb v n := by
  refine ⟨h.1, ?_⟩
  have h2 := h.2
  rcases Nat.lt_or_ge (ix v) (n + 1) with q | q
  · omega
  · exact absurd (h.1.trans (congrArg nI (show ix v = n + 1 by omega))) hn
theorem OkD_congr {S S1 : Tw} (h : S1.1 = S.1) (hok : OkD S) : OkD S1 := by
  intro j hj
  have h1 := hok j hj
  unfold okM gD at h1 ⊢
  rw [h]
  exact h1
theorem tWanted_congr {S S1 : Tw} (h : S1.1 = S.1) (h13 : gI S1 13 = gI S 13) (h14 : gI S1 14 = gI S 14) (j : Nat) : tWanted S1 j = tWanted S j := by
  have h5 : gD S1 5 = gD S 5 := congrArg (fun z => z 5) h
  unfold tWanted tWt1
  rw [h13, h14, h5]
def Keep (S1 S : Tw) : Prop := S1.1 = S.1 ∧ gI S1 13 = gI S 13 ∧ gI S1 14 = gI S 14 ∧ gI S1 20 = gI S 20
theorem Keep.tr {A B C : Tw} (h : Keep A B) (h1 : Keep B C) : Keep A C := ⟨h.1.trans h1.1, h.2.1.trans h1.2.1, h.2.2.1.trans h1.2.2.1, h.2.2.2.trans h1.2.2.2⟩
theorem keep_missed (S : Tw) (j : Nat) : Keep (tMissed S j) S := by
  unfold tMissed
  split <;> exact ⟨rfl, rfl, rfl, rfl⟩
theorem keep_as2 (p : Int32) (i : Nat) (S : Tw) : Keep (tAs2 p i S) S := by
  unfold tAs2
  split
  · exact ⟨rfl, rfl, rfl, rfl⟩
  · exact ⟨rfl, rfl, rfl, rfl⟩
theorem keep_askP (S : Tw) (p : Int32) : Keep (tAskP S p) S := by
  unfold tAskP tAskP1
  split
  · split
    · exact ⟨rfl, rfl, rfl, rfl⟩
    · exact keep_missed _ _
  · split
    · exact ⟨rfl, rfl, rfl, rfl⟩
    · exact it_inv (fun X => Keep X S) (fun i X h => (keep_as2 p i X).tr h) 6 _ ⟨rfl, rfl, rfl, rfl⟩
/-! what the walks of the rounds ask -/
def askOK (S : Tw) : Prop := OkD S ∧ ∀ j, j < 6 → ¬ gI (it tAs1 6 S) 20 j = 0 → nb (tWanted (it tAs1 6 S) j) 11
def delOK (S : Tw) (j : Nat) : Prop := okM S j ∧ (tFine S j → nb (gI S 17 j) 11 ∧ nb (gF S 23) 6 ∧ (nb (gI S 13 (ix (gI S 17 j))) 4 ∧ 1 ≤ ix (gI S 13 (ix (gI S 17 j)))) ∧ vf_n64 (FP.dsub (gD S 5 (ix (gI S 17 j))) (FP.i2d (gI S 14 (ix (gI S 17 j) * 4)))))
def grOK (S : Tw) : Prop := (∀ k, k < tCnt S → nb (gI (it tGrA (tCnt S) S) 20 k) 5) ∧ ∀ k, k < (tGrB (tCnt S) 0 (it tGrA (tCnt S) S) 5 0).2 → nb (gI (it tGrC k (tGrB (tCnt S) 0 (it tGrA (tCnt S) S) 5 0).1) 20 k) 5 ∧ delOK (it tGrC k (tGrB (tCnt S) 0 (it tGrA (tCnt S) S) 5 0).1) (ix (gI (it tGrC k (tGrB (tCnt S) 0 (it tGrA (tCnt S) S) 5 0).1) 20 k))
def rnd0 (S : Tw) : Tw := sF S 25 (gF S 25 + 1)
def rnd1 (S : Tw) : Tw := it tEarn1 12 (rnd0 S)
def rndOK (S : Tw) : Prop := (∀ k, k < 12 → vf_n64 (FP.dadd (gD (it tEarn1 k (rnd0 S)) 5 k) (gD (it tEarn1 k (rnd0 S)) 4 k))) ∧ OkD (rnd1 S) ∧ askOK (tSeeking (rnd1 S)) ∧ grOK (tAsking (tSeeking (rnd1 S)))
theorem del_np {S : Tw} {j f : Nat} (h : nb (gI S 13 f) 4) (h1 : 1 ≤ ix (gI S 13 f)) : nb (gI (tDel1 S j f) 13 f) 3 := by
  have e : gI (tDel1 S j f) 13 f = gI S 13 f - 1 := by simp [tDel1, gI, sI, sD, sF, va_up, upd]
  have h2 := h.2
  have e2 : gI S 13 f - 1 = nI (ix (gI S 13 f) - 1) := subN (b := 1) h.1 rfl h1
  rw [e, e2]
  exact nb_nI (by omega) (by omega)
/-! the word thrown is left alone by a round -/
theorem th_it {f : Nat → Tw → Tw} (h : ∀ k X, gF (f k X) 32 = gF X 32) (k : Nat) (S : Tw) : gF (it f k S) 32 = gF S 32 := it_inv (fun X => gF X 32 = gF S 32) (fun i X hX => (h i X).trans hX) k S rfl
theorem th_missed (S : Tw) (j : Nat) : gF (tMissed S j) 32 = gF S 32 := by
  unfold tMissed
  split <;> rfl
theorem th_heard (S : Tw) (j : Nat) : gF (tHeard S j) 32 = gF S 32 := by
  unfold tHeard
  split <;> rfl
theorem th_sk2 (k : Nat) (S : Tw) : gF (tSk2 k S) 32 = gF S 32 := by
  unfold tSk2
  split <;> rfl
theorem th_seeking (S : Tw) : gF (tSeeking S) 32 = gF S 32 := by
  have h : gF (it tSk1 6 (S, 0, 0)).1 32 = gF S 32 := it_inv (fun X : Tw × Nat × Nat => gF X.1 32 = gF S 32) (fun i X hX => by
    unfold tSk1
    split
    · split
      · exact hX
      · exact hX
    · exact hX) 6 _ rfl
  unfold tSeeking
  generalize it tSk1 6 (S, 0, 0) = x at h ⊢
  unfold tSkEnd
  split
  · split
    · exact (th_it th_sk2 6 _).trans ((gF_sF_ne (by decide)).trans ((th_heard _ _).trans h))
    · exact (th_heard _ _).trans h
  · split
    · exact (th_it th_sk2 6 _).trans ((gF_sF_ne (by decide)).trans h)
    · exact h
theorem th_as1 (k : Nat) (S : Tw) : gF (tAs1 k S) 32 = gF S 32 := by
  unfold tAs1
  split
  · split
    · split
      · rfl
      · split <;> rfl
    · rfl
  · rfl
theorem th_as2 (p : Int32) (k : Nat) (S : Tw) : gF (tAs2 p k S) 32 = gF S 32 := by
  unfold tAs2
  split <;> rfl
theorem th_askP (S : Tw) (p : Int32) : gF (tAskP S p) 32 = gF S 32 := by
  unfold tAskP tAskP1
  split
  · split
    · rfl
    · exact th_missed _ _
  · split
    · rfl
    · exact (th_it (th_as2 p) 6 _).trans (gF_sF_ne (by decide))
theorem th_asking (S : Tw) : gF (tAsking S) 32 = gF S 32 := (th_askP _ _).trans ((th_askP _ _).trans (th_it th_as1 6 S))
theorem th_del (S : Tw) (j f : Nat) : gF (tDel S j f) 32 = gF S 32 := by
  have h : ∀ (n : Nat) (X : Tw), gF (it (tShP f) n X) 32 = gF X 32 := fun n X => th_it (f := tShP f) (fun _ _ => rfl) n X
  unfold tDel tDel2
  rw [gF_sF_ne (by decide), h]
  unfold tDel1
  rw [gF_sI, gF_sD, gF_sI, gF_sF_ne (by decide)]
theorem th_deliver (S : Tw) (j : Nat) : gF (tDeliver S j) 32 = gF S 32 := by
  unfold tDeliver
  split
  · split
    · rw [th_del]
      unfold tDrop
      rw [gF_sF_ne (by decide), gF_sF_ne (by decide)]
      exact shl_F 5 S 32
    · exact th_del _ _ _
  · exact th_missed _ _
theorem th_grB (r : Nat) : ∀ (k : Nat) (S : Tw) (left : Int32) (n : Nat), gF (tGrB r k S left n).1 32 = gF S 32 := by
  induction r with
  | zero => intro k S left n; rfl
  | succ r ih =>
    intro k S left n
    unfold tGrB
    split
    · rfl
    · split
      · rw [ih]
        exact gF_sF_ne (by decide)
      · rw [ih]
        exact gF_sF_ne (by decide)
theorem th_granting (S : Tw) : gF (tGranting S) 32 = gF S 32 := by
  unfold tGranting
  rw [th_it (f := tGrC) (fun k X => th_deliver X _), th_grB, th_it (f := tGrA) (fun _ _ => rfl)]
theorem th_earn (k : Nat) (S : Tw) : gF (tEarn1 k S) 32 = gF S 32 := by
  unfold tEarn1
  split
  · split <;> rfl
  · rfl
theorem th_rnd (k : Nat) (S : Tw) : gF (tRnd k S) 32 = gF S 32 := by
  unfold tRnd
  rw [th_granting, th_asking, th_seeking, th_it th_earn]
  exact gF_sF_ne (by decide)
theorem as1_D (k : Nat) (S : Tw) : (tAs1 k S).1 = S.1 := by
  unfold tAs1
  split
  · split
    · split
      · rfl
      · split <;> rfl
    · rfl
  · rfl
theorem keep_as1 (S : Tw) : (it tAs1 6 S).1 = S.1 := it_inv (f := tAs1) (fun X => X.1 = S.1) (fun k X h => (as1_D k X).trans h) 6 S rfl
theorem tReqF_sF (S : Tw) (r : Nat) (v k : Int32) (n : Nat) : ∀ i, tReqF (sF S r v) k n i = tReqF S k n i := by
  induction n with
  | zero => intro i; rfl
  | succ n ih =>
    intro i
    unfold tReqF
    rw [ih (i + 1)]
    rfl
theorem tReq_sF (S : Tw) (r : Nat) (v k : Int32) : tReq (sF S r v) k = tReq S k := tReqF_sF S r v k 6 0
theorem outP_int {a : Int32} (n : Nat) (hn : n < 2 ^ 31) (h : outP a (nI n)) : a.toInt < 0 ∨ (n : Int) < a.toInt := by
  rcases h with h | h
  · exact Or.inl (Int32.lt_iff_toInt_lt.mp h)
  · refine Or.inr ?_
    have h1 : ¬ a.toInt ≤ (nI n).toInt := fun q => h (Int32.le_iff_toInt_le.mpr q)
    rw [nI_toInt hn] at h1
    omega
