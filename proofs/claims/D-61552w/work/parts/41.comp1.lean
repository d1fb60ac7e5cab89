/-! the component's world behind each kind of store -/
section CRS
variable {G : Gw} {a : Ad} {N : Cs} {X M : Mp}
theorem CR.mD0 (h : CR G a N X M) {j : Nat} (hj : j < 6) (v : UInt64) : CR G a (sD N.1 0 j v, N.2) X (mu M (a.1 j) (ob 1 ((cmO a.1 N.1 j).set 0 (.double v)))) := by
  refine h.put j (by unfold celR; omega) _ _ (fun i hi hn => ?_) ?_
  · unfold cel
    by_cases h1 : i < 6
    · simp [h1, hn, gD_sD, gD_sI, gD_sF, gI_sI, gI_sD, gI_sF, gF_sF, gF_sI', gF_sD']
    by_cases h2 : i < 12
    · simp [h1, h2, gD_sD, gD_sI, gD_sF, gI_sI, gI_sD, gI_sF, gF_sF, gF_sI', gF_sD']
    by_cases h3 : i < 18
    · simp [h1, h2, h3]
    by_cases h4 : i < 30
    · simp [h1, h2, h3, h4, gD_sD, gD_sI, gD_sF, gI_sI, gI_sD, gI_sF, gF_sF, gF_sI', gF_sD']
    unfold celR at hi
    rcases (show i = 54 ∨ i = 55 ∨ i = 58 by omega) with rfl | rfl | rfl
    · simp [gD_sD, gD_sI, gD_sF, gI_sI, gI_sD, gI_sF, gF_sF, gF_sI', gF_sD']
    · rfl
    · exact congrArg (aI G 6) (funext fun q => by simp [gD_sD, gD_sI, gD_sF, gI_sI, gI_sD, gI_sF, gF_sF, gF_sI', gF_sD'])
  · unfold cel; simp [hj, gD_sD, gD_sI, gD_sF, gI_sI, gI_sD, gI_sF, gF_sF, gF_sI', gF_sD']
theorem CR.mD1 (h : CR G a N X M) {j : Nat} (hj : j < 6) (v : UInt64) : CR G a (sD N.1 1 j v, N.2) X (mu M (a.1 j) (ob 1 ((cmO a.1 N.1 j).set 1 (.double v)))) := by
  refine h.put j (by unfold celR; omega) _ _ (fun i hi hn => ?_) ?_
  · unfold cel
    by_cases h1 : i < 6
    · simp [h1, hn, gD_sD, gD_sI, gD_sF, gI_sI, gI_sD, gI_sF, gF_sF, gF_sI', gF_sD']
    by_cases h2 : i < 12
    · simp [h1, h2, gD_sD, gD_sI, gD_sF, gI_sI, gI_sD, gI_sF, gF_sF, gF_sI', gF_sD']
    by_cases h3 : i < 18
    · simp [h1, h2, h3]
    by_cases h4 : i < 30
    · simp [h1, h2, h3, h4, gD_sD, gD_sI, gD_sF, gI_sI, gI_sD, gI_sF, gF_sF, gF_sI', gF_sD']
    unfold celR at hi
    rcases (show i = 54 ∨ i = 55 ∨ i = 58 by omega) with rfl | rfl | rfl
    · simp [gD_sD, gD_sI, gD_sF, gI_sI, gI_sD, gI_sF, gF_sF, gF_sI', gF_sD']
    · rfl
    · exact congrArg (aI G 6) (funext fun q => by simp [gD_sD, gD_sI, gD_sF, gI_sI, gI_sD, gI_sF, gF_sF, gF_sI', gF_sD'])
  · unfold cel; simp [hj, gD_sD, gD_sI, gD_sF, gI_sI, gI_sD, gI_sF, gF_sF, gF_sI', gF_sD']
theorem CR.mD2 (h : CR G a N X M) {j : Nat} (hj : j < 6) (v : UInt64) : CR G a (sD N.1 2 j v, N.2) X (mu M (a.1 j) (ob 1 ((cmO a.1 N.1 j).set 2 (.double v)))) := by
  refine h.put j (by unfold celR; omega) _ _ (fun i hi hn => ?_) ?_
  · unfold cel
    by_cases h1 : i < 6
    · simp [h1, hn, gD_sD, gD_sI, gD_sF, gI_sI, gI_sD, gI_sF, gF_sF, gF_sI', gF_sD']
    by_cases h2 : i < 12
    · simp [h1, h2, gD_sD, gD_sI, gD_sF, gI_sI, gI_sD, gI_sF, gF_sF, gF_sI', gF_sD']
    by_cases h3 : i < 18
    · simp [h1, h2, h3]
    by_cases h4 : i < 30
    · simp [h1, h2, h3, h4, gD_sD, gD_sI, gD_sF, gI_sI, gI_sD, gI_sF, gF_sF, gF_sI', gF_sD']
    unfold celR at hi
    rcases (show i = 54 ∨ i = 55 ∨ i = 58 by omega) with rfl | rfl | rfl
    · simp [gD_sD, gD_sI, gD_sF, gI_sI, gI_sD, gI_sF, gF_sF, gF_sI', gF_sD']
    · rfl
    · exact congrArg (aI G 6) (funext fun q => by simp [gD_sD, gD_sI, gD_sF, gI_sI, gI_sD, gI_sF, gF_sF, gF_sI', gF_sD'])
  · unfold cel; simp [hj, gD_sD, gD_sI, gD_sF, gI_sI, gI_sD, gI_sF, gF_sF, gF_sI', gF_sD']
theorem CR.mD3 (h : CR G a N X M) {j : Nat} (hj : j < 6) (v : UInt64) : CR G a (sD N.1 3 j v, N.2) X (mu M (a.1 j) (ob 1 ((cmO a.1 N.1 j).set 3 (.double v)))) := by
  refine h.put j (by unfold celR; omega) _ _ (fun i hi hn => ?_) ?_
  · unfold cel
    by_cases h1 : i < 6
    · simp [h1, hn, gD_sD, gD_sI, gD_sF, gI_sI, gI_sD, gI_sF, gF_sF, gF_sI', gF_sD']
    by_cases h2 : i < 12
    · simp [h1, h2, gD_sD, gD_sI, gD_sF, gI_sI, gI_sD, gI_sF, gF_sF, gF_sI', gF_sD']
    by_cases h3 : i < 18
    · simp [h1, h2, h3]
    by_cases h4 : i < 30
    · simp [h1, h2, h3, h4, gD_sD, gD_sI, gD_sF, gI_sI, gI_sD, gI_sF, gF_sF, gF_sI', gF_sD']
    unfold celR at hi
    rcases (show i = 54 ∨ i = 55 ∨ i = 58 by omega) with rfl | rfl | rfl
    · simp [gD_sD, gD_sI, gD_sF, gI_sI, gI_sD, gI_sF, gF_sF, gF_sI', gF_sD']
    · rfl
    · exact congrArg (aI G 6) (funext fun q => by simp [gD_sD, gD_sI, gD_sF, gI_sI, gI_sD, gI_sF, gF_sF, gF_sI', gF_sD'])
  · unfold cel; simp [hj, gD_sD, gD_sI, gD_sF, gI_sI, gI_sD, gI_sF, gF_sF, gF_sI', gF_sD']
theorem CR.mI7 (h : CR G a N X M) {j : Nat} (hj : j < 6) (v : Int32) : CR G a (sI N.1 7 j v, N.2) X (mu M (a.1 j) (ob 1 ((cmO a.1 N.1 j).set 4 (.int v)))) := by
  refine h.put j (by unfold celR; omega) _ _ (fun i hi hn => ?_) ?_
  · unfold cel
    by_cases h1 : i < 6
    · simp [h1, hn, gD_sD, gD_sI, gD_sF, gI_sI, gI_sD, gI_sF, gF_sF, gF_sI', gF_sD']
    by_cases h2 : i < 12
    · simp [h1, h2, gD_sD, gD_sI, gD_sF, gI_sI, gI_sD, gI_sF, gF_sF, gF_sI', gF_sD']
    by_cases h3 : i < 18
    · simp [h1, h2, h3]
    by_cases h4 : i < 30
    · simp [h1, h2, h3, h4, gD_sD, gD_sI, gD_sF, gI_sI, gI_sD, gI_sF, gF_sF, gF_sI', gF_sD']
    unfold celR at hi
    rcases (show i = 54 ∨ i = 55 ∨ i = 58 by omega) with rfl | rfl | rfl
    · simp [gD_sD, gD_sI, gD_sF, gI_sI, gI_sD, gI_sF, gF_sF, gF_sI', gF_sD']
    · rfl
    · exact congrArg (aI G 6) (funext fun q => by simp [gD_sD, gD_sI, gD_sF, gI_sI, gI_sD, gI_sF, gF_sF, gF_sI', gF_sD'])
  · unfold cel; simp [hj, gD_sD, gD_sI, gD_sF, gI_sI, gI_sD, gI_sF, gF_sF, gF_sI', gF_sD']
theorem CR.mI8 (h : CR G a N X M) {j : Nat} (hj : j < 6) (v : Int32) : CR G a (sI N.1 8 j v, N.2) X (mu M (a.1 j) (ob 1 ((cmO a.1 N.1 j).set 5 (.int v)))) := by
  refine h.put j (by unfold celR; omega) _ _ (fun i hi hn => ?_) ?_
  · unfold cel
    by_cases h1 : i < 6
    · simp [h1, hn, gD_sD, gD_sI, gD_sF, gI_sI, gI_sD, gI_sF, gF_sF, gF_sI', gF_sD']
    by_cases h2 : i < 12
    · simp [h1, h2, gD_sD, gD_sI, gD_sF, gI_sI, gI_sD, gI_sF, gF_sF, gF_sI', gF_sD']
    by_cases h3 : i < 18
    · simp [h1, h2, h3]
    by_cases h4 : i < 30
    · simp [h1, h2, h3, h4, gD_sD, gD_sI, gD_sF, gI_sI, gI_sD, gI_sF, gF_sF, gF_sI', gF_sD']
    unfold celR at hi
    rcases (show i = 54 ∨ i = 55 ∨ i = 58 by omega) with rfl | rfl | rfl
    · simp [gD_sD, gD_sI, gD_sF, gI_sI, gI_sD, gI_sF, gF_sF, gF_sI', gF_sD']
    · rfl
    · exact congrArg (aI G 6) (funext fun q => by simp [gD_sD, gD_sI, gD_sF, gI_sI, gI_sD, gI_sF, gF_sF, gF_sI', gF_sD'])
  · unfold cel; simp [hj, gD_sD, gD_sI, gD_sF, gI_sI, gI_sD, gI_sF, gF_sF, gF_sI', gF_sD']
theorem CR.sr (h : CR G a N X M) {j : Nat} (hj : j < 6) (v : Int32) : CR G a (sI N.1 9 j v, N.2) X (mu M (a.1 (6 + j)) (stE (gI N.1 6 j) v (gI N.1 11 j))) := by
  refine h.put (6 + j) (by unfold celR; omega) _ _ (fun i hi hn => ?_) ?_
  · unfold cel
    by_cases h1 : i < 6
    · simp [h1, hn, gD_sD, gD_sI, gD_sF, gI_sI, gI_sD, gI_sF, gF_sF, gF_sI', gF_sD']
    by_cases h2 : i < 12
    · have n1 : i - 6 ≠ j := by omega
      simp [h1, h2, n1, gD_sD, gD_sI, gD_sF, gI_sI, gI_sD, gI_sF, gF_sF, gF_sI', gF_sD']
    by_cases h3 : i < 18
    · simp [h1, h2, h3]
    by_cases h4 : i < 30
    · simp [h1, h2, h3, h4, gD_sD, gD_sI, gD_sF, gI_sI, gI_sD, gI_sF, gF_sF, gF_sI', gF_sD']
    unfold celR at hi
    rcases (show i = 54 ∨ i = 55 ∨ i = 58 by omega) with rfl | rfl | rfl
    · simp [gD_sD, gD_sI, gD_sF, gI_sI, gI_sD, gI_sF, gF_sF, gF_sI', gF_sD']
    · rfl
    · exact congrArg (aI G 6) (funext fun q => by simp [gD_sD, gD_sI, gD_sF, gI_sI, gI_sD, gI_sF, gF_sF, gF_sI', gF_sD'])
  · unfold cel; simp [show ¬ 6 + j < 6 by omega, show 6 + j < 12 by omega, show 6 + j - 6 = j by omega, gD_sD, gD_sI, gD_sF, gI_sI, gI_sD, gI_sF, gF_sF, gF_sI', gF_sD']
theorem CR.su (h : CR G a N X M) {j : Nat} (hj : j < 6) (v : Int32) : CR G a (sI N.1 11 j v, N.2) X (mu M (a.1 (6 + j)) (stE (gI N.1 6 j) (gI N.1 9 j) v)) := by
  refine h.put (6 + j) (by unfold celR; omega) _ _ (fun i hi hn => ?_) ?_
  · unfold cel
    by_cases h1 : i < 6
    · simp [h1, hn, gD_sD, gD_sI, gD_sF, gI_sI, gI_sD, gI_sF, gF_sF, gF_sI', gF_sD']
    by_cases h2 : i < 12
    · have n1 : i - 6 ≠ j := by omega
      simp [h1, h2, n1, gD_sD, gD_sI, gD_sF, gI_sI, gI_sD, gI_sF, gF_sF, gF_sI', gF_sD']
    by_cases h3 : i < 18
    · simp [h1, h2, h3]
    by_cases h4 : i < 30
    · simp [h1, h2, h3, h4, gD_sD, gD_sI, gD_sF, gI_sI, gI_sD, gI_sF, gF_sF, gF_sI', gF_sD']
    unfold celR at hi
    rcases (show i = 54 ∨ i = 55 ∨ i = 58 by omega) with rfl | rfl | rfl
    · simp [gD_sD, gD_sI, gD_sF, gI_sI, gI_sD, gI_sF, gF_sF, gF_sI', gF_sD']
    · rfl
    · exact congrArg (aI G 6) (funext fun q => by simp [gD_sD, gD_sI, gD_sF, gI_sI, gI_sD, gI_sF, gF_sF, gF_sI', gF_sD'])
  · unfold cel; simp [show ¬ 6 + j < 6 by omega, show 6 + j < 12 by omega, show 6 + j - 6 = j by omega, gD_sD, gD_sI, gD_sF, gI_sI, gI_sD, gI_sF, gF_sF, gF_sI', gF_sD']
theorem CR.fI (h : CR G a N X M) {w : Nat} (hw : w < 12) (v : Int32) : CR G a (sI N.1 12 w v, N.2) X (mu M (a.1 (18 + w)) (ob 2 ((cfO a.1 N.1 w).set 0 (.int v)))) := by
  refine h.put (18 + w) (by unfold celR; omega) _ _ (fun i hi hn => ?_) ?_
  · unfold cel
    by_cases h1 : i < 6
    · simp [h1, hn, gD_sD, gD_sI, gD_sF, gI_sI, gI_sD, gI_sF, gF_sF, gF_sI', gF_sD']
    by_cases h2 : i < 12
    · simp [h1, h2, gD_sD, gD_sI, gD_sF, gI_sI, gI_sD, gI_sF, gF_sF, gF_sI', gF_sD']
    by_cases h3 : i < 18
    · simp [h1, h2, h3]
    by_cases h4 : i < 30
    · have n1 : i - 18 ≠ w := by omega
      simp [h1, h2, h3, h4, n1, gD_sD, gD_sI, gD_sF, gI_sI, gI_sD, gI_sF, gF_sF, gF_sI', gF_sD']
    unfold celR at hi
    rcases (show i = 54 ∨ i = 55 ∨ i = 58 by omega) with rfl | rfl | rfl
    · simp [gD_sD, gD_sI, gD_sF, gI_sI, gI_sD, gI_sF, gF_sF, gF_sI', gF_sD']
    · rfl
    · exact congrArg (aI G 6) (funext fun q => by simp [gD_sD, gD_sI, gD_sF, gI_sI, gI_sD, gI_sF, gF_sF, gF_sI', gF_sD'])
  · unfold cel; simp [show ¬ 18 + w < 6 by omega, show ¬ 18 + w < 12 by omega, show ¬ 18 + w < 18 by omega, show 18 + w < 30 by omega, show 18 + w - 18 = w by omega, gD_sD, gD_sI, gD_sF, gI_sI, gI_sD, gI_sF, gF_sF, gF_sI', gF_sD']
theorem CR.fD1 (h : CR G a N X M) {w : Nat} (hw : w < 12) (v : UInt64) : CR G a (sD N.1 4 w v, N.2) X (mu M (a.1 (18 + w)) (ob 2 ((cfO a.1 N.1 w).set 1 (.double v)))) := by
  refine h.put (18 + w) (by unfold celR; omega) _ _ (fun i hi hn => ?_) ?_
  · unfold cel
    by_cases h1 : i < 6
    · simp [h1, hn, gD_sD, gD_sI, gD_sF, gI_sI, gI_sD, gI_sF, gF_sF, gF_sI', gF_sD']
    by_cases h2 : i < 12
    · simp [h1, h2, gD_sD, gD_sI, gD_sF, gI_sI, gI_sD, gI_sF, gF_sF, gF_sI', gF_sD']
    by_cases h3 : i < 18
    · simp [h1, h2, h3]
    by_cases h4 : i < 30
    · have n1 : i - 18 ≠ w := by omega
      simp [h1, h2, h3, h4, n1, gD_sD, gD_sI, gD_sF, gI_sI, gI_sD, gI_sF, gF_sF, gF_sI', gF_sD']
    unfold celR at hi
    rcases (show i = 54 ∨ i = 55 ∨ i = 58 by omega) with rfl | rfl | rfl
    · simp [gD_sD, gD_sI, gD_sF, gI_sI, gI_sD, gI_sF, gF_sF, gF_sI', gF_sD']
    · rfl
    · exact congrArg (aI G 6) (funext fun q => by simp [gD_sD, gD_sI, gD_sF, gI_sI, gI_sD, gI_sF, gF_sF, gF_sI', gF_sD'])
  · unfold cel; simp [show ¬ 18 + w < 6 by omega, show ¬ 18 + w < 12 by omega, show ¬ 18 + w < 18 by omega, show 18 + w < 30 by omega, show 18 + w - 18 = w by omega, gD_sD, gD_sI, gD_sF, gI_sI, gI_sD, gI_sF, gF_sF, gF_sI', gF_sD']
theorem CR.fD2 (h : CR G a N X M) {w : Nat} (hw : w < 12) (v : UInt64) : CR G a (sD N.1 5 w v, N.2) X (mu M (a.1 (18 + w)) (ob 2 ((cfO a.1 N.1 w).set 2 (.double v)))) := by
  refine h.put (18 + w) (by unfold celR; omega) _ _ (fun i hi hn => ?_) ?_
  · unfold cel
    by_cases h1 : i < 6
    · simp [h1, hn, gD_sD, gD_sI, gD_sF, gI_sI, gI_sD, gI_sF, gF_sF, gF_sI', gF_sD']
    by_cases h2 : i < 12
    · simp [h1, h2, gD_sD, gD_sI, gD_sF, gI_sI, gI_sD, gI_sF, gF_sF, gF_sI', gF_sD']
    by_cases h3 : i < 18
    · simp [h1, h2, h3]
    by_cases h4 : i < 30
    · have n1 : i - 18 ≠ w := by omega
      simp [h1, h2, h3, h4, n1, gD_sD, gD_sI, gD_sF, gI_sI, gI_sD, gI_sF, gF_sF, gF_sI', gF_sD']
    unfold celR at hi
    rcases (show i = 54 ∨ i = 55 ∨ i = 58 by omega) with rfl | rfl | rfl
    · simp [gD_sD, gD_sI, gD_sF, gI_sI, gI_sD, gI_sF, gF_sF, gF_sI', gF_sD']
    · rfl
    · exact congrArg (aI G 6) (funext fun q => by simp [gD_sD, gD_sI, gD_sF, gI_sI, gI_sD, gI_sF, gF_sF, gF_sI', gF_sD'])
  · unfold cel; simp [show ¬ 18 + w < 6 by omega, show ¬ 18 + w < 12 by omega, show ¬ 18 + w < 18 by omega, show 18 + w < 30 by omega, show 18 + w - 18 = w by omega, gD_sD, gD_sI, gD_sF, gI_sI, gI_sD, gI_sF, gF_sF, gF_sI', gF_sD']
theorem CR.pF23 (h : CR G a N X M) (v : Int32) : CR G a (sF N.1 23 v, N.2) X (mu M (a.1 54) (ob 0 ((cpO a.1 N.1).set 3 (.int v)))) := by
  refine h.put 54 (by unfold celR; omega) _ _ (fun i hi hn => ?_) ?_
  · unfold cel
    by_cases h1 : i < 6
    · simp [h1, hn, gD_sD, gD_sI, gD_sF, gI_sI, gI_sD, gI_sF, gF_sF, gF_sI', gF_sD']
    by_cases h2 : i < 12
    · simp [h1, h2, gD_sD, gD_sI, gD_sF, gI_sI, gI_sD, gI_sF, gF_sF, gF_sI', gF_sD']
    by_cases h3 : i < 18
    · simp [h1, h2, h3]
    by_cases h4 : i < 30
    · simp [h1, h2, h3, h4, gD_sD, gD_sI, gD_sF, gI_sI, gI_sD, gI_sF, gF_sF, gF_sI', gF_sD']
    simp [h1, h2, h3, h4, hn, gD_sD, gD_sI, gD_sF, gI_sI, gI_sD, gI_sF, gF_sF, gF_sI', gF_sD']
  · rfl
theorem CR.pF22 (h : CR G a N X M) (v : Int32) : CR G a (sF N.1 22 v, N.2) X (mu M (a.1 54) (ob 0 ((cpO a.1 N.1).set 4 (.int v)))) := by
  refine h.put 54 (by unfold celR; omega) _ _ (fun i hi hn => ?_) ?_
  · unfold cel
    by_cases h1 : i < 6
    · simp [h1, hn, gD_sD, gD_sI, gD_sF, gI_sI, gI_sD, gI_sF, gF_sF, gF_sI', gF_sD']
    by_cases h2 : i < 12
    · simp [h1, h2, gD_sD, gD_sI, gD_sF, gI_sI, gI_sD, gI_sF, gF_sF, gF_sI', gF_sD']
    by_cases h3 : i < 18
    · simp [h1, h2, h3]
    by_cases h4 : i < 30
    · simp [h1, h2, h3, h4, gD_sD, gD_sI, gD_sF, gI_sI, gI_sD, gI_sF, gF_sF, gF_sI', gF_sD']
    simp [h1, h2, h3, h4, hn, gD_sD, gD_sI, gD_sF, gI_sI, gI_sD, gI_sF, gF_sF, gF_sI', gF_sD']
  · rfl
theorem CR.pF25 (h : CR G a N X M) (v : Int32) : CR G a (sF N.1 25 v, N.2) X (mu M (a.1 54) (ob 0 ((cpO a.1 N.1).set 5 (.int v)))) := by
  refine h.put 54 (by unfold celR; omega) _ _ (fun i hi hn => ?_) ?_
  · unfold cel
    by_cases h1 : i < 6
    · simp [h1, hn, gD_sD, gD_sI, gD_sF, gI_sI, gI_sD, gI_sF, gF_sF, gF_sI', gF_sD']
    by_cases h2 : i < 12
    · simp [h1, h2, gD_sD, gD_sI, gD_sF, gI_sI, gI_sD, gI_sF, gF_sF, gF_sI', gF_sD']
    by_cases h3 : i < 18
    · simp [h1, h2, h3]
    by_cases h4 : i < 30
    · simp [h1, h2, h3, h4, gD_sD, gD_sI, gD_sF, gI_sI, gI_sD, gI_sF, gF_sF, gF_sI', gF_sD']
    simp [h1, h2, h3, h4, hn, gD_sD, gD_sI, gD_sF, gI_sI, gI_sD, gI_sF, gF_sF, gF_sI', gF_sD']
  · rfl
theorem CR.pF26 (h : CR G a N X M) (v : Int32) : CR G a (sF N.1 26 v, N.2) X (mu M (a.1 54) (ob 0 ((cpO a.1 N.1).set 6 (.int v)))) := by
  refine h.put 54 (by unfold celR; omega) _ _ (fun i hi hn => ?_) ?_
  · unfold cel
    by_cases h1 : i < 6
    · simp [h1, hn, gD_sD, gD_sI, gD_sF, gI_sI, gI_sD, gI_sF, gF_sF, gF_sI', gF_sD']
    by_cases h2 : i < 12
    · simp [h1, h2, gD_sD, gD_sI, gD_sF, gI_sI, gI_sD, gI_sF, gF_sF, gF_sI', gF_sD']
    by_cases h3 : i < 18
    · simp [h1, h2, h3]
    by_cases h4 : i < 30
    · simp [h1, h2, h3, h4, gD_sD, gD_sI, gD_sF, gI_sI, gI_sD, gI_sF, gF_sF, gF_sI', gF_sD']
    simp [h1, h2, h3, h4, hn, gD_sD, gD_sI, gD_sF, gI_sI, gI_sD, gI_sF, gF_sF, gF_sI', gF_sD']
  · rfl
theorem CR.pF27 (h : CR G a N X M) (v : Int32) : CR G a (sF N.1 27 v, N.2) X (mu M (a.1 54) (ob 0 ((cpO a.1 N.1).set 7 (.int v)))) := by
  refine h.put 54 (by unfold celR; omega) _ _ (fun i hi hn => ?_) ?_
  · unfold cel
    by_cases h1 : i < 6
    · simp [h1, hn, gD_sD, gD_sI, gD_sF, gI_sI, gI_sD, gI_sF, gF_sF, gF_sI', gF_sD']
    by_cases h2 : i < 12
    · simp [h1, h2, gD_sD, gD_sI, gD_sF, gI_sI, gI_sD, gI_sF, gF_sF, gF_sI', gF_sD']
    by_cases h3 : i < 18
    · simp [h1, h2, h3]
    by_cases h4 : i < 30
    · simp [h1, h2, h3, h4, gD_sD, gD_sI, gD_sF, gI_sI, gI_sD, gI_sF, gF_sF, gF_sI', gF_sD']
    simp [h1, h2, h3, h4, hn, gD_sD, gD_sI, gD_sF, gI_sI, gI_sD, gI_sF, gF_sF, gF_sI', gF_sD']
  · rfl
theorem CR.pF28 (h : CR G a N X M) (v : Int32) : CR G a (sF N.1 28 v, N.2) X (mu M (a.1 54) (ob 0 ((cpO a.1 N.1).set 8 (.int v)))) := by
  refine h.put 54 (by unfold celR; omega) _ _ (fun i hi hn => ?_) ?_
  · unfold cel
    by_cases h1 : i < 6
    · simp [h1, hn, gD_sD, gD_sI, gD_sF, gI_sI, gI_sD, gI_sF, gF_sF, gF_sI', gF_sD']
    by_cases h2 : i < 12
    · simp [h1, h2, gD_sD, gD_sI, gD_sF, gI_sI, gI_sD, gI_sF, gF_sF, gF_sI', gF_sD']
    by_cases h3 : i < 18
    · simp [h1, h2, h3]
    by_cases h4 : i < 30
    · simp [h1, h2, h3, h4, gD_sD, gD_sI, gD_sF, gI_sI, gI_sD, gI_sF, gF_sF, gF_sI', gF_sD']
    simp [h1, h2, h3, h4, hn, gD_sD, gD_sI, gD_sF, gI_sI, gI_sD, gI_sF, gF_sF, gF_sI', gF_sD']
  · rfl
theorem CR.pF29 (h : CR G a N X M) (v : Int32) : CR G a (sF N.1 29 v, N.2) X (mu M (a.1 54) (ob 0 ((cpO a.1 N.1).set 9 (.int v)))) := by
  refine h.put 54 (by unfold celR; omega) _ _ (fun i hi hn => ?_) ?_
  · unfold cel
    by_cases h1 : i < 6
    · simp [h1, hn, gD_sD, gD_sI, gD_sF, gI_sI, gI_sD, gI_sF, gF_sF, gF_sI', gF_sD']
    by_cases h2 : i < 12
    · simp [h1, h2, gD_sD, gD_sI, gD_sF, gI_sI, gI_sD, gI_sF, gF_sF, gF_sI', gF_sD']
    by_cases h3 : i < 18
    · simp [h1, h2, h3]
    by_cases h4 : i < 30
    · simp [h1, h2, h3, h4, gD_sD, gD_sI, gD_sF, gI_sI, gI_sD, gI_sF, gF_sF, gF_sI', gF_sD']
    simp [h1, h2, h3, h4, hn, gD_sD, gD_sI, gD_sF, gI_sI, gI_sD, gI_sF, gF_sF, gF_sI', gF_sD']
  · rfl
theorem CR.pF30 (h : CR G a N X M) (v : Int32) : CR G a (sF N.1 30 v, N.2) X (mu M (a.1 54) (ob 0 ((cpO a.1 N.1).set 10 (.int v)))) := by
  refine h.put 54 (by unfold celR; omega) _ _ (fun i hi hn => ?_) ?_
  · unfold cel
    by_cases h1 : i < 6
    · simp [h1, hn, gD_sD, gD_sI, gD_sF, gI_sI, gI_sD, gI_sF, gF_sF, gF_sI', gF_sD']
    by_cases h2 : i < 12
    · simp [h1, h2, gD_sD, gD_sI, gD_sF, gI_sI, gI_sD, gI_sF, gF_sF, gF_sI', gF_sD']
    by_cases h3 : i < 18
    · simp [h1, h2, h3]
    by_cases h4 : i < 30
    · simp [h1, h2, h3, h4, gD_sD, gD_sI, gD_sF, gI_sI, gI_sD, gI_sF, gF_sF, gF_sI', gF_sD']
    simp [h1, h2, h3, h4, hn, gD_sD, gD_sI, gD_sF, gI_sI, gI_sD, gI_sF, gF_sF, gF_sI', gF_sD']
  · rfl
theorem CR.pF31 (h : CR G a N X M) (v : Int32) : CR G a (sF N.1 31 v, N.2) X (mu M (a.1 54) (ob 0 ((cpO a.1 N.1).set 11 (.int v)))) := by
  refine h.put 54 (by unfold celR; omega) _ _ (fun i hi hn => ?_) ?_
  · unfold cel
    by_cases h1 : i < 6
    · simp [h1, hn, gD_sD, gD_sI, gD_sF, gI_sI, gI_sD, gI_sF, gF_sF, gF_sI', gF_sD']
    by_cases h2 : i < 12
    · simp [h1, h2, gD_sD, gD_sI, gD_sF, gI_sI, gI_sD, gI_sF, gF_sF, gF_sI', gF_sD']
    by_cases h3 : i < 18
    · simp [h1, h2, h3]
    by_cases h4 : i < 30
    · simp [h1, h2, h3, h4, gD_sD, gD_sI, gD_sF, gI_sI, gI_sD, gI_sF, gF_sF, gF_sI', gF_sD']
    simp [h1, h2, h3, h4, hn, gD_sD, gD_sI, gD_sF, gI_sI, gI_sD, gI_sF, gF_sF, gF_sI', gF_sD']
  · rfl
theorem CR.lI (h : CR G a N X M) (j : Nat) (v : Int32) : CR G a (sI N.1 21 j v, N.2) X (mu M (a.1 58) (aI G 6 (upd (gI N.1 21) j v))) := by
  refine h.put 58 (by unfold celR; omega) _ _ (fun i hi hn => ?_) ?_
  · unfold cel
    by_cases h1 : i < 6
    · simp [h1, hn, gD_sD, gD_sI, gD_sF, gI_sI, gI_sD, gI_sF, gF_sF, gF_sI', gF_sD']
    by_cases h2 : i < 12
    · simp [h1, h2, gD_sD, gD_sI, gD_sF, gI_sI, gI_sD, gI_sF, gF_sF, gF_sI', gF_sD']
    by_cases h3 : i < 18
    · simp [h1, h2, h3]
    by_cases h4 : i < 30
    · simp [h1, h2, h3, h4, gD_sD, gD_sI, gD_sF, gI_sI, gI_sD, gI_sF, gF_sF, gF_sI', gF_sD']
    unfold celR at hi
    rcases (show i = 54 ∨ i = 55 by omega) with rfl | rfl
    · rfl
    · rfl
  · exact congrArg (aI G 6) (funext fun q => by simp [gI_sI, upd])
end CRS
