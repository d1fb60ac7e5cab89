/-! THE COMPONENT's WORLD. a = (addresses by role, the packets' by flow, the requests', the lists' modCounts); N = (numbers as the twin has them, packets by flow, requests in order).
Roles: 0.. modems, 6.. their states, 12.. their arrays of flows, 18.. flows, 30.. their lists, 42.. the lists' arrays, 54 the plant, 55 its modems, 56 its requests, 57 their array, 58 its list. X: what else is known -/
abbrev Ad : Type := (Nat → Nat) × (Nat → List Nat) × List Nat × (Nat → Int32)
abbrev Rq : Type := Nat × Nat × Int32 × Int32
abbrev Cs : Type := Tw × (Nat → List (Int32 × Int32)) × List Rq
def pkE (z : Int32 × Int32) : Option va_E := some (ob 6 [.int z.1, .int z.2])
def rqE (A : Nat → Nat) (r : Rq) : Option va_E := some (ob 7 [.ref (A r.1), .ref (A (18 + r.2.1)), .int r.2.2.1, .int r.2.2.2])
def stE (k r u : Int32) : va_E := if k = 0 then ob 3 [.int r] else if k = 1 then ob 4 [.int r] else ob 5 [.int r, .int u]
def mdF (A : Nat → Nat) : Nat → Option Nat := fun i => if i < 6 then some (A i) else none
abbrev cpO (A : Nat → Nat) (S : Tw) : List Value := [.ref (A 55), .ref (A 56), .ref (A 58), .int (gF S 23), .int (gF S 22), .int (gF S 25), .int (gF S 26), .int (gF S 27), .int (gF S 28), .int (gF S 29), .int (gF S 30), .int (gF S 31)]
abbrev cmO (A : Nat → Nat) (S : Tw) (j : Nat) : List Value := [.double (gD S 0 j), .double (gD S 1 j), .double (gD S 2 j), .double (gD S 3 j), .int (gI S 7 j), .int (gI S 8 j), .ref (A (6 + j)), .ref (A (12 + j))]
abbrev cfO (A : Nat → Nat) (S : Tw) (w : Nat) : List Value := [.int (gI S 12 w), .double (gD S 4 w), .double (gD S 5 w), .ref (A (30 + w))]
def cel (G : Gw) (A : Nat → Nat) (S : Tw) (i : Nat) : va_E :=
  if i < 6 then ob 1 (cmO A S i) else if i < 12 then stE (gI S 6 (i - 6)) (gI S 9 (i - 6)) (gI S 11 (i - 6)) else if i < 18 then aF G 2 (fun k => some (A (18 + (2 * (i - 12) + k)))) else if i < 30 then ob 2 (cfO A S (i - 18)) else if i = 54 then ob 0 (cpO A S) else if i = 55 then aM G 6 (mdF A) else aI G 6 (gI S 21)
def celR (i : Nat) : Prop := i < 30 ∨ i = 54 ∨ i = 55 ∨ i = 58
def CR (G : Gw) (a : Ad) (N : Cs) (X M : Mp) : Prop :=
  (∀ i, celR i → M (a.1 i) = some (cel G a.1 N.1 i)) ∧
  M (a.1 56) = some (ob 8 [.int (a.2.2.2 56), .ref (a.1 57), .int (nI a.2.2.1.length)]) ∧ M (a.1 57) = some (aO G 6 (lsO a.2.2.1)) ∧
  (∀ w, w < 12 → M (a.1 (30 + w)) = some (ob 8 [.int (a.2.2.2 (30 + w)), .ref (a.1 (42 + w)), .int (nI (a.2.1 w).length)]) ∧ M (a.1 (42 + w)) = some (aO G 4 (lsO (a.2.1 w)))) ∧
  (∀ w, w < 12 → (a.2.1 w).map M = (N.2.1 w).map pkE ∧ (a.2.1 w).length ≤ 4) ∧
  (a.2.2.1.map M = N.2.2.map (rqE a.1) ∧ a.2.2.1.Nodup ∧ a.2.2.1.length ≤ 6) ∧
  (∀ i j, i < 59 → j < 59 → a.1 i = a.1 j → i = j) ∧
  (∀ (q : Nat) (e : va_E), X q = some e → M q = some e ∧ q ∉ a.2.2.1 ∧ ∀ i, i < 59 → q ≠ a.1 i) ∧
  ∀ r ∈ N.2.2, r.1 < 6 ∧ r.2.1 < 12
theorem gI_sI (S : Tw) (k j : Nat) (v : Int32) (k1 j1 : Nat) : gI (sI S k j v) k1 j1 = if k1 = k ∧ j1 = j then v else gI S k1 j1 := by
  unfold gI sI va_up upd
  by_cases h : k1 = k
  · subst h
    by_cases h2 : j1 = j
    · simp [h2]
    · simp [h2]
  · simp [h]
theorem gD_sD (S : Tw) (k j : Nat) (v : UInt64) (k1 j1 : Nat) : gD (sD S k j v) k1 j1 = if k1 = k ∧ j1 = j then v else gD S k1 j1 := by
  unfold gD sD va_up vf_upd
  by_cases h : k1 = k
  · subst h
    by_cases h2 : j1 = j
    · simp [h2]
    · simp [h2]
  · simp [h]
theorem gF_sF (S : Tw) (k : Nat) (v : Int32) (k1 : Nat) : gF (sF S k v) k1 = if k1 = k then v else gF S k1 := rfl
theorem gI_sD (S : Tw) (k j : Nat) (v : UInt64) (k1 : Nat) : gI (sD S k j v) k1 = gI S k1 := rfl
theorem gI_sF (S : Tw) (k : Nat) (v : Int32) (k1 : Nat) : gI (sF S k v) k1 = gI S k1 := rfl
theorem gD_sI (S : Tw) (k j : Nat) (v : Int32) (k1 : Nat) : gD (sI S k j v) k1 = gD S k1 := rfl
theorem gD_sF (S : Tw) (k : Nat) (v : Int32) (k1 : Nat) : gD (sF S k v) k1 = gD S k1 := rfl
theorem gF_sI' (S : Tw) (k j : Nat) (v : Int32) (k1 : Nat) : gF (sI S k j v) k1 = gF S k1 := rfl
theorem gF_sD' (S : Tw) (k j : Nat) (v : UInt64) (k1 : Nat) : gF (sD S k j v) k1 = gF S k1 := rfl
theorem map_mu {M : Mp} {b : Nat} {e : va_E} {xs : List Nat} (h : ∀ y ∈ xs, y ≠ b) : xs.map (mu M b e) = xs.map M := List.map_congr_left (fun y hy => mu_ne (h y hy))
section CRL
variable {G : Gw} {a : Ad} {N : Cs} {X M : Mp}
theorem CR.inj (h : CR G a N X M) {i j : Nat} (hi : i < 59) (hj : j < 59) (n : i ≠ j) : a.1 i ≠ a.1 j := fun z => n (h.2.2.2.2.2.2.1 i j hi hj z)
theorem CR.cl (h : CR G a N X M) {i : Nat} (hi : celR i) : M (a.1 i) = some (cel G a.1 N.1 i) := h.1 i hi
theorem CR.m (h : CR G a N X M) {j : Nat} (hj : j < 6) : M (a.1 j) = some (ob 1 (cmO a.1 N.1 j)) := by
  have := h.1 j (Or.inl (by omega))
  unfold cel at this
  rwa [if_pos hj] at this
theorem CR.st (h : CR G a N X M) {j : Nat} (hj : j < 6) : M (a.1 (6 + j)) = some (stE (gI N.1 6 j) (gI N.1 9 j) (gI N.1 11 j)) := by
  have := h.1 (6 + j) (Or.inl (by omega))
  unfold cel at this
  rwa [if_neg (by omega), if_pos (by omega), show 6 + j - 6 = j by omega] at this
theorem CR.fa (h : CR G a N X M) {j : Nat} (hj : j < 6) : M (a.1 (12 + j)) = some (aF G 2 (fun k => some (a.1 (18 + (2 * j + k))))) := by
  have := h.1 (12 + j) (Or.inl (by omega))
  unfold cel at this
  rwa [if_neg (by omega), if_neg (by omega), if_pos (by omega), show 12 + j - 12 = j by omega] at this
theorem CR.f (h : CR G a N X M) {w : Nat} (hw : w < 12) : M (a.1 (18 + w)) = some (ob 2 (cfO a.1 N.1 w)) := by
  have := h.1 (18 + w) (Or.inl (by omega))
  unfold cel at this
  rwa [if_neg (by omega), if_neg (by omega), if_neg (by omega), if_pos (by omega), show 18 + w - 18 = w by omega] at this
theorem CR.p (h : CR G a N X M) : M (a.1 54) = some (ob 0 (cpO a.1 N.1)) := h.1 54 (Or.inr (Or.inl rfl))
theorem CR.ma (h : CR G a N X M) : M (a.1 55) = some (aM G 6 (mdF a.1)) := h.1 55 (Or.inr (Or.inr (Or.inl rfl)))
theorem CR.li (h : CR G a N X M) : M (a.1 58) = some (aI G 6 (gI N.1 21)) := h.1 58 (Or.inr (Or.inr (Or.inr rfl)))
theorem CR.rl (h : CR G a N X M) : M (a.1 56) = some (ob 8 [.int (a.2.2.2 56), .ref (a.1 57), .int (nI a.2.2.1.length)]) := h.2.1
theorem CR.re (h : CR G a N X M) : M (a.1 57) = some (aO G 6 (lsO a.2.2.1)) := h.2.2.1
theorem CR.l (h : CR G a N X M) {w : Nat} (hw : w < 12) : M (a.1 (30 + w)) = some (ob 8 [.int (a.2.2.2 (30 + w)), .ref (a.1 (42 + w)), .int (nI (a.2.1 w).length)]) := (h.2.2.2.1 w hw).1
theorem CR.e (h : CR G a N X M) {w : Nat} (hw : w < 12) : M (a.1 (42 + w)) = some (aO G 4 (lsO (a.2.1 w))) := (h.2.2.2.1 w hw).2
theorem CR.x (h : CR G a N X M) {q : Nat} {e : va_E} (hq : X q = some e) : M q = some e := (h.2.2.2.2.2.2.2.1 q e hq).1
theorem CR.xn (h : CR G a N X M) {q i : Nat} {e : va_E} (hq : X q = some e) (hi : i < 59) : q ≠ a.1 i := (h.2.2.2.2.2.2.2.1 q e hq).2.2 i hi
theorem CR.pkl (h : CR G a N X M) {w : Nat} (hw : w < 12) : (a.2.1 w).length = (N.2.1 w).length := by
  have := congrArg List.length (h.2.2.2.2.1 w hw).1
  simpa using this
theorem CR.rql (h : CR G a N X M) : a.2.2.1.length = N.2.2.length := by
  have := congrArg List.length h.2.2.2.2.2.1.1
  simpa using this
theorem CR.pk (h : CR G a N X M) {w k y : Nat} (hw : w < 12) (hy : (a.2.1 w)[k]? = some y) : ∃ z, (N.2.1 w)[k]? = some z ∧ M y = some (ob 6 [.int z.1, .int z.2]) := by
  have h1 := congrArg (fun l => l[k]?) (h.2.2.2.2.1 w hw).1
  simp only [List.getElem?_map, hy, Option.map_some] at h1
  cases hz : (N.2.1 w)[k]? with
  | none => rw [hz] at h1; cases h1
  | some z => rw [hz] at h1; exact ⟨z, rfl, Option.some.inj h1⟩
theorem CR.rq (h : CR G a N X M) {k y : Nat} (hy : a.2.2.1[k]? = some y) : ∃ r : Rq, N.2.2[k]? = some r ∧ r.1 < 6 ∧ r.2.1 < 12 ∧ M y = some (ob 7 [.ref (a.1 r.1), .ref (a.1 (18 + r.2.1)), .int r.2.2.1, .int r.2.2.2]) := by
  have h1 := congrArg (fun l => l[k]?) h.2.2.2.2.2.1.1
  simp only [List.getElem?_map, hy, Option.map_some] at h1
  cases hz : N.2.2[k]? with
  | none => rw [hz] at h1; cases h1
  | some z =>
    rw [hz] at h1
    have h2 := h.2.2.2.2.2.2.2.2 z (List.mem_of_getElem? hz)
    exact ⟨z, rfl, h2.1, h2.2, Option.some.inj h1⟩
theorem CR.pkm (h : CR G a N X M) {w y : Nat} (hw : w < 12) (hy : y ∈ a.2.1 w) : ∃ z : Int32 × Int32, M y = some (ob 6 [.int z.1, .int z.2]) := by
  obtain ⟨k, hk⟩ := List.getElem?_of_mem hy
  obtain ⟨z, -, hz⟩ := h.pk hw hk
  exact ⟨z, hz⟩
theorem CR.rqm (h : CR G a N X M) {y : Nat} (hy : y ∈ a.2.2.1) : ∃ fs : List Value, M y = some (ob 7 fs) := by
  obtain ⟨k, hk⟩ := List.getElem?_of_mem hy
  obtain ⟨r, -, -, -, hz⟩ := h.rq hk
  exact ⟨_, hz⟩
theorem stE_tag (k r u : Int32) : tagE (stE k r u) = 3 ∨ tagE (stE k r u) = 4 ∨ tagE (stE k r u) = 5 := by
  unfold stE
  split
  · exact Or.inl rfl
  · split
    · exact Or.inr (Or.inl rfl)
    · exact Or.inr (Or.inr rfl)
theorem CR.tag (h : CR G a N X M) {i : Nat} (hi : i < 59) : ∃ e : va_E, M (a.1 i) = some e ∧ tagE e ≠ 6 ∧ tagE e ≠ 7 := by
  rcases Nat.lt_or_ge i 6 with q | q
  · exact ⟨_, h.m q, by show (1 : Nat) ≠ 6; decide, by show (1 : Nat) ≠ 7; decide⟩
  rcases Nat.lt_or_ge i 12 with q1 | q1
  · obtain ⟨j, rfl⟩ : ∃ j, i = 6 + j := ⟨i - 6, by omega⟩
    refine ⟨_, h.st (j := j) (by omega), ?_, ?_⟩ <;> rcases stE_tag (gI N.1 6 j) (gI N.1 9 j) (gI N.1 11 j) with z | z | z <;> rw [z] <;> decide
  rcases Nat.lt_or_ge i 18 with q2 | q2
  · obtain ⟨j, rfl⟩ : ∃ j, i = 12 + j := ⟨i - 12, by omega⟩
    exact ⟨_, h.fa (j := j) (by omega), by show (104 : Nat) ≠ 6; decide, by show (104 : Nat) ≠ 7; decide⟩
  rcases Nat.lt_or_ge i 30 with q3 | q3
  · obtain ⟨j, rfl⟩ : ∃ j, i = 18 + j := ⟨i - 18, by omega⟩
    exact ⟨_, h.f (w := j) (by omega), by show (2 : Nat) ≠ 6; decide, by show (2 : Nat) ≠ 7; decide⟩
  rcases Nat.lt_or_ge i 42 with q4 | q4
  · obtain ⟨j, rfl⟩ : ∃ j, i = 30 + j := ⟨i - 30, by omega⟩
    exact ⟨_, h.l (w := j) (by omega), by show (8 : Nat) ≠ 6; decide, by show (8 : Nat) ≠ 7; decide⟩
  rcases Nat.lt_or_ge i 54 with q5 | q5
  · obtain ⟨j, rfl⟩ : ∃ j, i = 42 + j := ⟨i - 42, by omega⟩
    exact ⟨_, h.e (w := j) (by omega), by show (104 : Nat) ≠ 6; decide, by show (104 : Nat) ≠ 7; decide⟩
  rcases (show i = 54 ∨ i = 55 ∨ i = 56 ∨ i = 57 ∨ i = 58 by omega) with rfl | rfl | rfl | rfl | rfl
  · exact ⟨_, h.p, by show (0 : Nat) ≠ 6; decide, by show (0 : Nat) ≠ 7; decide⟩
  · exact ⟨_, h.ma, by show (104 : Nat) ≠ 6; decide, by show (104 : Nat) ≠ 7; decide⟩
  · exact ⟨_, h.rl, by show (8 : Nat) ≠ 6; decide, by show (8 : Nat) ≠ 7; decide⟩
  · exact ⟨_, h.re, by show (104 : Nat) ≠ 6; decide, by show (104 : Nat) ≠ 7; decide⟩
  · exact ⟨_, h.li, by show (100 : Nat) ≠ 6; decide, by show (100 : Nat) ≠ 7; decide⟩
theorem CR.pxn (h : CR G a N X M) {w y i : Nat} (hw : w < 12) (hy : y ∈ a.2.1 w) (hi : i < 59) : y ≠ a.1 i := by
  obtain ⟨z, hz⟩ := h.pkm hw hy
  obtain ⟨e, he, h6, -⟩ := h.tag hi
  intro q
  rw [q, he] at hz
  cases hz
  exact h6 rfl
theorem CR.rxn (h : CR G a N X M) {y i : Nat} (hy : y ∈ a.2.2.1) (hi : i < 59) : y ≠ a.1 i := by
  obtain ⟨z, hz⟩ := h.rqm hy
  obtain ⟨e, he, -, h7⟩ := h.tag hi
  intro q
  rw [q, he] at hz
  cases hz
  exact h7 rfl
/-- a cell of the plain kinds is another: the numbers S1 say what it holds now -/
theorem CR.put (h : CR G a N X M) (r : Nat) (hr : celR r) (S1 : Tw) (e : va_E) (hc : ∀ i, celR i → i ≠ r → cel G a.1 S1 i = cel G a.1 N.1 i) (he : cel G a.1 S1 r = e) : CR G a (S1, N.2) X (mu M (a.1 r) e) := by
  have hr9 : r < 59 := by unfold celR at hr; omega
  have c9 : ∀ i, celR i → i < 59 := fun i hi => by unfold celR at hi; omega
  have nr : ∀ i, i < 59 → ¬ celR i → i ≠ r := fun i _ hn z => hn (z ▸ hr)
  refine ⟨fun i hi => ?_, muL (h.inj (by decide) hr9 (nr _ (by decide) (by unfold celR; omega))) h.rl, muL (h.inj (by decide) hr9 (nr _ (by decide) (by unfold celR; omega))) h.re,
    fun w hw => ⟨muL (h.inj (by omega) hr9 (nr _ (by omega) (by unfold celR; omega))) (h.l hw), muL (h.inj (by omega) hr9 (nr _ (by omega) (by unfold celR; omega))) (h.e hw)⟩,
    fun w hw => ⟨(map_mu (fun y hy => h.pxn hw hy hr9)).trans (h.2.2.2.2.1 w hw).1, (h.2.2.2.2.1 w hw).2⟩,
    ⟨(map_mu (fun y hy => h.rxn hy hr9)).trans h.2.2.2.2.2.1.1, h.2.2.2.2.2.1.2⟩, h.2.2.2.2.2.2.1, fun q x hq => ?_, h.2.2.2.2.2.2.2.2⟩
  · by_cases z : i = r
    · subst z
      rw [mu_eq, ← he]
    · exact (muL (h.inj (c9 i hi) hr9 z) (h.1 i hi)).trans (congrArg some (hc i hi z).symm)
  · obtain ⟨x1, x2, x3⟩ := h.2.2.2.2.2.2.2.1 q x hq
    exact ⟨muL (x3 r hr9) x1, x2, x3⟩
/-- cells beside the plant's -/
theorem CR.tnew (h : CR G a N X M) {q : Nat} {e : va_E} (hq : M q = none) : CR G a N (mu X q e) (mu M q e) := by
  have nq : ∀ b x, M b = some x → b ≠ q := fun b x hb => ne_none hq hb
  refine ⟨fun i hi => muL (nq _ _ (h.1 i hi)) (h.1 i hi), muL (nq _ _ h.rl) h.rl, muL (nq _ _ h.re) h.re, fun w hw => ⟨muL (nq _ _ (h.l hw)) (h.l hw), muL (nq _ _ (h.e hw)) (h.e hw)⟩,
    fun w hw => ⟨(map_mu (fun y hy => by obtain ⟨z, hz⟩ := h.pkm hw hy; exact nq _ _ hz)).trans (h.2.2.2.2.1 w hw).1, (h.2.2.2.2.1 w hw).2⟩,
    ⟨(map_mu (fun y hy => by obtain ⟨z, hz⟩ := h.rqm hy; exact nq _ _ hz)).trans h.2.2.2.2.2.1.1, h.2.2.2.2.2.1.2⟩, h.2.2.2.2.2.2.1, fun b x hb => ?_, h.2.2.2.2.2.2.2.2⟩
  by_cases z : b = q
  · subst z
    rw [mu_eq] at hb
    cases hb
    refine ⟨mu_eq _ _ _, fun hm => ?_, fun i hi hn => ?_⟩
    · obtain ⟨fs, hz⟩ := h.rqm hm
      exact nq _ _ hz rfl
    · obtain ⟨e1, he1, -⟩ := h.tag hi
      exact nq _ _ he1 hn.symm
  · rw [mu_ne z] at hb
    obtain ⟨x1, x2, x3⟩ := h.2.2.2.2.2.2.2.1 b x hb
    exact ⟨muL z x1, x2, x3⟩
theorem CR.tset (h : CR G a N X M) {q : Nat} {e0 e : va_E} (hq : X q = some e0) (ht : tagE e0 ≠ 6) : CR G a N (mu X q e) (mu M q e) := by
  obtain ⟨y1, y2, y3⟩ := h.2.2.2.2.2.2.2.1 q e0 hq
  have c9 : ∀ i, celR i → i < 59 := fun i hi => by unfold celR at hi; omega
  refine ⟨fun i hi => muL (Ne.symm (y3 i (c9 i hi))) (h.1 i hi), muL (Ne.symm (y3 _ (by decide))) h.rl, muL (Ne.symm (y3 _ (by decide))) h.re, fun w hw => ⟨muL (Ne.symm (y3 _ (by omega))) (h.l hw), muL (Ne.symm (y3 _ (by omega))) (h.e hw)⟩,
    fun w hw => ⟨(map_mu (fun y hy z => ?_)).trans (h.2.2.2.2.1 w hw).1, (h.2.2.2.2.1 w hw).2⟩,
    ⟨(map_mu (b := q) (fun y hy z => y2 (by rw [← z]; exact hy))).trans h.2.2.2.2.2.1.1, h.2.2.2.2.2.1.2⟩, h.2.2.2.2.2.2.1, fun b x hb => ?_, h.2.2.2.2.2.2.2.2⟩
  · obtain ⟨v, hv⟩ := h.pkm hw hy
    rw [z, y1] at hv
    cases hv
    exact ht rfl
  · by_cases z : b = q
    · subst z
      rw [mu_eq] at hb
      cases hb
      exact ⟨mu_eq _ _ _, y2, y3⟩
    · rw [mu_ne z] at hb
      obtain ⟨x1, x2, x3⟩ := h.2.2.2.2.2.2.2.1 b x hb
      exact ⟨muL z x1, x2, x3⟩
/-- less of X -/
theorem CR.less (h : CR G a N X M) {X1 : Mp} (hX : ∀ q e, X1 q = some e → X q = some e) : CR G a N X1 M :=
  ⟨h.1, h.2.1, h.2.2.1, h.2.2.2.1, h.2.2.2.2.1, h.2.2.2.2.2.1, h.2.2.2.2.2.2.1, fun q e hq => h.2.2.2.2.2.2.2.1 q e (hX q e hq), h.2.2.2.2.2.2.2.2⟩
end CRL
