/-! the component's world: a new state, the lists -/
theorem nd_inj {xs : List Nat} (h : xs.Nodup) {i k y : Nat} (hi : xs[i]? = some y) (hk : xs[k]? = some y) : i = k := by
  obtain ⟨h1, e1⟩ := List.getElem?_eq_some_iff.mp hi
  obtain ⟨h2, e2⟩ := List.getElem?_eq_some_iff.mp hk
  have hp := List.pairwise_iff_getElem.mp h
  rcases Nat.lt_trichotomy i k with q | q | q
  · exact absurd (e1.trans e2.symm) (hp i k h1 h2 q)
  · exact q
  · exact absurd (e2.trans e1.symm) (hp k i h2 h1 q)
section CRT
variable {G : Gw} {a : Ad} {N : Cs} {X M : Mp}
theorem CR.newSt (h : CR G a N X M) {j : Nat} (hj : j < 6) {q : Nat} {k r u : Int32} (hq : X q = some (stE k r u)) {X1 : Mp} (hX : ∀ (b : Nat) (e : va_E), X1 b = some e → X b = some e ∧ b ≠ q) :
    CR G (va_up a.1 (6 + j) q, a.2) (sI (sI (sI N.1 6 j k) 9 j r) 11 j u, N.2) X1 (mu M (a.1 j) (ob 1 ((cmO a.1 N.1 j).set 6 (.ref q)))) := by
  obtain ⟨y1, y2, y3⟩ := h.2.2.2.2.2.2.2.1 q _ hq
  have hA : ∀ i, i ≠ 6 + j → va_up a.1 (6 + j) q i = a.1 i := fun i hi => va_up_ne _ _ hi
  have hAs : va_up a.1 (6 + j) q (6 + j) = q := va_up_self _ _ _
  have hj9 : j < 59 := by omega
  refine ⟨fun i hi => ?_, ?_, ?_, fun w hw => ⟨?_, ?_⟩, fun w hw => ⟨(map_mu (fun y hy => h.pxn hw hy hj9)).trans (h.2.2.2.2.1 w hw).1, (h.2.2.2.2.1 w hw).2⟩,
    ⟨(map_mu (fun y hy => h.rxn hy hj9)).trans (h.2.2.2.2.2.1.1.trans (List.map_congr_left fun z hz => ?_)), h.2.2.2.2.2.1.2⟩, fun i i1 hi hi1 hz => ?_, fun b x hb => ?_, h.2.2.2.2.2.2.2.2⟩
  · have c9 : i < 59 := by unfold celR at hi; omega
    by_cases z : i = 6 + j
    · subst z
      show mu M (a.1 j) _ (va_up a.1 (6 + j) q (6 + j)) = _
      rw [hAs, mu_ne (y3 j hj9), y1]
      congr 1
      unfold cel
      rw [if_neg (by omega), if_pos (by omega), show 6 + j - 6 = j by omega]
      simp [gI_sI]
    · show mu M (a.1 j) _ (va_up a.1 (6 + j) q i) = _
      rw [hA i z]
      by_cases z2 : i = j
      · subst z2
        rw [mu_eq]
        congr 1
        unfold cel
        rw [if_pos hj]
        simp [gI_sI, gD_sI, hAs, hA (12 + i) (by omega)]
      · rw [mu_ne (h.inj c9 hj9 z2), h.1 i hi]
        congr 1
        unfold cel
        by_cases h1 : i < 6
        · simp [h1, gI_sI, gD_sI, hA (6 + i) (by omega), hA (12 + i) (by omega)]
        by_cases h2 : i < 12
        · have n1 : i - 6 ≠ j := by omega
          simp [h1, h2, n1, gI_sI]
        by_cases h3 : i < 18
        · simp only [h1, h2, h3, if_false, if_true]
          congr 1
          funext k9
          rw [hA _ (by omega)]
        by_cases h4 : i < 30
        · simp [h1, h2, h3, h4, gI_sI, gD_sI, hA (30 + (i - 18)) (by omega)]
        unfold celR at hi
        rcases (show i = 54 ∨ i = 55 ∨ i = 58 by omega) with rfl | rfl | rfl
        · simp [gF_sI', hA 55 (by omega), hA 56 (by omega), hA 58 (by omega)]
        · simp only [h1, h2, h3, h4, if_false, if_true]
          have : mdF a.1 = mdF (va_up a.1 (6 + j) q) := by
            funext k9
            unfold mdF
            by_cases h5 : k9 < 6
            · rw [if_pos h5, if_pos h5, hA _ (by omega)]
            · rw [if_neg h5, if_neg h5]
          simp [this]
        · exact congrArg (aI G 6) (funext fun k9 => by simp [gI_sI])
  · show mu M (a.1 j) _ (va_up a.1 (6 + j) q 56) = _
    rw [hA 56 (by omega)]
    show _ = some (ob 8 [.int (a.2.2.2 56), .ref (va_up a.1 (6 + j) q 57), .int (nI a.2.2.1.length)])
    rw [hA 57 (by omega)]
    exact muL (h.inj (by decide) hj9 (by omega)) h.rl
  · show mu M (a.1 j) _ (va_up a.1 (6 + j) q 57) = _
    rw [hA 57 (by omega)]
    exact muL (h.inj (by decide) hj9 (by omega)) h.re
  · show mu M (a.1 j) _ (va_up a.1 (6 + j) q (30 + w)) = some (ob 8 [.int (a.2.2.2 (30 + w)), .ref (va_up a.1 (6 + j) q (42 + w)), .int (nI (a.2.1 w).length)])
    rw [hA (30 + w) (by omega), hA (42 + w) (by omega)]
    exact muL (h.inj (by omega) hj9 (by omega)) (h.l hw)
  · show mu M (a.1 j) _ (va_up a.1 (6 + j) q (42 + w)) = some (aO G 4 (lsO (a.2.1 w)))
    rw [hA (42 + w) (by omega)]
    exact muL (h.inj (by omega) hj9 (by omega)) (h.e hw)
  · have hz2 := h.2.2.2.2.2.2.2.2 z hz
    show rqE a.1 z = rqE (va_up a.1 (6 + j) q) z
    unfold rqE
    rw [hA z.1 (by omega), hA (18 + z.2.1) (by omega)]
  · have hz1 : va_up a.1 (6 + j) q i = va_up a.1 (6 + j) q i1 := hz
    by_cases z1 : i = 6 + j
    · by_cases z2 : i1 = 6 + j
      · omega
      · rw [z1, hAs, hA i1 z2] at hz1
        exact absurd hz1 (y3 i1 hi1)
    · by_cases z2 : i1 = 6 + j
      · rw [z2, hAs, hA i z1] at hz1
        exact absurd hz1.symm (y3 i hi)
      · rw [hA i z1, hA i1 z2] at hz1
        exact h.2.2.2.2.2.2.1 i i1 hi hi1 hz1
  · obtain ⟨hb1, hb2⟩ := hX b x hb
    obtain ⟨x1, x2, x3⟩ := h.2.2.2.2.2.2.2.1 b x hb1
    refine ⟨muL (x3 j hj9) x1, x2, fun i hi => ?_⟩
    show b ≠ va_up a.1 (6 + j) q i
    by_cases z1 : i = 6 + j
    · rw [z1, hAs]; exact hb2
    · rw [hA i z1]; exact x3 i hi
theorem pk_ne (h : CR G a N X M) {xs : List Nat} {l : List (Int32 × Int32)} (hm : xs.map M = l.map pkE) {y i : Nat} (hy : y ∈ xs) (hi : i < 59) : y ≠ a.1 i := by
  obtain ⟨k, hk⟩ := List.getElem?_of_mem hy
  have h1 := congrArg (fun l => l[k]?) hm
  simp only [List.getElem?_map, hk, Option.map_some] at h1
  obtain ⟨e, he, h6, -⟩ := h.tag hi
  intro q
  rw [q, he] at h1
  cases hz : l[k]? with
  | none => rw [hz] at h1; cases h1
  | some z =>
    rw [hz] at h1
    have h2 := Option.some.inj h1
    unfold pkE at h2
    cases Option.some.inj h2
    exact h6 rfl
theorem rq_ne (h : CR G a N X M) {xs : List Nat} {l : List Rq} (hm : xs.map M = l.map (rqE a.1)) {y i : Nat} (hy : y ∈ xs) (hi : i < 59) : y ≠ a.1 i := by
  obtain ⟨k, hk⟩ := List.getElem?_of_mem hy
  have h1 := congrArg (fun l => l[k]?) hm
  simp only [List.getElem?_map, hk, Option.map_some] at h1
  obtain ⟨e, he, -, h7⟩ := h.tag hi
  intro q
  rw [q, he] at h1
  cases hz : l[k]? with
  | none => rw [hz] at h1; cases h1
  | some z =>
    rw [hz] at h1
    have h2 := Option.some.inj h1
    unfold rqE at h2
    cases Option.some.inj h2
    exact h7 rfl
theorem mu2 {M : Mp} {b c d : Nat} {e e1 x : va_E} (h1 : d ≠ b) (h2 : d ≠ c) (h : M d = some x) : mu (mu M b e) c e1 d = some x := muL h2 (muL h1 h)
theorem map_mu2 {M : Mp} {b c : Nat} {e e1 : va_E} {xs : List Nat} (h1 : ∀ y ∈ xs, y ≠ b) (h2 : ∀ y ∈ xs, y ≠ c) : xs.map (mu (mu M b e) c e1) = xs.map M := (map_mu h2).trans (map_mu h1)
theorem CR.packs (h : CR G a N X M) {w : Nat} (hw : w < 12) {xs : List Nat} {l : List (Int32 × Int32)} {mc : Int32} (hm : xs.map M = l.map pkE) (hl : xs.length ≤ 4) :
    CR G (a.1, va_up a.2.1 w xs, a.2.2.1, va_up a.2.2.2 (30 + w) mc) (N.1, va_up N.2.1 w l, N.2.2) X (mu (mu M (a.1 (42 + w)) (aO G 4 (lsO xs))) (a.1 (30 + w)) (ob 8 [.int mc, .ref (a.1 (42 + w)), .int (nI xs.length)])) := by
  have n : ∀ i, i < 59 → i ≠ 42 + w → i ≠ 30 + w → ∀ x, M (a.1 i) = some x → mu (mu M (a.1 (42 + w)) (aO G 4 (lsO xs))) (a.1 (30 + w)) (ob 8 [.int mc, .ref (a.1 (42 + w)), .int (nI xs.length)]) (a.1 i) = some x :=
    fun i hi h1 h2 x hx => mu2 (h.inj hi (by omega) h1) (h.inj hi (by omega) h2) hx
  refine ⟨fun i hi => n i (by unfold celR at hi; omega) (by unfold celR at hi; omega) (by unfold celR at hi; omega) _ (h.1 i hi), ?_, n 57 (by decide) (by omega) (by omega) _ h.re, fun v hv => ⟨?_, ?_⟩, fun v hv => ?_, ⟨(map_mu2 (fun y hy => h.rxn hy (by omega)) (fun y hy => h.rxn hy (by omega))).trans h.2.2.2.2.2.1.1, h.2.2.2.2.2.1.2⟩, h.2.2.2.2.2.2.1, fun b x hb => ?_, h.2.2.2.2.2.2.2.2⟩
  · show mu _ _ _ (a.1 56) = some (ob 8 [.int (va_up a.2.2.2 (30 + w) mc 56), _, _])
    rw [va_up_ne _ _ (by omega)]
    exact n 56 (by decide) (by omega) (by omega) _ h.rl
  · show mu _ _ _ (a.1 (30 + v)) = some (ob 8 [.int (va_up a.2.2.2 (30 + w) mc (30 + v)), .ref (a.1 (42 + v)), .int (nI (va_up a.2.1 w xs v).length)])
    by_cases z : v = w
    · subst z
      rw [mu_eq, va_up_self, va_up_self]
    · rw [va_up_ne _ _ (by omega), va_up_ne _ _ z]
      exact n (30 + v) (by omega) (by omega) (by omega) _ (h.l hv)
  · show mu _ _ _ (a.1 (42 + v)) = some (aO G 4 (lsO (va_up a.2.1 w xs v)))
    by_cases z : v = w
    · subst z
      rw [va_up_self]
      exact muL (h.inj (by omega) (by omega) (by omega)) (mu_eq _ _ _)
    · rw [va_up_ne _ _ z]
      exact n (42 + v) (by omega) (by omega) (by omega) _ (h.e hv)
  · show (va_up a.2.1 w xs v).map _ = (va_up N.2.1 w l v).map pkE ∧ (va_up a.2.1 w xs v).length ≤ 4
    by_cases z : v = w
    · subst z
      rw [va_up_self, va_up_self]
      exact ⟨(map_mu2 (fun y hy => pk_ne h hm hy (by omega)) (fun y hy => pk_ne h hm hy (by omega))).trans hm, hl⟩
    · rw [va_up_ne _ _ z, va_up_ne _ _ z]
      exact ⟨(map_mu2 (fun y hy => h.pxn hv hy (by omega)) (fun y hy => h.pxn hv hy (by omega))).trans (h.2.2.2.2.1 v hv).1, (h.2.2.2.2.1 v hv).2⟩
  · obtain ⟨x1, x2, x3⟩ := h.2.2.2.2.2.2.2.1 b x hb
    exact ⟨mu2 (x3 _ (by omega)) (x3 _ (by omega)) x1, x2, x3⟩
theorem CR.reqs (h : CR G a N X M) {xs : List Nat} {l : List Rq} {mc : Int32} (hm : xs.map M = l.map (rqE a.1)) (hnd : xs.Nodup) (hl : xs.length ≤ 6) (hr : ∀ r ∈ l, r.1 < 6 ∧ r.2.1 < 12) {X1 : Mp} (hX : ∀ (b : Nat) (e : va_E), X1 b = some e → M b = some e ∧ b ∉ xs ∧ ∀ i, i < 59 → b ≠ a.1 i) :
    CR G (a.1, a.2.1, xs, va_up a.2.2.2 56 mc) (N.1, N.2.1, l) X1 (mu (mu M (a.1 57) (aO G 6 (lsO xs))) (a.1 56) (ob 8 [.int mc, .ref (a.1 57), .int (nI xs.length)])) := by
  have n : ∀ i, i < 59 → i ≠ 57 → i ≠ 56 → ∀ x, M (a.1 i) = some x → mu (mu M (a.1 57) (aO G 6 (lsO xs))) (a.1 56) (ob 8 [.int mc, .ref (a.1 57), .int (nI xs.length)]) (a.1 i) = some x :=
    fun i hi h1 h2 x hx => mu2 (h.inj hi (by omega) h1) (h.inj hi (by omega) h2) hx
  refine ⟨fun i hi => n i (by unfold celR at hi; omega) (by unfold celR at hi; omega) (by unfold celR at hi; omega) _ (h.1 i hi), ?_, muL (h.inj (by decide) (by decide) (by decide)) (mu_eq _ _ _), fun v hv => ⟨?_, n (42 + v) (by omega) (by omega) (by omega) _ (h.e hv)⟩, fun v hv => ⟨(map_mu2 (fun y hy => h.pxn hv hy (by omega)) (fun y hy => h.pxn hv hy (by omega))).trans (h.2.2.2.2.1 v hv).1, (h.2.2.2.2.1 v hv).2⟩,
    ⟨(map_mu2 (fun y hy => rq_ne h hm hy (by decide)) (fun y hy => rq_ne h hm hy (by decide))).trans hm, hnd, hl⟩, h.2.2.2.2.2.2.1, fun b x hb => ?_, hr⟩
  · show mu _ _ _ (a.1 56) = some (ob 8 [.int (va_up a.2.2.2 56 mc 56), _, _])
    rw [mu_eq, va_up_self]
  · show mu _ _ _ (a.1 (30 + v)) = some (ob 8 [.int (va_up a.2.2.2 56 mc (30 + v)), _, _])
    rw [va_up_ne _ _ (by omega)]
    exact n (30 + v) (by omega) (by omega) (by omega) _ (h.l hv)
  · obtain ⟨x1, x2, x3⟩ := hX b x hb
    exact ⟨mu2 (x3 _ (by decide)) (x3 _ (by decide)) x1, x2, x3⟩
theorem CR.needs (h : CR G a N X M) {k y : Nat} {r : Rq} (hy : a.2.2.1[k]? = some y) (hr : N.2.2[k]? = some r) (v : Int32) :
    CR G a (N.1, N.2.1, N.2.2.set k (r.1, r.2.1, r.2.2.1, v)) X (mu M y (ob 7 [.ref (a.1 r.1), .ref (a.1 (18 + r.2.1)), .int r.2.2.1, .int v])) := by
  have hym : y ∈ a.2.2.1 := List.mem_of_getElem? hy
  have hk : k < a.2.2.1.length := (List.getElem?_eq_some_iff.mp hy).1
  have hk2 : k < N.2.2.length := (List.getElem?_eq_some_iff.mp hr).1
  have hn : ∀ i, i < 59 → a.1 i ≠ y := fun i hi => Ne.symm (h.rxn hym hi)
  refine ⟨fun i hi => muL (hn i (by unfold celR at hi; omega)) (h.1 i hi), muL (hn _ (by decide)) h.rl, muL (hn _ (by decide)) h.re, fun w hw => ⟨muL (hn _ (by omega)) (h.l hw), muL (hn _ (by omega)) (h.e hw)⟩, fun w hw => ⟨(map_mu (fun z hz q => ?_)).trans (h.2.2.2.2.1 w hw).1, (h.2.2.2.2.1 w hw).2⟩, ⟨?_, h.2.2.2.2.2.1.2⟩, h.2.2.2.2.2.2.1, fun b x hb => ?_, fun z hz => ?_⟩
  · obtain ⟨v1, hv1⟩ := h.pkm hw hz
    obtain ⟨fs, hf⟩ := h.rqm hym
    rw [q, hf] at hv1
    cases hv1
  · apply List.ext_getElem?
    intro i
    have h1 := congrArg (fun l => l[i]?) h.2.2.2.2.2.1.1
    simp only [List.getElem?_map] at h1 ⊢
    by_cases z : i = k
    · subst z
      rw [hy, List.getElem?_set_self hk2]
      simp only [Option.map_some, mu_eq]
      rfl
    · rw [List.getElem?_set_ne (Ne.symm z), ← h1]
      cases hc : a.2.2.1[i]? with
      | none => rfl
      | some y1 =>
        simp only [Option.map_some]
        congr 1
        refine mu_ne (fun q => z ?_)
        subst q
        exact nd_inj h.2.2.2.2.2.1.2.1 hc hy
  · obtain ⟨x1, x2, x3⟩ := h.2.2.2.2.2.2.2.1 b x hb
    exact ⟨muL (fun q => x2 (by rw [q]; exact hym)) x1, x2, x3⟩
  · rcases List.mem_or_eq_of_mem_set hz with q | q
    · exact h.2.2.2.2.2.2.2.2 z q
    · subst q
      exact h.2.2.2.2.2.2.2.2 r (List.mem_of_getElem? hr)
end CRT
