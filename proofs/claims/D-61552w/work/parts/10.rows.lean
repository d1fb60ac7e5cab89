/-! THE WORLD AS A MAP: M says which cells are known, by address; Rp: the heap holds them; mu: one cell is another -/
abbrev vwCl : List vw_C := [(RX1, TX1, 12), (RX2, TX2, 8), (RX5, TX5, 4), (RX4, TX4, 1), (RX7, TX7, 1), (RX9, TX9, 2), (RX8, TX8, 2), (RX10, TX10, 4), (RJ2, TJ2, 3), (RJ18, TJ18, 4), (RX6, TX6, 33)]
/-- classes' numbers and slots; array classes; the first address that is the law's own -/
abbrev Gw : Type := va_G × (Nat → ClassId) × Nat
abbrev Af (G : Gw) : Nat → Prop := fun q => G.2.2 ≤ q
abbrev tysOf (G : Gw) : List (ClassId × FieldType) := [(G.2.1 0, .int), (G.2.1 1, .double), (G.2.1 2, .long), (G.2.1 3, .object "CablePlant$Modem"), (G.2.1 4, .object "CablePlant$Flow"), (G.2.1 5, .object "java/lang/Object")]
abbrev Mp : Type := Nat → Option va_E
abbrev ob (ci : Nat) (fs : List Value) : va_E := .inr (ci, fs)
abbrev aI (G : Gw) (n : Nat) (f : Nat → Int32) : va_E := .inl (G.2.1 0, n, .inl f)
abbrev aD (G : Gw) (n : Nat) (f : Nat → UInt64) : va_E := .inl (G.2.1 1, n, .inr (.inr (.inr (.inl f))))
abbrev aJ (G : Gw) (n : Nat) (f : Nat → Int64) : va_E := .inl (G.2.1 2, n, .inr (.inl f))
abbrev aM (G : Gw) (n : Nat) (f : Nat → Option Nat) : va_E := .inl (G.2.1 3, n, .inr (.inr (.inr (.inr f))))
abbrev aF (G : Gw) (n : Nat) (f : Nat → Option Nat) : va_E := .inl (G.2.1 4, n, .inr (.inr (.inr (.inr f))))
abbrev aO (G : Gw) (n : Nat) (f : Nat → Option Nat) : va_E := .inl (G.2.1 5, n, .inr (.inr (.inr (.inr f))))
def mu (M : Mp) (a : Nat) (e : va_E) : Mp := fun q => if q = a then some e else M q
theorem mu_eq (M : Mp) (a : Nat) (e : va_E) : mu M a e a = some e := if_pos rfl
theorem mu_ne {M : Mp} {a b : Nat} {e : va_E} (h : b ≠ a) : mu M a e b = M b := if_neg h
theorem muL {M : Mp} {a b : Nat} {e e1 : va_E} (h : b ≠ a) (hb : M b = some e1) : mu M a e b = some e1 := (mu_ne h).trans hb
theorem mu_mu (M : Mp) (a : Nat) (e e1 : va_E) : mu (mu M a e) a e1 = mu M a e1 := by
  funext q
  unfold mu
  split <;> rfl
theorem mu_comm (M : Mp) {a b : Nat} (e e1 : va_E) (h : a ≠ b) : mu (mu M a e) b e1 = mu (mu M b e1) a e := by
  funext q
  unfold mu
  by_cases h1 : q = a
  · subst h1
    simp [h]
  · simp [h1]
theorem mu_self {M : Mp} {a : Nat} {e : va_E} (h : M a = some e) : mu M a e = M := by
  funext q
  unfold mu
  split
  · rename_i h1; rw [h1, h]
  · rfl
/-- what a cell is, by a number -/
def tagE (e : va_E) : Nat := match e with
  | .inr o => o.1
  | .inl (_, _, .inl _) => 100
  | .inl (_, _, .inr (.inl _)) => 101
  | .inl (_, _, .inr (.inr (.inl _))) => 102
  | .inl (_, _, .inr (.inr (.inr (.inl _)))) => 103
  | .inl (_, _, .inr (.inr (.inr (.inr _)))) => 104
theorem ne_tag {M : Mp} {a b : Nat} {e1 e2 : va_E} (h1 : M a = some e1) (h2 : M b = some e2) (h : Nat.beq (tagE e1) (tagE e2) = false) : a ≠ b := by
  intro q
  subst q
  rw [h1] at h2
  cases h2
  have : Nat.beq (tagE e1) (tagE e1) = true := Nat.beq_refl _
  rw [this] at h
  cases h
theorem ne_none {M : Mp} {a b : Nat} {e : va_E} (h1 : M a = none) (h2 : M b = some e) : b ≠ a := by
  intro q
  subst q
  rw [h1] at h2
  cases h2
def Rp (G : Gw) (M : Mp) (H : Heap) : Prop := G.2.2 ≤ H.size ∧ ∃ ws : va_W, va_P G.1 vwCl ws H ∧ va_D (Af G) ws ∧ ∀ (a : Nat) (e : va_E), M a = some e → ∃ k : Nat, ws[k]? = some (a, e)
theorem Rp.one {G : Gw} {M : Mp} {H : Heap} (h : Rp G M H) {a : Nat} {e : va_E} (ha : M a = some e) : va_P G.1 vwCl [(a, e)] H := by
  obtain ⟨-, ws, hP, -, hM⟩ := h
  obtain ⟨k, hk⟩ := hM a e ha
  intro i q hq
  cases i with
  | zero => cases hq; exact hP k _ hk
  | succ i => cases hq
theorem Rp.two {G : Gw} {M : Mp} {H : Heap} (h : Rp G M H) {a b : Nat} {e e1 : va_E} (ha : M a = some e) (hb : M b = some e1) : va_P G.1 vwCl [(a, e), (b, e1)] H := by
  intro i q hq
  match i, hq with
  | 0, hq => cases hq; exact h.one ha 0 _ rfl
  | 1, hq => cases hq; exact h.one hb 0 _ rfl
theorem Rp.at {G : Gw} {M : Mp} {H : Heap} (h : Rp G M H) {a : Nat} {e : va_E} (ha : M a = some e) : va_at G.1 vwCl (a, e) H := h.one ha 0 _ rfl
theorem Rp.lt {G : Gw} {M : Mp} {H : Heap} (h : Rp G M H) {a : Nat} {e : va_E} (ha : M a = some e) : a < H.size := (h.at ha).lt
theorem Rp.ge {G : Gw} {M : Mp} {H : Heap} (h : Rp G M H) {a : Nat} {e : va_E} (ha : M a = some e) : G.2.2 ≤ a := by
  obtain ⟨-, ws, hP, hD, hM⟩ := h
  obtain ⟨k, hk⟩ := hM a e ha
  exact hD.2 k _ hk
theorem Rp.none {G : Gw} {M : Mp} {H : Heap} (h : Rp G M H) {a : Nat} (ha : H.size ≤ a) : M a = none := by
  cases hm : M a with
  | none => rfl
  | some e => exact absurd (h.lt hm) (by omega)
theorem Rp.to {G : Gw} {M M1 : Mp} {H : Heap} (h : Rp G M H) (hm : ∀ (a : Nat) (e : va_E), M1 a = some e → M a = some e) : Rp G M1 H := by
  obtain ⟨h0, ws, hP, hD, hM⟩ := h
  exact ⟨h0, ws, hP, hD, fun a e ha => hM a e (hm a e ha)⟩
theorem Rp.kept {G : Gw} {M : Mp} {H H1 : Heap} (h : Rp G M H) (hz : H.size ≤ H1.size) (hk : ∀ q : Nat, q < H.size → H1[q]? = H[q]?) : Rp G M H1 := by
  obtain ⟨h0, ws, hP, hD, hM⟩ := h
  exact ⟨Nat.le_trans h0 hz, ws, hP.kept (fun k q hq => hk q.1 (hP k q hq).lt), hD, hM⟩
theorem mu_set {M : Mp} {ws : va_W} {a q0 : Nat} {e0 e2 : va_E} (hM : ∀ (a : Nat) (e : va_E), M a = some e → ∃ k : Nat, ws[k]? = some (a, e)) (he : ws[q0]? = some (a, e0)) : ∀ (b : Nat) (e : va_E), mu M a e2 b = some e → ∃ k : Nat, (ws.set q0 (a, e2))[k]? = some (b, e) := by
  have hl := (List.getElem?_eq_some_iff.mp he).1
  intro b e hb
  by_cases h : b = a
  · subst h
    rw [mu_eq] at hb
    cases hb
    exact ⟨q0, List.getElem?_set_self hl⟩
  · rw [mu_ne h] at hb
    obtain ⟨k, hk⟩ := hM b e hb
    refine ⟨k, ?_⟩
    rw [List.getElem?_set_ne]
    · exact hk
    · intro q
      subst q
      rw [he] at hk
      cases hk
      exact h rfl
theorem mu_push {M : Mp} {ws : va_W} {a : Nat} {e2 : va_E} (hM : ∀ (a : Nat) (e : va_E), M a = some e → ∃ k : Nat, ws[k]? = some (a, e)) : ∀ (b : Nat) (e : va_E), mu M a e2 b = some e → ∃ k : Nat, (ws ++ [(a, e2)])[k]? = some (b, e) := by
  intro b e hb
  by_cases h : b = a
  · subst h
    rw [mu_eq] at hb
    cases hb
    exact ⟨ws.length, by simp⟩
  · rw [mu_ne h] at hb
    obtain ⟨k, hk⟩ := hM b e hb
    have hl := (List.getElem?_eq_some_iff.mp hk).1
    exact ⟨k, by rw [List.getElem?_append_left hl]; exact hk⟩
/-- two arrays that agree below their length are one cell -/
theorem Rp.arr {G : Gw} {M : Mp} {H : Heap} (h : Rp G M H) {a : Nat} {e e1 : va_E} (ha : M a = some e) (he : ∀ H : Heap, va_at G.1 vwCl (a, e) H → va_at G.1 vwCl (a, e1) H) : Rp G (mu M a e1) H := by
  obtain ⟨h0, ws, hP, hD, hM⟩ := h
  obtain ⟨k, hk⟩ := hM a e ha
  exact ⟨h0, ws.set k (a, e1), hP.set hD hk (he H (hP k _ hk)) (fun _ _ => rfl), hD.set hk, mu_set hM hk⟩
