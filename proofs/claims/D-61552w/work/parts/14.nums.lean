/-! numbers -/
def ix (v : Int32) : Nat := v.toNatClampNeg
/-- v is a whole number from 0 to n -/
def nb (v : Int32) (n : Nat) : Prop := v = nI (ix v) ∧ ix v ≤ n
theorem ix_nI {n : Nat} (h : n < 2 ^ 31) : ix (nI n) = n := nI_clamp h
theorem nb_nI {n k : Nat} (h : n < 2 ^ 31) (hk : n ≤ k) : nb (nI n) k := by
  unfold nb
  rw [ix_nI h]
  exact ⟨rfl, hk⟩
abbrev outP (v h : Int32) : Prop := v < 0 ∨ ¬ v ≤ h
abbrev leG (x y : UInt64) : Prop := Op.cmpValue (FP.dcmp x y) .g ≤ 0
abbrev leL (x y : UInt64) : Prop := Op.cmpValue (FP.dcmp x y) .l ≤ 0
theorem outP_nb {v : Int32} (n : Nat) (hn : n < 2 ^ 31) (h : ¬ outP v (nI n)) : nb v n := by
  have h1 : ¬ v < 0 := fun q => h (Or.inl q)
  have h2 : v ≤ nI n := Classical.not_not.mp (fun q => h (Or.inr q))
  obtain ⟨j, hj, rfl⟩ := nI_of h1
  exact nb_nI hj ((nI_leI hj hn).mp h2)
theorem nb_outP {v : Int32} {n : Nat} (hn : n < 2 ^ 31) (h : nb v n) : ¬ outP v (nI n) := by
  obtain ⟨h1, h2⟩ := h
  intro q
  rcases q with q | q
  · rw [h1] at q
    exact nI_pos (by omega) q
  · rw [h1] at q
    exact q (nI_le h2 hn)
theorem addN {x y : Int32} {a b : Nat} (hx : x = nI a) (hy : y = nI b) : x + y = nI (a + b) := by rw [hx, hy, nI_add]
theorem mulN {x y : Int32} {a b : Nat} (hx : x = nI a) (hy : y = nI b) : x * y = nI (a * b) := by rw [hx, hy, pk_mul]
theorem subN {x y : Int32} {a b : Nat} (hx : x = nI a) (hy : y = nI b) (h : b ≤ a) : x - y = nI (a - b) := by rw [hx, hy, pk_sub h]
theorem divN {x y : Int32} {a b : Nat} (hx : x = nI a) (hy : y = nI b) (ha : a < 2 ^ 31) (h0 : 0 < b) (hb : b < 2 ^ 31) : x / y = nI (a / b) := by rw [hx, hy, pk_div ha h0 hb]
theorem leN {x y : Int32} {a b : Nat} (hx : x = nI a) (hy : y = nI b) (ha : a < 2 ^ 31) (hb : b < 2 ^ 31) : x ≤ y ↔ a ≤ b := by rw [hx, hy]; exact nI_leI ha hb
theorem ltN {x y : Int32} {a b : Nat} (hx : x = nI a) (hy : y = nI b) (ha : a < 2 ^ 31) (hb : b < 2 ^ 31) : x < y ↔ a < b := by rw [hx, hy]; exact nI_ltI ha hb
theorem eqN {x y : Int32} {a b : Nat} (hx : x = nI a) (hy : y = nI b) (ha : a < 2 ^ 31) (hb : b < 2 ^ 31) : x = y ↔ a = b := by rw [hx, hy]; exact nI_eq ha hb
def it {α : Type} (f : Nat → α → α) : Nat → α → α
  | 0, x => x
  | k + 1, x => f k (it f k x)
theorem it_next {α : Type} {f : Nat → α → α} {k : Nat} {x0 x x1 : α} (h : x = it f k x0) (h1 : f k x = x1) : x1 = it f (k + 1) x0 := by
  rw [← h1, h]; rfl
