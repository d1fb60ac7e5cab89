/-! loads and stores at an index that is a number; booleans; constants -/
def c05 : UInt64 := 4602678819172646912
def cm05 : UInt64 := 13826050856027422720
def c075 : UInt64 := 4604930618986332160
def c80 : UInt64 := 4635329916471083008
def c8 : UInt64 := 4620693217682128896
def c0125 : UInt64 := 4593671619917905920
/-- a truth as an int -/
def bI (P : Prop) [Decidable P] : Int32 := if P then 1 else 0
theorem bI_t {P : Prop} [Decidable P] (h : P) : bI P = 1 := if_pos h
theorem bI_f {P : Prop} [Decidable P] (h : ¬ P) : bI P = 0 := if_neg h
theorem b_0 {P : Prop} [Decidable P] (h : bI P = 0) : ¬ P := by
  intro q
  rw [bI_t q] at h
  exact absurd h (by decide)
theorem b_n0 {P : Prop} [Decidable P] (h : ¬ bI P = 0) : P := by
  by_cases q : P
  · exact q
  · exact absurd (bI_f q) h
theorem bI_nar {P : Prop} [Decidable P] : narrow .boolean (.int (bI P)) = .int (bI P) := by
  by_cases q : P
  · rw [bI_t q]; rfl
  · rw [bI_f q]; rfl
theorem bI_congr {P P1 : Prop} [Decidable P] [Decidable P1] (h : P ↔ P1) : bI P = bI P1 := by
  by_cases q : P
  · rw [bI_t q, bI_t (h.mp q)]
  · rw [bI_f q, bI_f (fun z => q (h.mpr z))]
section RIX
variable {p : Program} {l : Launch} {e : Env} {R : Room} {s : State} {m : MethodId} {args : Array Value} {below : List Frame} {meth : Method} {c : Code} {H : Heap} {locs : List Loc} {cells slots : Nat} {Q : State → Prop}
variable {cc : ByteArray} {pc : Nat} {ls : Array Slot} {rest : List Value} {G : Gw} {M : Mp} {a : Nat} {H0 : Heap}
theorem r_iald (hexec : p.tables.exec = Jvm.exec) (hb : c.code = cc) (hT : Wt G s) (hR : Rp G M H) {n : Nat} {f : Nat → Int32} (ha : M a = some (aI G n f)) {i : Int32} {j : Nat} (hi : i = nI j) (hj : j < n) (hn : n < 2 ^ 31) (hdg : decode cc pc = .ok (.iaload, 1))
    (kk : W p l e R s m args below meth c H locs cells slots Q (F0 m (pc + 1) ls (.int (f j) :: rest))) : W p l e R s m args below meth c H locs cells slots Q (F0 m pc ls (.int i :: .ref a :: rest)) := by
  subst hi
  refine va_iald hexec hb hT.1 (hR.one ha) 0 0 rfl rfl (vp_in_nI hj hn) hdg ?_
  rw [nI_clamp (by omega)]
  exact kk
theorem r_dald (hexec : p.tables.exec = Jvm.exec) (hb : c.code = cc) (hT : Wt G s) (hR : Rp G M H) {n : Nat} {f : Nat → UInt64} (ha : M a = some (aD G n f)) {i : Int32} {j : Nat} (hi : i = nI j) (hj : j < n) (hn : n < 2 ^ 31) (hdg : decode cc pc = .ok (.daload, 1))
    (kk : W p l e R s m args below meth c H locs cells slots Q (F0 m (pc + 1) ls (.double (f j) :: rest))) : W p l e R s m args below meth c H locs cells slots Q (F0 m pc ls (.int i :: .ref a :: rest)) := by
  subst hi
  refine va_dald hexec hb hT.1 (hR.one ha) 0 1 rfl rfl (vp_in_nI hj hn) hdg ?_
  rw [nI_clamp (by omega)]
  exact kk
theorem r_lald (hexec : p.tables.exec = Jvm.exec) (hb : c.code = cc) (hT : Wt G s) (hR : Rp G M H) {n : Nat} {f : Nat → Int64} (ha : M a = some (aJ G n f)) {i : Int32} {j : Nat} (hi : i = nI j) (hj : j < n) (hn : n < 2 ^ 31) (hdg : decode cc pc = .ok (.laload, 1))
    (kk : W p l e R s m args below meth c H locs cells slots Q (F0 m (pc + 1) ls (.long (f j) :: rest))) : W p l e R s m args below meth c H locs cells slots Q (F0 m pc ls (.int i :: .ref a :: rest)) := by
  subst hi
  refine va_lald hexec hb hT.1 (hR.one ha) 0 2 rfl rfl (vp_in_nI hj hn) hdg ?_
  rw [nI_clamp (by omega)]
  exact kk
theorem r_aald (hexec : p.tables.exec = Jvm.exec) (hb : c.code = cc) (hT : Wt G s) (t : Nat) {E : String} (ht : (tysOf G)[t]? = some (G.2.1 t, .object E)) (hR : Rp G M H) {n : Nat} {f : Nat → Option Nat} (ha : M a = some (.inl (G.2.1 t, n, .inr (.inr (.inr (.inr f)))))) {i : Int32} {j : Nat} (hi : i = nI j) (hj : j < n) (hn : n < 2 ^ 31) {y : Nat} (hy : f j = some y) (hdg : decode cc pc = .ok (.aaload, 1))
    (kk : W p l e R s m args below meth c H locs cells slots Q (F0 m (pc + 1) ls (.ref y :: rest))) : W p l e R s m args below meth c H locs cells slots Q (F0 m pc ls (.int i :: .ref a :: rest)) := by
  subst hi
  refine va_aldq hexec hb hT.1 (hR.one ha) 0 t rfl ht (vp_in_nI hj hn) hdg ?_
  rw [nI_clamp (by omega), hy]
  exact kk
theorem r_iastj (hexec : p.tables.exec = Jvm.exec) (hb : c.code = cc) (hT : Wt G s) (hR : Rp G M H) (hS : va_S (Af G) H0 H locs) {n : Nat} {f : Nat → Int32} (ha : M a = some (aI G n f)) {i : Int32} {x : Int32} {j : Nat} (hi : i = nI j) (hj : j < n) (hn : n < 2 ^ 31) (hdg : decode cc pc = .ok (.iastore, 1))
    (kk : ∀ (H1 : Heap) (locs1 : List Loc), H1.size = H.size → Rp G (mu M a (aI G n (upd f j x))) H1 → va_S (Af G) H0 H1 locs1 → W p l e R s m args below meth c H1 locs1 cells slots Q (F0 m (pc + 1) ls rest)) : W p l e R s m args below meth c H locs cells slots Q (F0 m pc ls (.int x :: .int i :: .ref a :: rest)) := by
  subst hi
  refine r_iast hexec hb hT hR hS ha (vp_in_nI hj hn) hdg ?_
  rw [nI_clamp (by omega)]
  exact kk
theorem r_dastj (hexec : p.tables.exec = Jvm.exec) (hb : c.code = cc) (hT : Wt G s) (hR : Rp G M H) (hS : va_S (Af G) H0 H locs) {n : Nat} {f : Nat → UInt64} (ha : M a = some (aD G n f)) {i : Int32} {x : UInt64} {j : Nat} (hi : i = nI j) (hj : j < n) (hn : n < 2 ^ 31) (hdg : decode cc pc = .ok (.dastore, 1))
    (kk : ∀ (H1 : Heap) (locs1 : List Loc), H1.size = H.size → Rp G (mu M a (aD G n (vf_upd f j x))) H1 → va_S (Af G) H0 H1 locs1 → W p l e R s m args below meth c H1 locs1 cells slots Q (F0 m (pc + 1) ls rest)) : W p l e R s m args below meth c H locs cells slots Q (F0 m pc ls (.double x :: .int i :: .ref a :: rest)) := by
  subst hi
  refine r_dast hexec hb hT hR hS ha (vp_in_nI hj hn) hdg ?_
  rw [nI_clamp (by omega)]
  exact kk
theorem r_lastj (hexec : p.tables.exec = Jvm.exec) (hb : c.code = cc) (hT : Wt G s) (hR : Rp G M H) (hS : va_S (Af G) H0 H locs) {n : Nat} {f : Nat → Int64} (ha : M a = some (aJ G n f)) {i : Int32} {x : Int64} {j : Nat} (hi : i = nI j) (hj : j < n) (hn : n < 2 ^ 31) (hdg : decode cc pc = .ok (.lastore, 1))
    (kk : ∀ (H1 : Heap) (locs1 : List Loc), H1.size = H.size → Rp G (mu M a (aJ G n (vp_updL f j x))) H1 → va_S (Af G) H0 H1 locs1 → W p l e R s m args below meth c H1 locs1 cells slots Q (F0 m (pc + 1) ls rest)) : W p l e R s m args below meth c H locs cells slots Q (F0 m pc ls (.long x :: .int i :: .ref a :: rest)) := by
  subst hi
  refine r_last hexec hb hT hR hS ha (vp_in_nI hj hn) hdg ?_
  rw [nI_clamp (by omega)]
  exact kk
theorem r_aastj (hexec : p.tables.exec = Jvm.exec) (hb : c.code = cc) (hT : Wt G s) (hR : Rp G M H) (hS : va_S (Af G) H0 H locs) (t : Nat) {E : String} (ht : (tysOf G)[t]? = some (G.2.1 t, .object E)) {n : Nat} {f : Nat → Option Nat} (ha : M a = some (.inl (G.2.1 t, n, .inr (.inr (.inr (.inr f)))))) {v : Nat} (hr : va_Any E s H v) {i : Int32} {j : Nat} (hi : i = nI j) (hj : j < n) (hn : n < 2 ^ 31) (hdg : decode cc pc = .ok (.aastore, 1))
    (kk : ∀ (H1 : Heap) (locs1 : List Loc), H1.size = H.size → Rp G (mu M a (.inl (G.2.1 t, n, .inr (.inr (.inr (.inr (va_up f j (some v)))))))) H1 → va_S (Af G) H0 H1 locs1 → W p l e R s m args below meth c H1 locs1 cells slots Q (F0 m (pc + 1) ls rest)) : W p l e R s m args below meth c H locs cells slots Q (F0 m pc ls (.ref v :: .int i :: .ref a :: rest)) := by
  subst hi
  refine r_aast hexec hb hT hR hS t ht ha hr (vp_in_nI hj hn) hdg ?_
  rw [nI_clamp (by omega)]
  exact kk
theorem r_aastjN (hexec : p.tables.exec = Jvm.exec) (hb : c.code = cc) (hT : Wt G s) (hR : Rp G M H) (hS : va_S (Af G) H0 H locs) {n : Nat} {f : Nat → Option Nat} (ha : M a = some (aO G n f)) {i : Int32} {j : Nat} (hi : i = nI j) (hj : j < n) (hn : n < 2 ^ 31) (hdg : decode cc pc = .ok (.aastore, 1))
    (kk : ∀ (H1 : Heap) (locs1 : List Loc), H1.size = H.size → Rp G (mu M a (aO G n (va_up f j none))) H1 → va_S (Af G) H0 H1 locs1 → W p l e R s m args below meth c H1 locs1 cells slots Q (F0 m (pc + 1) ls rest)) : W p l e R s m args below meth c H locs cells slots Q (F0 m pc ls (.null :: .int i :: .ref a :: rest)) := by
  subst hi
  refine r_aastN hexec hb hT hR hS ha (vp_in_nI hj hn) hdg ?_
  rw [nI_clamp (by omega)]
  exact kk
/-- System.arraycopy within one array of objects -/
theorem r_copy (hexec : p.tables.exec = Jvm.exec) (hb : c.code = cc) (hml : c.maxLocals = ls.size) {own : String} {index : Nat} (hown : s.vm.findClass own = some m.cls) (hlink : (Cond.methodLink own index arraycopyName).before args s = true) (hnat : (Cond.native arraycopyName).before args s = true) (hstat : (Cond.static arraycopyName).before args s = true) (hini : (Cond.initialized "java/lang/System").before args s = true)
    (hT : Wt G s) (hR : Rp G M H) (hS : va_S (Af G) s.heap H locs) {k : Nat} {f : Nat → Option Nat} (ha : M a = some (aO G k f)) {sp dp n : Int32} {i0 j0 n0 : Nat} (h1 : sp = nI i0) (h2 : dp = nI j0) (h3 : n = nI n0) (h4 : i0 + n0 ≤ k) (h5 : j0 + n0 ≤ k) (hk : k < 2 ^ 31) (hel : ∀ i : Nat, i < n0 → ∀ y : Nat, f (i0 + i) = some y → va_Any "java/lang/Object" s H y)
    (hframes : 1 ≤ R.frames) (hlocals : (rest.map fun v => v.category).sum + (nativeFrameWords "java/lang/System" "arraycopy" 5 + 11) ≤ R.locals) (hdg : decode cc pc = .ok (.invokestatic index, 3))
    (kk : ∀ (H1 : Heap) (locs1 : List Loc), Rp G (mu M a (aO G k (va_cpy f f i0 j0 n0))) H1 → va_S (Af G) s.heap H1 locs1 → W p l e R s m args below meth c H1 locs1 cells slots Q (F0 m (pc + 3) ls rest)) : W p l e R s m args below meth c H locs cells slots Q (F0 m pc ls (.int n :: .int dp :: .ref a :: .int sp :: .ref a :: rest)) := by
  subst h1; subst h2; subst h3
  have hR0 := hR
  obtain ⟨h0, ws, hP, hD, hM⟩ := hR
  obtain ⟨q0, he⟩ := hM _ _ ha
  have hl : a < H.size := hR0.lt ha
  intro T hTh X
  refine va_copyM hexec hb hml hown hlink hnat hstat hini hT.1 hP hD hS q0 q0 5 5 he he rfl rfl (nI_pos (by omega)) (nI_pos (by omega)) (nI_pos (by omega)) (by rw [nI_clamp (by omega), nI_clamp (by omega)]; exact h4) (by rw [nI_clamp (by omega), nI_clamp (by omega)]; exact h5) (by
      intro i hi y hy
      rw [nI_clamp (by omega)] at hi hy
      exact hel i hi y hy) hframes hlocals hdg (fun H1 locs1 hP1 hD1 hS1 => ?_) T hTh X
  rw [nI_clamp (by omega), nI_clamp (by omega), nI_clamp (by omega)] at hP1 hD1
  have hget := List.getElem?_set_self (a := (a, aO G k (va_cpy f f i0 j0 n0))) (List.getElem?_eq_some_iff.mp he).1
  exact kk H1 locs1 ⟨Nat.le_of_lt (Nat.lt_of_le_of_lt (hD1.2 q0 _ hget) (hP1 q0 _ hget).lt), _, hP1, hD1, mu_set hM he⟩ hS1
end RIX
/-- an object of ours is one of its own class's -/
theorem Wt.anyS {G : Gw} {M : Mp} {s : State} {H : Heap} {b ci : Nat} {fs : List Value} {r : vw_C} (hT : Wt G s) (hR : Rp G M H) (ha : M b = some (.inr (ci, fs))) (hc : vwCl[ci]? = some r) : va_Any r.1 s H b := by
  refine va_rAny (E := r.1) (q0 := 0) hT.1 (hR.one ha) rfl hc (fun comp c0 h1 h2 => ?_)
  cases h1.symm.trans h2
  have h3 := hT.cls hc
  cases h1.symm.trans h3.1
  exact va_assign h3
theorem f_ws {own : String} {idx : Nat} {C : String} {x y : MethodName} {b : ByteArray} {L : Nat} {r : Option FieldType} (h1 : Cond.methodLink own idx x ∈ lw_all) (h2 : Cond.selects C x y ∈ lw_all) (h3 : Cond.instanceMethod y ∈ lw_all) (h4 : Cond.initialized y.cls ∈ lw_all) (h5 : Cond.code y b L r ∈ lw_all) : GoodIn lw_all (va_wsF own idx C x y (ws_ y b L r)) := by
  refine lw_app ?_ (lw_meth h5)
  intro w hw
  simp only [List.mem_cons, List.not_mem_nil, or_false] at hw
  rcases hw with e | e | e | e
  · rw [e]; exact h1
  · rw [e]; exact h2
  · rw [e]; exact h3
  · rw [e]; exact h4
