/-! WHAT THE TABLES SAY ALL THROUGH THE RUN (Wt), a contract's start (Wd) and ends (Qg: a new map; Qp: nothing changed) -/
def nwOk (w : Cond) : Bool := match w with
  | .fieldLinkNest .. => true
  | .methodLinkNest .. => true
  | .castable .. => true
  | .declares _ => true
  | .arrayOver (.object _) => true
  | _ => false
theorem nw_warm {w : Cond} (h : nwOk w = true) {s U : State} (hW : s.WarmedH U.vm) (hZ : va_Nw w s) : va_Nw w U := by
  unfold nwOk at h
  split at h
  · exact hZ.warmF hW
  · exact hZ.warmM hW
  · exact hZ.warmC hW
  · exact hZ.warmD hW
  · exact va_AO.moved hW.alike hZ
  · cases h
def ncL : List (String × String) := [("CablePlant$Off", "CablePlant$Seeking"), ("CablePlant$Off", "CablePlant$Ready"), ("CablePlant$Seeking", "CablePlant$Off"), ("CablePlant$Seeking", "CablePlant$Ready"), ("CablePlant$Ready", "CablePlant$Off"), ("CablePlant$Ready", "CablePlant$Seeking"), ("java/lang/IllegalStateException", "java/lang/IllegalArgumentException"), ("java/lang/UnsupportedOperationException", "java/lang/IllegalArgumentException"), ("java/lang/UnsupportedOperationException", "java/lang/IllegalStateException")]
def xHasNext : MethodName := ⟨"java/util/Iterator", "hasNext", "()Z"⟩
def xNext : MethodName := ⟨"java/util/Iterator", "next", "()Ljava/lang/Object;"⟩
def stL : List (String × String) := [("UNASSIGNED_STACK", "[Ljava/lang/StackTraceElement;"), ("SUPPRESSED_SENTINEL", "Ljava/util/List;")]
def Wt (G : Gw) (U : State) : Prop := va_K G.1 vwCl (tysOf G) U ∧ (∀ w ∈ lw_tbl, nwOk w = true → va_Nw w U) ∧ (va_Fw RJ18 xHasNext yJ18_hasNext U ∧ va_Fw RJ18 xNext yJ18_next U) ∧ (∀ q ∈ ncL, va_Nc q.1 q.2 U) ∧ ∀ q ∈ stL, ∃ v : Value, v.isRef = true ∧ va_Z "java/lang/Throwable" q.1 q.2 v (Af G) U U.heap
theorem Wt.moved {G : Gw} {s U : State} (hW : s.WarmedH U.vm) (hk : ∀ q : Nat, q < s.heap.size → ¬ Af G q → U.heap[q]? = s.heap[q]?) (h : Wt G s) : Wt G U := by
  obtain ⟨h1, h2, ⟨h3, h4⟩, h5, h6⟩ := h
  refine ⟨va_K.moved hW.alike h1, fun w hw hn => nw_warm hn hW (h2 w hw hn), ⟨h3.moved (by decide) hW.alike, h4.moved (by decide) hW.alike⟩, fun q hq => (h5 q hq).moved hW.alike, fun q hq => ?_⟩
  obtain ⟨v, hv, hz⟩ := h6 q hq
  exact ⟨v, hv, (hz.moved hW.alike).kept hk⟩
theorem Wt.k {G : Gw} {U : State} (h : Wt G U) : va_K G.1 vwCl (tysOf G) U := h.1
theorem Wt.nw {G : Gw} {U : State} (h : Wt G U) {w : Cond} (hw : w ∈ lw_tbl) (hn : nwOk w = true) : va_Nw w U := h.2.1 w hw hn
theorem Wt.nc {G : Gw} {U : State} (h : Wt G U) {A B : String} (hq : (A, B) ∈ ncL) : va_Nc A B U := h.2.2.2.1 _ hq
def Wd (G : Gw) (M : Mp) (sz : Nat) (U : State) : Prop := Wt G U ∧ Rp G M U.heap ∧ U.heap.size = sz
theorem Wd.blind {G : Gw} {M : Mp} {sz : Nat} {av : List Value} : FrameBlind (va_Pc av (Wd G M sz)) := by
  intro a U g mk ⟨h1, h2, h3, h4⟩
  exact ⟨h1, Wt.moved (s := U) (U := U.calling g mk a) (State.WarmedH.refl U) (fun _ _ _ => rfl) h2, h3, h4⟩
theorem Wd.of {G : Gw} {M : Mp} {s U : State} {H : Heap} {locs : List Loc} (hT : Wt G s) (hR : Rp G M H) (hS : va_S (Af G) s.heap H locs) (hU : U.heap = H) (hW : s.WarmedH U.vm) : Wd G M H.size U :=
  ⟨Wt.moved hW (fun q h1 h2 => by rw [hU]; exact hS.2.1 q h1 h2) hT, by rw [hU]; exact hR, by rw [hU]⟩
theorem preS {G : Gw} {M : Mp} {s : State} {H : Heap} {locs : List Loc} {As : List Value} (hT : Wt G s) (hR : Rp G M H) (hS : va_S (Af G) s.heap H locs) : PreS s H (va_Pc As (Wd G M H.size)) As :=
  ⟨Wd.blind, fun _ hU hW => ⟨rfl, Wd.of hT hR hS hU hW⟩⟩
theorem preV {G : Gw} {M : Mp} {s : State} {H : Heap} {locs : List Loc} {As : List Value} {b ci : Nat} {fs : List Value} {r : vw_C} {C : String} (hT : Wt G s) (hR : Rp G M H) (hS : va_S (Af G) s.heap H locs) (ha : M b = some (.inr (ci, fs))) (hc : vwCl[ci]? = some r) (hC : r.1 = C) : PreV s H C b (va_Pc (.ref b :: As) (Wd G M H.size)) As := by
  subst hC
  exact ⟨Wd.blind, va_recv hT.1 (hR.one ha) hc (q0 := 0) rfl, fun _ hU hW => ⟨rfl, Wd.of hT hR hS hU hW⟩⟩
theorem Wt.recv {G : Gw} {M : Mp} {s : State} {H : Heap} {b ci : Nat} {fs : List Value} {r : vw_C} {C : String} (hT : Wt G s) (hR : Rp G M H) (ha : M b = some (.inr (ci, fs))) (hc : vwCl[ci]? = some r) (hC : r.1 = C) : ∃ cell : Cell, H[b]? = some cell ∧ cell.vm.isStatics = false ∧ s.vm.findClass C = some cell.cls := by
  subst hC
  exact va_recv hT.1 (hR.one ha) hc (q0 := 0) rfl
theorem Wt.cls {G : Gw} {s : State} (hT : Wt G s) {ci : Nat} {r : vw_C} (hc : vwCl[ci]? = some r) : ClassAt s r.1 (G.1.1 ci) := (hT.1.1 ci r hc).2
/-- an object of ours is one of Object's -/
theorem Wt.any {G : Gw} {M : Mp} {s : State} {H : Heap} {b ci : Nat} {fs : List Value} {r : vw_C} (hT : Wt G s) (hR : Rp G M H) (ha : M b = some (.inr (ci, fs))) (hc : vwCl[ci]? = some r) (hw : Cond.castable r.1 "java/lang/Object" ∈ lw_tbl) : va_Any "java/lang/Object" s H b := by
  refine va_rAny (E := "java/lang/Object") (q0 := 0) hT.1 (hR.one ha) rfl hc (fun comp c0 h1 h2 => ?_)
  obtain ⟨c1, t1, f1, f2, f3⟩ := Cond.castable_spec (va_Nw.use (A := #[]) rfl (hT.nw hw rfl))
  cases h2.symm.trans f1
  cases h1.symm.trans f2
  exact f3
def Qg (G : Gw) (post : Option Value → Mp → Nat → Prop) : Array Value → State → Outcome → State → Prop := fun _ st oc t => (∃ (v : Option Value) (M' : Mp), oc = .returned v ∧ post v M' t.heap.size ∧ Rp G M' t.heap) ∧ va_F (Af G) st t
def Qp (v0 : Option Value) : Array Value → State → Outcome → State → Prop := fun _ st oc t => oc = .returned v0 ∧ t.heap = st.heap
/-- rooms by levels -/
abbrev rmL (k mc ms : Nat) : Room := { frames := 2 * k, cells := mc, slots := ms, locals := 40 * k }
theorem q_ret {G : Gw} {post : Option Value → Mp → Nat → Prop} {v : Option Value} {M' : Mp} {s : State} {H : Heap} {locs : List Loc} {args : Array Value} (hp : post v M' H.size) (hR : Rp G M' H) (hS : va_S (Af G) s.heap H locs) : ∀ t : State, t.heap = H → s.WarmedH t.vm → Qg G post args s (.returned v) t := by
  intro t ht _
  subst ht
  exact ⟨⟨v, M', rfl, hp, hR⟩, hS.F rfl⟩
/-- a contract: with the map M and a heap of sz cells y returns, post of its answer, the new map, the new size -/
abbrev Ct (l : Launch) (y : MethodName) (b : ByteArray) (L : Nat) (r : Option FieldType) (lv mc ms : Nat) (av : List Value) (G : Gw) (M : Mp) (sz : Nat) (post : Option Value → Mp → Nat → Prop) : Prop :=
  Met l y (ws_ y b L r) (rmL lv mc ms) (va_Pc av (Wd G M sz)) (Qg G post) mc ms (Af G)
/-- the same, nothing changed or made -/
abbrev Cp (l : Launch) (y : MethodName) (b : ByteArray) (L : Nat) (r : Option FieldType) (lv : Nat) (av : List Value) (G : Gw) (M : Mp) (sz : Nat) (v0 : Option Value) : Prop :=
  Met l y (ws_ y b L r) (rmL lv 0 0) (va_Pc av (Wd G M sz)) (Qp v0) 0 0 (fun _ => False)
section GCALL
variable {p : Program} {l : Launch} {e : Env} {R : Room} {s : State} {m : MethodId} {args : Array Value} {below : List Frame} {meth : Method} {c : Code} {H : Heap} {locs : List Loc} {cells slots : Nat} {Q : State → Prop}
variable {pc : Nat} {ls : Array Slot} {rest st0 : List Value} {a : Array Value} {H0 : Heap} {mc ms : Nat} {G : Gw} {post : Option Value → Mp → Nat → Prop} {v0 : Option Value}
theorem g_call (hr : va_Run p l e R s m args below meth c H locs cells slots mc ms (F0 m pc ls st0) rest (Qg G post a) (Af G)) (hS : va_S (Af G) H0 H locs)
    (kk : ∀ (v : Option Value) (M' : Mp) (H1 : Heap) (locs1 : List Loc), post v M' H1.size → Rp G M' H1 → H.size ≤ H1.size → va_S (Af G) H0 H1 locs1 → W p l e R s m args below meth c H1 locs1 (cells + mc) (slots + ms) Q (F0 m (pc + 3) ls (v.toList ++ rest))) : W p l e R s m args below meth c H locs cells slots Q (F0 m pc ls st0) := by
  intro T hT X
  obtain ⟨v, st₀, t, T', L, h0, X', hL, e1, e2, ⟨⟨v', M', hv, hp, hR⟩, hz, hk⟩, st⟩ := hr T hT X
  cases hv
  rw [h0] at hz hk
  obtain ⟨t2, a1, b1⟩ := kk v M' T'.heap (locs ++ L) (by rw [e1]; exact hp) (by rw [e1]; exact hR) (by rw [e1]; exact hz)
    ⟨Nat.le_trans hS.1 (by rw [e1]; exact hz), fun q h1 h2 => by rw [e1, hk q (Nat.lt_of_lt_of_le h1 hS.1) h2]; exact hS.2.1 q h1 h2, fun q hq => by
      rcases List.mem_append.mp hq with h | h
      · exact hS.2.2 q h
      · exact hL q h⟩ T' rfl X'
  exact ⟨t2, st t2 a1, b1⟩
theorem g_call5 (hr : va_Run5 p l e R s m args below meth c H locs cells slots mc ms (F0 m pc ls st0) rest (Qg G post a) (Af G)) (hS : va_S (Af G) H0 H locs)
    (kk : ∀ (v : Option Value) (M' : Mp) (H1 : Heap) (locs1 : List Loc), post v M' H1.size → Rp G M' H1 → H.size ≤ H1.size → va_S (Af G) H0 H1 locs1 → W p l e R s m args below meth c H1 locs1 (cells + mc) (slots + ms) Q (F0 m (pc + 5) ls (v.toList ++ rest))) : W p l e R s m args below meth c H locs cells slots Q (F0 m pc ls st0) := by
  intro T hT X
  obtain ⟨v, st₀, t, T', L, h0, X', hL, e1, e2, ⟨⟨v', M', hv, hp, hR⟩, hz, hk⟩, st⟩ := hr T hT X
  cases hv
  rw [h0] at hz hk
  obtain ⟨t2, a1, b1⟩ := kk v M' T'.heap (locs ++ L) (by rw [e1]; exact hp) (by rw [e1]; exact hR) (by rw [e1]; exact hz)
    ⟨Nat.le_trans hS.1 (by rw [e1]; exact hz), fun q h1 h2 => by rw [e1, hk q (Nat.lt_of_lt_of_le h1 hS.1) h2]; exact hS.2.1 q h1 h2, fun q hq => by
      rcases List.mem_append.mp hq with h | h
      · exact hS.2.2 q h
      · exact hL q h⟩ T' rfl X'
  exact ⟨t2, st t2 a1, b1⟩
theorem g_pure (hr : va_Run p l e R s m args below meth c H locs cells slots 0 0 (F0 m pc ls st0) rest (Qp v0 a) (fun _ => False))
    (kk : W p l e R s m args below meth c H locs cells slots Q (F0 m (pc + 3) ls (v0.toList ++ rest))) : W p l e R s m args below meth c H locs cells slots Q (F0 m pc ls st0) := by
  intro T hT X
  obtain ⟨v, st₀, t, T', L, h0, X', hL, e1, e2, ⟨hv, hh⟩, st⟩ := hr T hT X
  cases hv
  obtain ⟨t2, a1, b1⟩ := kk T' (by rw [e1, hh, h0]) (Stand.forget X' (fun q h => (hL q h).elim))
  exact ⟨t2, st t2 a1, b1⟩
theorem g_pure5 (hr : va_Run5 p l e R s m args below meth c H locs cells slots 0 0 (F0 m pc ls st0) rest (Qp v0 a) (fun _ => False))
    (kk : W p l e R s m args below meth c H locs cells slots Q (F0 m (pc + 5) ls (v0.toList ++ rest))) : W p l e R s m args below meth c H locs cells slots Q (F0 m pc ls st0) := by
  intro T hT X
  obtain ⟨v, st₀, t, T', L, h0, X', hL, e1, e2, ⟨hv, hh⟩, st⟩ := hr T hT X
  cases hv
  obtain ⟨t2, a1, b1⟩ := kk T' (by rw [e1, hh, h0]) (Stand.forget X' (fun q h => (hL q h).elim))
  exact ⟨t2, st t2 a1, b1⟩
end GCALL
section RST
variable {p : Program} {l : Launch} {e : Env} {R : Room} {s : State} {m : MethodId} {args : Array Value} {below : List Frame} {meth : Method} {c : Code} {H : Heap} {locs : List Loc} {cells slots : Nat} {Q : State → Prop}
variable {cc : ByteArray} {pc : Nat} {ls : Array Slot} {rest : List Value} {G : Gw} {M : Mp} {a : Nat} {H0 : Heap}
theorem r_put (hexec : p.tables.exec = Jvm.exec) (hb : c.code = cc) {own ref C : String} {T : u_T} {N ci index : Nat} {Ts : List Cond} (hts : ∀ w ∈ Ts, w.before args s = true) (hin : ∀ w ∈ u_ws C T N, w ∈ Ts) (ty0 : Nat → FieldType) (hty : ∀ k, k < N → parseFieldDescriptor (T k).2.2.1 = some (ty0 k)) (hnm : ∀ a, a < N → ∀ b, b < N → a ≠ b → (T a).2.1 ≠ (T b).2.1) (hown : s.vm.findClass own = some m.cls) (hT : Wt G s) (hR : Rp G M H) (hS0 : va_S (Af G) H0 H locs) {fs : List Value} (he : M a = some (.inr (ci, fs))) (hc : vwCl[ci]? = some (C, T, N)) (k : Nat) (hk : k < N) (hlink : (Cond.fieldLink own index ref (T k).2.1 (T k).2.2.1).before args s = true) (hsame : ∀ x, s.fieldFound? (T k).1 (T k).2.1 (T k).2.2.1 = some x → s.fieldFound? ref (T k).2.1 (T k).2.2.1 = some x) (hfin : (T k).2.2.2 = false) {ty : FieldType} {v : Value} (hd : parseFieldDescriptor (T k).2.2.1 = some ty) (hn : narrow ty v = v) (hfit : fits ty v = true) (hl : k < fs.length)
    (hdg : decode cc pc = .ok (.putfield index, 3)) (kk : ∀ (H1 : Heap) (locs1 : List Loc), H1.size = H.size → Rp G (mu M a (.inr (ci, fs.set k v))) H1 → va_S (Af G) H0 H1 locs1 → W p l e R s m args below meth c H1 locs1 cells slots Q (F0 m (pc + 3) ls rest)) : W p l e R s m args below meth c H locs cells slots Q (F0 m pc ls (v :: .ref a :: rest)) := by
  have hap := va_apart (own := own) hts hin ty0 hty hnm hT.1 hc
  obtain ⟨h0, ws, hP, hD, hM⟩ := hR
  obtain ⟨q0, he⟩ := hM _ _ he
  obtain ⟨r, h1, cell, q1, q2, q3, q4⟩ := hP q0 _ he
  have hr : r = (C, T, N) := Option.some.inj (h1.symm.trans hc)
  subst hr
  obtain ⟨hS, hfc, kC, hkC, hkind⟩ := hT.1.1 ci _ hc
  obtain ⟨cf, kf, fi, f, hi, hsl⟩ := hS k hk
  have hlay := hts _ (hin _ (u_in_lay hk))
  unfold u_lay at hlay
  rw [if_neg (by rw [hfin]; decide)] at hlay
  have hst := (u_facts hfc hkC (u_lays hts hin hk) hi).1
  have h6 := u_store hfc hkC hkind hlay hi hd hn hfit
  refine W.putK hexec hb (f := f) ⟨hown, hlink, ⟨_, _, _, hsame _ hi⟩, hst⟩ (by rw [q2]; exact h6) q1 q3 (by rw [hsl]; exact k2_hasslot (q4 k hk)) rfl rfl hdg fun H' e1 e2 e3 => ?_
  rw [hsl] at e1 ⊢
  exact kk H' _ e2 ⟨by rw [e2]; exact h0, _, hP.set (e := .inr (ci, fs.set k v)) hD he ⟨_, hc, t_OB.to (V := updV (vp_V fs) k v) ⟨_, e1, q2, q3, t_set q4 hap hk v⟩ (fun j _ => vp_updV_set hl v j)⟩ e3, hD.set he, mu_set hM he⟩ (hS0.put e2 e3 (hD.2 q0 _ he))
theorem r_putF (hexec : p.tables.exec = Jvm.exec) (hb : c.code = cc) {own ref C : String} {T : u_T} {N ci index : Nat} {Ts : List Cond} (hts : ∀ w ∈ Ts, w.before args s = true) (hin : ∀ w ∈ u_ws C T N, w ∈ Ts) (ty0 : Nat → FieldType) (hty : ∀ k, k < N → parseFieldDescriptor (T k).2.2.1 = some (ty0 k)) (hnm : ∀ a, a < N → ∀ b, b < N → a ≠ b → (T a).2.1 ≠ (T b).2.1) (hown : s.vm.findClass own = some m.cls) (hT : Wt G s) (hR : Rp G M H) (hS0 : va_S (Af G) H0 H locs) {fs : List Value} (he : M a = some (.inr (ci, fs))) (hc : vwCl[ci]? = some (C, T, N)) (k : Nat) (hk : k < N) (hlink : (Cond.fieldLink own index ref (T k).2.1 (T k).2.2.1).before args s = true) (hsame : ∀ x, s.fieldFound? (T k).1 (T k).2.1 (T k).2.2.1 = some x → s.fieldFound? ref (T k).2.1 (T k).2.2.1 = some x) (hfin : (T k).2.2.2 = true) (hin2 : meth.name = "<init>") (hdecl : (T k).1 = own) {ty : FieldType} {v : Value} (hd : parseFieldDescriptor (T k).2.2.1 = some ty) (hn : narrow ty v = v) (hfit : fits ty v = true) (hl : k < fs.length)
    (hdg : decode cc pc = .ok (.putfield index, 3)) (kk : ∀ (H1 : Heap) (locs1 : List Loc), H1.size = H.size → Rp G (mu M a (.inr (ci, fs.set k v))) H1 → va_S (Af G) H0 H1 locs1 → W p l e R s m args below meth c H1 locs1 cells slots Q (F0 m (pc + 3) ls rest)) : W p l e R s m args below meth c H locs cells slots Q (F0 m pc ls (v :: .ref a :: rest)) := by
  have hap := va_apart (own := own) hts hin ty0 hty hnm hT.1 hc
  obtain ⟨h0, ws, hP, hD, hM⟩ := hR
  obtain ⟨q0, he⟩ := hM _ _ he
  obtain ⟨r, h1, cell, q1, q2, q3, q4⟩ := hP q0 _ he
  have hr : r = (C, T, N) := Option.some.inj (h1.symm.trans hc)
  subst hr
  obtain ⟨hS, hfc, kC, hkC, hkind⟩ := hT.1.1 ci _ hc
  obtain ⟨cf, kf, fi, f, hi, hsl⟩ := hS k hk
  have hlay := hts _ (hin _ (u_in_lay hk))
  unfold u_lay at hlay
  rw [if_pos hfin] at hlay
  have hst := (u_facts hfc hkC (u_lays hts hin hk) hi).1
  have hcf : m.cls = cf := by
    obtain ⟨_, _, c', _, _, _, -, -, hf', -, -, -, hown2, -⟩ := Cond.laysFinal_spec hlay
    have e1 : c' = cf := by have := hi.symm.trans hf'; simp at this; exact this.1.symm
    rw [hdecl] at hown2
    rw [← e1]; exact Option.some.inj (hown.symm.trans hown2)
  have h6 := u_fits hfc hkC hkind (Or.inr hlay) hi hd hn hfit
  refine W.putFinK hexec hb hown hlink (hsame _ hi) hst hcf hin2 (by rw [q2]; exact h6) q1 q3 (by rw [hsl]; exact k2_hasslot (q4 k hk)) rfl rfl hdg fun H' e1 e2 e3 => ?_
  rw [hsl] at e1 ⊢
  exact kk H' _ e2 ⟨by rw [e2]; exact h0, _, hP.set (e := .inr (ci, fs.set k v)) hD he ⟨_, hc, t_OB.to (V := updV (vp_V fs) k v) ⟨_, e1, q2, q3, t_set q4 hap hk v⟩ (fun j _ => vp_updV_set hl v j)⟩ e3, hD.set he, mu_set hM he⟩ (hS0.put e2 e3 (hD.2 q0 _ he))
theorem r_arrput {b : Nat} {e0 e1 : va_E} {H1 : Heap} {j : Nat} (hR : Rp G M H) (hS : va_S (Af G) H0 H locs) (he : M b = some e0) (h1 : va_at G.1 vwCl (b, e1) H1) (z : H1.size = H.size) (oq : ∀ q : Nat, q ≠ b → H1[q]? = H[q]?) : Rp G (mu M b e1) H1 ∧ va_S (Af G) H0 H1 (locs ++ [⟨b, j⟩]) := by
  obtain ⟨h0, ws, hP, hD, hM⟩ := hR
  obtain ⟨q0, he⟩ := hM _ _ he
  exact ⟨⟨by rw [z]; exact h0, _, hP.set hD he h1 oq, hD.set he, mu_set hM he⟩, hS.put z oq (hD.2 q0 _ he)⟩
theorem r_iast (hexec : p.tables.exec = Jvm.exec) (hb : c.code = cc) (hT : Wt G s) (hR : Rp G M H) (hS : va_S (Af G) H0 H locs) {n : Nat} {f : Nat → Int32} (ha : M a = some (aI G n f)) {i : Int32} {x : Int32} (hin : vp_in i n) (hdg : decode cc pc = .ok (.iastore, 1))
    (kk : ∀ (H1 : Heap) (locs1 : List Loc), H1.size = H.size → Rp G (mu M a (aI G n (upd f i.toNatClampNeg x))) H1 → va_S (Af G) H0 H1 locs1 → W p l e R s m args below meth c H1 locs1 cells slots Q (F0 m (pc + 1) ls rest)) : W p l e R s m args below meth c H locs cells slots Q (F0 m pc ls (.int x :: .int i :: .ref a :: rest)) := by
  refine W.iast hexec hb (hR.at ha) ((hT.1.2 0 _ rfl).1 n (fun j => .int (f j))) (fun q => by cases q) (by show ¬ (i < 0 ∨ (arrV _ _ _).slots.size ≤ _); rw [arrV_size]; exact hin) rfl rfl hdg fun H1 e z oq => ?_
  have h1 : va_at G.1 vwCl (a, aI G n (upd f i.toNatClampNeg x)) H1 := by
    show H1[a]? = some (vp_cell _ _)
    rw [e]
    rw [vp_cell_i, vp_cell_i, arrV_store]
    congr 2
    funext q
    by_cases hq : q = i.toNatClampNeg
    · subst hq
      simp [updV, upd]
    · simp [updV, upd, hq]
  obtain ⟨g1, g2⟩ := r_arrput (j := i.toNatClampNeg) hR hS ha h1 z oq
  exact kk H1 _ z g1 g2
theorem r_dast (hexec : p.tables.exec = Jvm.exec) (hb : c.code = cc) (hT : Wt G s) (hR : Rp G M H) (hS : va_S (Af G) H0 H locs) {n : Nat} {f : Nat → UInt64} (ha : M a = some (aD G n f)) {i : Int32} {x : UInt64} (hin : vp_in i n) (hdg : decode cc pc = .ok (.dastore, 1))
    (kk : ∀ (H1 : Heap) (locs1 : List Loc), H1.size = H.size → Rp G (mu M a (aD G n (vf_upd f i.toNatClampNeg x))) H1 → va_S (Af G) H0 H1 locs1 → W p l e R s m args below meth c H1 locs1 cells slots Q (F0 m (pc + 1) ls rest)) : W p l e R s m args below meth c H locs cells slots Q (F0 m pc ls (.double x :: .int i :: .ref a :: rest)) := by
  refine W.dast hexec hb (hR.at ha) ((hT.1.2 1 _ rfl).1 n (fun j => .double (f j))) (fun q => by cases q) (by show ¬ (i < 0 ∨ (arrV _ _ _).slots.size ≤ _); rw [arrV_size]; exact hin) rfl rfl hdg fun H1 e z oq => ?_
  have h1 : va_at G.1 vwCl (a, aD G n (vf_upd f i.toNatClampNeg x)) H1 := by
    show H1[a]? = some (vp_cell _ _)
    rw [e]
    rw [vp_cell_d, vp_cell_d, arrV_store]
    congr 2
    funext q
    by_cases hq : q = i.toNatClampNeg
    · subst hq
      simp [updV, vf_upd]
    · simp [updV, vf_upd, hq]
  obtain ⟨g1, g2⟩ := r_arrput (j := i.toNatClampNeg) hR hS ha h1 z oq
  exact kk H1 _ z g1 g2
theorem r_last (hexec : p.tables.exec = Jvm.exec) (hb : c.code = cc) (hT : Wt G s) (hR : Rp G M H) (hS : va_S (Af G) H0 H locs) {n : Nat} {f : Nat → Int64} (ha : M a = some (aJ G n f)) {i : Int32} {x : Int64} (hin : vp_in i n) (hdg : decode cc pc = .ok (.lastore, 1))
    (kk : ∀ (H1 : Heap) (locs1 : List Loc), H1.size = H.size → Rp G (mu M a (aJ G n (vp_updL f i.toNatClampNeg x))) H1 → va_S (Af G) H0 H1 locs1 → W p l e R s m args below meth c H1 locs1 cells slots Q (F0 m (pc + 1) ls rest)) : W p l e R s m args below meth c H locs cells slots Q (F0 m pc ls (.long x :: .int i :: .ref a :: rest)) := by
  refine W.last hexec hb (hR.at ha) ((hT.1.2 2 _ rfl).1 n (fun j => .long (f j))) (fun q => by cases q) (by show ¬ (i < 0 ∨ (arrV _ _ _).slots.size ≤ _); rw [arrV_size]; exact hin) rfl rfl hdg fun H1 e z oq => ?_
  have h1 : va_at G.1 vwCl (a, aJ G n (vp_updL f i.toNatClampNeg x)) H1 := by
    show H1[a]? = some (vp_cell _ _)
    rw [e]
    rw [vp_cell_l, vp_cell_l, arrV_store]
    congr 2
    funext q
    by_cases hq : q = i.toNatClampNeg
    · subst hq
      simp [updV, vp_updL]
    · simp [updV, vp_updL, hq]
  obtain ⟨g1, g2⟩ := r_arrput (j := i.toNatClampNeg) hR hS ha h1 z oq
  exact kk H1 _ z g1 g2
/-- a reference into an array of class number t (3: of modems, 4: of flows, 5: of objects) -/
theorem r_aast (hexec : p.tables.exec = Jvm.exec) (hb : c.code = cc) (hT : Wt G s) (hR : Rp G M H) (hS : va_S (Af G) H0 H locs) (t : Nat) {E : String} (ht : (tysOf G)[t]? = some (G.2.1 t, .object E)) {n : Nat} {f : Nat → Option Nat} (ha : M a = some (.inl (G.2.1 t, n, .inr (.inr (.inr (.inr f)))))) {v : Nat} (hr : va_Any E s H v) {i : Int32} (hin : vp_in i n) (hdg : decode cc pc = .ok (.aastore, 1))
    (kk : ∀ (H1 : Heap) (locs1 : List Loc), H1.size = H.size → Rp G (mu M a (.inl (G.2.1 t, n, .inr (.inr (.inr (.inr (va_up f i.toNatClampNeg (some v)))))))) H1 → va_S (Af G) H0 H1 locs1 → W p l e R s m args below meth c H1 locs1 cells slots Q (F0 m (pc + 1) ls rest)) : W p l e R s m args below meth c H locs cells slots Q (F0 m pc ls (.ref v :: .int i :: .ref a :: rest)) := by
  have hlt : i.toNatClampNeg < n := Nat.not_le.mp fun q => hin (Or.inr q)
  have h0 : ¬ i < 0 := fun q => hin (Or.inl q)
  obtain ⟨cellV, g1, g3, ⟨kC, hkC⟩, hasg⟩ := hr
  obtain ⟨kA, comp, k1, k2, k3, -⟩ := (hT.1.2 t _ ht).2
  obtain ⟨kE, hkE, -⟩ := Vm.findClass_spec k3
  refine W.aast hexec hb (hR.at ha) (fun q h => by cases h) (fun h => by cases h) k1 k2 rfl hkE ⟨h0, by show _ < (arrV _ _ _).slots.size; rw [arrV_size]; exact hlt⟩ g1 (fun q h => by rw [h] at g3; cases g3) hkC (hasg _ k3) rfl rfl hdg fun H1 e z oq => ?_
  have h1 : va_at G.1 vwCl (a, .inl (G.2.1 t, n, .inr (.inr (.inr (.inr (va_up f i.toNatClampNeg (some v))))))) H1 := by
    show H1[a]? = some (vp_cell _ _)
    rw [e]
    rw [vp_cell_q, vp_cell_q, arrV_store]
    congr 2
    funext q
    by_cases hq : q = i.toNatClampNeg
    · subst hq
      simp [updV, va_up, va_rf]
    · simp [updV, va_up, hq]
  obtain ⟨g1, g2⟩ := r_arrput (j := i.toNatClampNeg) hR hS ha h1 z oq
  exact kk H1 _ z g1 g2
theorem r_aastN (hexec : p.tables.exec = Jvm.exec) (hb : c.code = cc) (hT : Wt G s) (hR : Rp G M H) (hS : va_S (Af G) H0 H locs) {n : Nat} {f : Nat → Option Nat} (ha : M a = some (aO G n f)) {i : Int32} (hin : vp_in i n) (hdg : decode cc pc = .ok (.aastore, 1))
    (kk : ∀ (H1 : Heap) (locs1 : List Loc), H1.size = H.size → Rp G (mu M a (aO G n (va_up f i.toNatClampNeg none))) H1 → va_S (Af G) H0 H1 locs1 → W p l e R s m args below meth c H1 locs1 cells slots Q (F0 m (pc + 1) ls rest)) : W p l e R s m args below meth c H locs cells slots Q (F0 m pc ls (.null :: .int i :: .ref a :: rest)) := by
  refine va_WaastN (C := "java/lang/Object") hexec hb (hR.at ha) ((hT.1.2 5 _ rfl).1 n (fun j => va_rf (f j))) (fun h => by cases h) (by show ¬ (i < 0 ∨ (arrV _ _ _).slots.size ≤ _); rw [arrV_size]; exact hin) rfl rfl hdg fun H1 e z oq => ?_
  have h1 : va_at G.1 vwCl (a, aO G n (va_up f i.toNatClampNeg none)) H1 := by
    show H1[a]? = some (vp_cell _ _)
    rw [e]
    rw [vp_cell_q, vp_cell_q, arrV_store]
    congr 2
    funext q
    by_cases hq : q = i.toNatClampNeg
    · subst hq
      simp [updV, va_up, va_rf]
    · simp [updV, va_up, hq]
  obtain ⟨g1, g2⟩ := r_arrput (j := i.toNatClampNeg) hR hS ha h1 z oq
  exact kk H1 _ z g1 g2
theorem Rp.born {H1 : Heap} {e2 : va_E} (hR : Rp G M H) (e1 : va_at G.1 vwCl (H.size, e2) H1) (z1 : H1.size = H.size + 1) (o1 : ∀ q : Nat, q < H.size → H1[q]? = H[q]?) : Rp G (mu M H.size e2) H1 := by
  obtain ⟨h0, ws, hP, hD, hM⟩ := hR
  have hk : ∀ (k : Nat) (x : Nat × va_E), ws[k]? = some x → H1[x.1]? = H[x.1]? := fun k x hx => o1 x.1 ((hP k x hx).lt)
  refine ⟨by omega, ws ++ [(H.size, e2)], (hP.kept hk).app (fun k x hx => ?_), hD.push hP rfl h0, mu_push hM⟩
  have hz : k < 1 := (List.getElem?_eq_some_iff.mp hx).1
  rw [show k = 0 by omega] at hx
  cases hx
  exact e1
theorem r_S {H1 : Heap} (hS : va_S (Af G) H0 H locs) (z1 : H1.size = H.size + 1) (o1 : ∀ q : Nat, q < H.size → H1[q]? = H[q]?) : va_S (Af G) H0 H1 locs :=
  ⟨Nat.le_trans hS.1 (by omega), fun x h1 h2 => (o1 x (Nat.lt_of_lt_of_le h1 hS.1)).trans (hS.2.1 x h1 h2), hS.2.2⟩
theorem r_new (hexec : p.tables.exec = Jvm.exec) (hb : c.code = cc) {own C : String} {T : u_T} {N ci index : Nat} {Ts : List Cond} (hts : ∀ w ∈ Ts, w.before args s = true) (hin : ∀ w ∈ u_ws C T N, w ∈ Ts) (ty : Nat → FieldType) (hty : ∀ k, k < N → parseFieldDescriptor (T k).2.2.1 = some (ty k)) (hown : s.vm.findClass own = some m.cls) (hcl : (Cond.classLink own index C).before args s = true) (hinst : (Cond.instantiable C N).before args s = true) (hini : (Cond.initialized C).before args s = true)
    (hT : Wt G s) (hR : Rp G M H) (hS : va_S (Af G) H0 H locs) (hc : vwCl[ci]? = some (C, T, N)) {fs : List Value} (hfs : ∀ j, j < N → defaultValue (ty j) = vp_V fs j) (hcells : cells + 1 ≤ R.cells) (hslots : slots + N ≤ R.slots) (hdg : decode cc pc = .ok (.new index, 3))
    (kk : ∀ (q : Nat) (H1 : Heap), q = H.size → H1.size = q + 1 → M q = none → Rp G (mu M q (.inr (ci, fs))) H1 → va_S (Af G) H0 H1 locs →
      W p l e R s m args below meth c H1 locs (cells + 1) (slots + N) Q (F0 m (pc + 3) ls (.ref q :: rest))) : W p l e R s m args below meth c H locs cells slots Q (F0 m pc ls rest) := by
  have hKn := hT.1.1 ci _ hc
  refine W.newcK hexec hb hown hcl hinst hini rfl hdg hcells hslots hKn.2.1 rfl fun H1 kC hkC e1 z1 o1 => ?_
  exact kk H.size H1 rfl z1 (hR.none (Nat.le_refl _)) (hR.born ⟨_, hc, (u_born ty hts hin hKn hkC e1 hty).to hfs⟩ z1 o1) (r_S hS z1 o1)
theorem r_newa (hexec : p.tables.exec = Jvm.exec) (hb : c.code = cc) {atype : ArrayType} (harr : (Cond.arrayClass (newarray.typeOf atype)).before args s = true) {ty : FieldType} (hty : newarray.typeOf atype = ty) (t : Nat) (hT : Wt G s) (ht : (tysOf G)[t]? = some (G.2.1 t, ty)) (hno : ∀ n, ty ≠ .object n) (hR : Rp G M H) (hS : va_S (Af G) H0 H locs)
    {n : Int32} {N' : Nat} {a0 : vp_A} (ha : ∀ cA : ClassId, vp_cell cA a0 = arrV cA N' (fun _ => defaultValue ty)) (hn : ¬ n < 0) (hN : n.toNatClampNeg = N') (hbytes : N' * componentBytes ty ≤ 536870912) (hcells : cells + 1 ≤ R.cells) (hslots : slots + N' ≤ R.slots) (hdg : decode cc pc = .ok (.newarray atype, 2))
    (kk : ∀ (q : Nat) (H1 : Heap), q = H.size → H1.size = q + 1 → M q = none → Rp G (mu M q (.inl (G.2.1 t, a0))) H1 → va_S (Af G) H0 H1 locs →
      W p l e R s m args below meth c H1 locs (cells + 1) (slots + N') Q (F0 m (pc + 2) ls (.ref q :: rest))) : W p l e R s m args below meth c H locs cells slots Q (F0 m pc ls (.int n :: rest)) := by
  subst hty
  refine va_newaK hexec hb harr rfl hdg rfl hn hN hbytes hcells hslots rfl fun H1 cA e1 z1 o1 hAr hNm => ?_
  have hca : cA = G.2.1 t := by
    have h2 := (hT.1.2 t _ ht).2
    have h3 : s.vm.findClass ("[" ++ (newarray.typeOf atype).toString) = some (G.2.1 t) := by
      cases atype <;> exact h2
    exact Option.some.inj (hNm.symm.trans h3)
  subst hca
  refine kk H.size H1 rfl z1 (hR.none (Nat.le_refl _)) (hR.born ?_ z1 o1) (r_S hS z1 o1)
  show H1[H.size]? = some (vp_cell _ _)
  rw [ha]
  exact e1
theorem r_newq (hexec : p.tables.exec = Jvm.exec) (hb : c.code = cc) {own C : String} {index : Nat} (hown : s.vm.findClass own = some m.cls) (hclink : (Cond.classLink own index C).before args s = true) (hover : va_AO C s) (t : Nat) (hT : Wt G s) (ht : (tysOf G)[t]? = some (G.2.1 t, .object C)) (hR : Rp G M H) (hS : va_S (Af G) H0 H locs)
    {n : Int32} {N' : Nat} (hn : ¬ n < 0) (hN : n.toNatClampNeg = N') (hbytes : N' * 4 ≤ 536870912) (hcells : cells + 1 ≤ R.cells) (hslots : slots + N' ≤ R.slots) (hdg : decode cc pc = .ok (.anewarray index, 3))
    (kk : ∀ (q : Nat) (H1 : Heap), q = H.size → H1.size = q + 1 → M q = none → Rp G (mu M q (.inl (G.2.1 t, N', .inr (.inr (.inr (.inr (fun _ => none))))))) H1 → va_S (Af G) H0 H1 locs →
      W p l e R s m args below meth c H1 locs (cells + 1) (slots + N') Q (F0 m (pc + 3) ls (.ref q :: rest))) : W p l e R s m args below meth c H locs cells slots Q (F0 m pc ls (.int n :: rest)) := by
  subst hN
  refine W.anew hexec hb hown hclink (va_AO.use hover) rfl hdg rfl hn hbytes hcells hslots fun cA kA comp f1 f2 f3 f4 => ?_
  have hca : cA = G.2.1 t := by
    obtain ⟨_, _, _, _, _, h4⟩ := (hT.1.2 t _ ht).2
    exact Option.some.inj (f1.symm.trans h4)
  subst hca
  generalize hH1 : H.push ({ cls := G.2.1 t, slots := Array.replicate n.toNatClampNeg .null, vm := .none } : Cell) = H1
  have z1 : H1.size = H.size + 1 := by rw [← hH1, Array.size_push]
  have e1 : H1[H.size]? = some (arrV (G.2.1 t) n.toNatClampNeg (fun _ => .null)) := by rw [← hH1, Array.getElem?_push_size, ← arrV_new]
  have o1 : ∀ q : Nat, q < H.size → H1[q]? = H[q]? := fun q hq => by rw [← hH1, Array.getElem?_push, if_neg (Nat.ne_of_lt hq)]
  refine kk H.size H1 rfl z1 (hR.none (Nat.le_refl _)) (hR.born ?_ z1 o1) (r_S hS z1 o1)
  show H1[H.size]? = some (vp_cell _ _)
  rw [vp_cell_q]
  exact e1
end RST
