/-! EXCEPTIONS. MetX: a contract of a method that throws: an object of class E, new; the world is as it was -/
def QX (E : String) (G : Gw) (M : Mp) (st : State) (x : Addr) (t : State) : Prop :=
  (∃ cell : Cell, t.heap[x]? = some cell ∧ cell.vm.isStatics = false ∧ st.vm.findClass E = some cell.cls) ∧ Rp G M t.heap ∧ va_F (Af G) st t
def EndX (E : String) (G : Gw) (M : Mp) (st : State) (o : Outcome) (t : State) : Prop :=
  ∃ x : Addr, o = .threw x ∧ QX E G M st x t ∧ st.WarmedH t.vm ∧ st.sameButNew ({ t with vm := st.vm } : State) [] 1 6
def MetX (l : Launch) (y : MethodName) (ws : List Cond) (rm : Room) (Pc : Array Value → State → Prop) (E : String) (G : Gw) (M : Mp) : Prop :=
  MetFree l y (headSpec ws rm) Pc (fun _ _ _ _ _ => True) (fun _ st o t => EndX E G M st o t)
/-- y called with av over the map M throws an E -/
abbrev Cx (l : Launch) (y : MethodName) (b : ByteArray) (L : Nat) (r : Option FieldType) (lv : Nat) (av : List Value) (G : Gw) (M : Mp) (sz : Nat) (E : String) : Prop :=
  MetX l y (ws_ y b L r) (rmL lv 1 6) (va_Pc av (Wd G M sz)) E G M
/-- where the walk of such a method must come -/
def MQX (below : List Frame) (E : String) (G : Gw) (M : Mp) (s : State) : State → Prop := fun t => ∃ o, t.status = .running ∧ Ended t below o ∧ EndX E G M s o t
theorem MetX.ofW {l : Launch} {y : MethodName} {ws ws' : List Cond} {rm : Room} {Pc : Array Value → State → Prop} {E : String} {G : Gw} {M : Mp} {cc : ByteArray} {maxL : Nat} {ret : Option FieldType}
    (hy : plainName y.cls = true) (hw : ws = Cond.code y cc maxL ret :: ws')
    (body : ∀ p e s m args below meth c s₁, BodyLoose p l y (headSpec ws rm) cc maxL ret e s m args below meth c s₁ → c.maxLocals = maxL → Pc args s →
      W p l e (headSpec ws rm).room s m args below meth c s.heap [] 0 0 (MQX below E G M s) (entryFrame m args maxL)) : MetX l y ws rm Pc E G M := by
  refine MetFree.of_bodyS (code := cc) (maxLocals := maxL) (ret := ret) hy ?_ ?_
  · intro args s m h hn
    obtain ⟨meth, c, h1, h2, h3, h4, h5, h6, -, -⟩ := Cond.code_spec hn (atoms_spec (ws := ws) h _ (by rw [hw]; exact List.mem_cons_self))
    exact ⟨meth, c, h1, h2, h3, h4, h5, h6⟩
  · intro p e s m args below meth c s₁ B hml hP _
    have hh0 : s₁.heap = s.heap := by rw [B.state]; rfl
    obtain ⟨t, a1, o, b1, b2, b3⟩ := body p e s m args below meth c s₁ B hml hP s₁ hh0 (Stand.of_body B)
    exact ⟨t, o, a1, b1, b2, b3⟩
theorem same_nil {s t : State} {k n : Nat} (h : s.sameButNew ({ t with vm := s.vm } : State) [] k n) : ∀ q : Nat, q < s.heap.size → t.heap[q]? = s.heap[q]? := by
  intro q hq
  obtain ⟨cell, hc⟩ : ∃ cell, s.heap[q]? = some cell := ⟨_, Array.getElem?_eq_getElem hq⟩
  obtain ⟨cell', h1, h2, h3, h4⟩ := h.2.2.2.2.2 q cell hc
  have hs : cell'.slots = cell.slots := Array.ext_getElem? (fun i => h4 i (by simp))
  have he : cell' = cell := h2.trans (by rw [hs])
  rw [hc, ← he]
  exact h1
section XROWS
variable {p : Program} {l : Launch} {e : Env} {R : Room} {s : State} {m : MethodId} {args : Array Value} {below : List Frame} {meth : Method} {c : Code} {H : Heap} {Q : State → Prop}
variable {cc : ByteArray} {pc : Nat} {ls : Array Slot} {rest : List Value} {G : Gw} {M : Mp} {E : String}
/-- 'new E; dup; E.<init>; athrow', nothing else done so far -/
theorem r_throw (hexec : p.tables.exec = Jvm.exec) (hb : c.code = cc) (hfl : l.flags = pinnedFlags ++ [noTraceFlag]) (hlocks : meth.locks = false) (hnoh : c.exceptionTable.isEmpty = true) (hml : c.maxLocals = ls.size) {own : String} {names : List String} {ic index : Nat}
    (hown : s.vm.findClass own = some m.cls) (hclink : (Cond.classLink own index E).before args s = true) (hins : (Cond.instantiable E 6).before args s = true) (hinit : (Cond.initialized E).before args s = true)
    (hcls : Bundle.fit E = true) (hnames : ∀ n ∈ names, Bundle.fit n = true) (h : ∀ a ∈ Bundle.ownAtoms0 own ic E names, a.before args s = true) (hR : Rp G M s.heap)
    (hd0 : decode cc pc = .ok (.new index, 3)) (hd1 : decode cc (pc + 3) = .ok (.dup, 1)) (hd2 : decode cc (pc + 3 + 1) = .ok (.invokespecial ic, 3)) (hd3 : decode cc (pc + 3 + 1 + 3) = .ok (.athrow, 1))
    (hRc : 0 + 1 ≤ R.cells) (hRs : 0 + 6 ≤ R.slots) (hRframes : names.length + 3 < R.frames) (hRlocals : 1 + (rest.map fun v => v.category).sum + (13 * (names.length + 1) + 41) ≤ R.locals) :
    W p l e R s m args below meth c s.heap [] 0 0 (MQX below E G M s) (F0 m pc ls rest) := by
  subst hb
  refine W.newc hexec rfl hown hclink hins hinit rfl hd0 hRc hRs fun cC kC g1 g2 g3 g4 => ?_
  refine lv_dup hexec rfl hd1 rfl ?_
  intro T hT X
  have htr := Launch.traces_off hfl X.admits
  have hsz : s.heap.size < T.heap.size := by rw [hT]; simp
  obtain ⟨U, st, hrun, hend, hW, hsame, ce, hce, hown1⟩ := X.ctorThrow0 hexec htr (own := own) (cls := E) (names := names) (ic := ic) hown hcls hnames h (fun x hx => by cases hx) (a := s.heap.size) (cX := cC) (kX := kC) g1 g2 (by rw [hT]; simp [freshCell]) (Nat.le_refl _)
    (g := F0 m (pc + 3 + 1) ls (.ref s.heap.size :: .ref s.heap.size :: rest)) rfl hml.symm rfl rfl (rest := rest) rfl hd2 hd3 (fun x hx => by
      have h1 : c.exceptionTable.toList = [] := by simpa using hnoh
      rw [h1] at hx; cases hx) hRframes (by
      show 2 * 0 + (1 + (rest.map fun v => v.category).sum) + _ ≤ _
      omega) hlocks
  refine ⟨U, st, .threw s.heap.size, hrun, hend, s.heap.size, rfl, ⟨⟨ce, hce, by rw [hown1.vm]; rfl, hown1.cls⟩, ?_, ?_⟩, hW, hsame⟩
  · refine hR.kept ?_ (same_nil hsame)
    have := (Array.getElem?_eq_some_iff.mp hce).1
    omega
  · refine ⟨?_, fun q hq _ => same_nil hsame q hq⟩
    have := (Array.getElem?_eq_some_iff.mp hce).1
    omega
/-- a callee that throws, from its contract: back in the caller's frame with the exception on its way -/
theorem x_back {y : MethodName} {ws : List Cond} {rm : Room} {Pc : Array Value → State → Prop} {bytes : ByteArray} {maxL : Nat} {ret : Option FieldType} {len Wt0 : Nat} {locs : List Loc} {cells slots : Nat}
    (hM : MetX l y ws rm Pc E G M) (hblind : FrameBlind Pc) (hrc : rm.cells = 1) (hrs : rm.slots = 6) (hframes : rm.frames + 1 ≤ R.frames) (hlocals : Wt0 + (maxL + 11) + rm.locals ≤ R.locals)
    (hws : ∀ w ∈ ws, ∀ (a' : Array Value) (U : State), s.WarmedH U.vm → w.before a' U = true) (hcw : Cond.code y bytes maxL ret ∈ ws) (hini : ∀ (a' : Array Value) (U : State), s.WarmedH U.vm → (Cond.initialized y.cls).before a' U = true)
    {U : State} {g : JFrame} {ig : Instr} {mk : MethodId} {a : Array Value} (X : Stand p l e R s m args below meth c U locs cells slots) (hg : g.method = m) (hsize : g.locals.size = c.maxLocals) (hdg : decode c.code g.pc = .ok (ig, len))
    (hWt : 2 * g.monitorRoom + (g.stack.map fun v => v.category).sum ≤ Wt0) (hn : U.methodNamed? y = some mk) (hroom : cells + 1 ≤ R.cells ∧ slots + 6 ≤ R.slots) (hP : Pc a U) :
    ∃ (x : Addr) (T' : State), Stand p l e R s m args below meth c T' locs (cells + 1) (slots + 6) ∧ QX E G M (U.calling g mk a) x T' ∧ Steps p.tables e below (doInvoke e (U.setTop g) [] mk a).1 ((T'.setTop g).pushFrame (.throwing x)) := by
  have h1 : (headSpec ws rm).pre.before a U = true := atoms_intro fun w hw => hws w hw _ _ X.warmed
  obtain ⟨methY, cY, hmY, hcY, -, hlY, -, -, -, -⟩ := Cond.code_spec hn (hws _ hcw a U X.warmed)
  obtain ⟨kY, hkY, -⟩ := className_of_methodNamed hn
  have hinitY : kY.init = .initialized := Cond.initialized_spec (findClass_of_methodNamed hn) hkY (hini a U X.warmed)
  have hAt : At U g.method c below := by rw [hg]; exact X.here
  have happ : (headSpec ws rm).appliesLoose y e.platform (U.calling g mk a) = true :=
    Spec.appliesLoose_calling (g := g) hAt hdg hn hkY hinitY
      (X.room_calling (g := g) (R' := (headSpec ws rm).room) hsize hmY hcY hframes (by rw [hlY]; show _ + (maxL + 11) + rm.locals ≤ _; omega) (by rw [show (headSpec ws rm).room.cells = 1 from hrc]; exact hroom.1) (by rw [show (headSpec ws rm).room.slots = 6 from hrs]; exact hroom.2)) h1
  obtain ⟨mid, hmid⟩ := hAt.above
  have hfr : (U.setTop g).frames = (.java g :: mid) ++ below := by rw [State.frames_setTop' g hAt.top, hmid]; rfl
  obtain ⟨o, s₂, hsteps, -, hend, x, rfl, hq, hW₂, e2, q2, q3, q4, q5, q6⟩ := Steps.callFree hM p X.admits X.cas X.clock (acts := []) hfr happ (hblind _ _ _ _ hP) trivial
  rw [State.frames_setTop' g hAt.top] at hend
  have hf₂ : s₂.frames = .throwing x :: .java g :: U.frames.tail := hend
  have hU : U.WarmedH s₂.vm := hW₂
  obtain ⟨g₀, hg0⟩ := Option.isSome_iff_exists.mp hAt.top
  obtain ⟨r, hr⟩ := State.topJava?_eq_some.mp hg0
  obtain ⟨T', hT'⟩ : ∃ T' : State, T' = ({ U with heap := s₂.heap, slotsUsed := s₂.slotsUsed } : State).setVm s₂.vm := ⟨_, rfl⟩
  have hrT : T'.frames = .java g₀ :: r := by rw [hT']; exact hr
  have e3 : s₂ = (T'.setTop g).pushFrame (.throwing x) := by
    have z : s₂ = ({ s₂ with vm := (U.calling g mk a).vm } : State).setVm s₂.vm := rfl
    rw [show ({ s₂ with vm := (U.calling g mk a).vm } : State) = _ from e2] at z
    refine z.trans ?_
    show ({ (U.calling g mk a).setFrames s₂.frames with heap := s₂.heap, slotsUsed := s₂.slotsUsed } : State).setVm s₂.vm = _
    rw [hf₂, State.calling_eq hAt.top, State.setFrames_setFrames, State.pushFrame, State.frames_setTop _ hrT, State.setTop_of_frames _ hrT, State.setFrames_setFrames, hr, hT']
    rfl
  have hsame : U.sameButNew ({ U with heap := s₂.heap, slotsUsed := s₂.slotsUsed } : State) [] 1 6 := by
    refine ⟨?_, q2, q3, q4, q5, q6⟩
    obtain ⟨t, ht, -⟩ := State.frames_cons hr
    show ({ U with heap := s₂.heap, slotsUsed := s₂.slotsUsed } : State) = { U.setFrames U.frames with heap := s₂.heap, slotsUsed := s₂.slotsUsed }
    rw [State.setFrames_self ht]
  have X2 := X.same.trans (hsame.setVm s.vm)
  rw [List.append_nil] at X2
  subst hg
  refine ⟨x, T', ?_, ?_, ?_⟩
  · rw [hT']
    exact ⟨X.admits, X.cas, X.clock, X.frames, X.room, X.hears, X.method, X.code, (X.here.setHeapUsed s₂.heap s₂.slotsUsed).setVm hU.alike, X.tail, State.WarmedH.trans X.warmed hU, X.limits, X.bytes, X2⟩
  · have hh : T'.heap = s₂.heap := by rw [hT']; rfl
    obtain ⟨⟨cell, c1, c2, c3⟩, hR2, hF2⟩ := hq
    exact ⟨⟨cell, by rw [hh]; exact c1, c2, c3⟩, by rw [hh]; exact hR2, ⟨by rw [hh]; exact hF2.1, fun z hz hz2 => by rw [hh]; exact hF2.2 z hz hz2⟩⟩
  · rw [← e3]
    exact hsteps
/-- the call of a method that throws -/
def x_Run (p : Program) (l : Launch) (e : Env) (R : Room) (s : State) (m : MethodId) (args : Array Value) (below : List Frame) (meth : Method) (c : Code) (H : Heap) (locs : List Loc) (cells slots : Nat) (E : String) (G : Gw) (M : Mp) (g : JFrame) (rest : List Value) : Prop :=
  ∀ T : State, T.heap = H → Stand p l e R s m args below meth c T locs cells slots → ∃ (x : Addr) (st₀ T' : State), st₀.heap = H ∧ s.WarmedH st₀.vm ∧ Stand p l e R s m args below meth c T' locs (cells + 1) (slots + 6) ∧ QX E G M st₀ x T' ∧
    ∀ target, Steps p.tables e below ((T'.setTop { g with stack := rest }).pushFrame (.throwing x)) target → Steps p.tables e below (T.setTop g) target
theorem x_runS {y : MethodName} {bytes : ByteArray} {maxL nL n index : Nat} {ret : Option FieldType} {ws : List Cond} {rm : Room} {Pc : Array Value → State → Prop} {Ts : List Cond} {own : String} {As : List Value} {g : JFrame} {locs : List Loc} {cells slots : Nat}
    (S : CallFix p m c cc nL s args Ts own) (hM : MetX l y ws rm Pc E G M) (cw : CallB R s args own index y bytes maxL ret ws rm 1 6 n ∧ (Cond.static y).before args s = true) (hp : PreS s H Pc As)
    (hg : g.method = m) (hn : As.length = n) (hsize : g.locals.size = nL) (hstack : g.stack = As.reverse ++ rest) (hW : 2 * g.monitorRoom + (rest.map fun v => v.category).sum ≤ 8) (hdg : decode cc g.pc = .ok (.invokestatic index, 3)) (hf : cells + 1 ≤ R.cells ∧ slots + 6 ≤ R.slots) :
    x_Run p l e R s m args below meth c H locs cells slots E G M g rest := by
  obtain ⟨⟨hrc, hrs, hfr, hlo, hws, hcw, hcode, hini, hy, hlen, hl⟩, hstt⟩ := cw
  obtain ⟨hx, hb, hml, ho, -⟩ := S
  intro T hT X
  obtain ⟨mk, hnamed⟩ := Cond.code_named hcode
  obtain ⟨methM, cM, hmethM, -, -, -, -, -, -, hsigM⟩ := Cond.code_spec hnamed hcode
  have hstatic : methM.isStatic = true := Cond.static_spec hnamed hmethM hstt
  obtain ⟨kP, hkP, -⟩ := className_of_methodNamed hnamed
  have hinitP : kP.init = .initialized := Cond.initialized_spec (findClass_of_methodNamed hnamed) hkP hini
  obtain ⟨vm₁, X₁, hstep₁⟩ := X.invokestatic hx ho hl hnamed hmethM hstatic hkP hinitP hy (g := g) hg (argsL := As) (rest := rest) (hn.trans (hlen _ hsigM)) hstack (by rw [hb]; exact hdg)
  obtain ⟨x, T', X', hq, hs⟩ := x_back (g := { g with stack := rest }) (ig := .invokestatic index) (len := 3) (Wt0 := 8) hM hp.1 hrc hrs hfr hlo hws hcw (fun a' U hW => word_at hW (Or.inl (by first | rfl | simp [Cond.onTables, Cond.keeps, Cond.steady])) hini) X₁ hg (hsize.trans hml.symm) (by rw [hb]; exact hdg) hW (X₁.named hnamed) hf (hp.2 _ hT X₁.warmed)
  exact ⟨x, (T.setVm vm₁).calling { g with stack := rest } mk As.toArray, T', hT, X₁.warmed, X', hq, fun target h => hstep₁ _ fun acts => by rw [doInvoke_state]; exact hs.trans h⟩
theorem x_runV {y : MethodName} {bytes : ByteArray} {maxL nL n index : Nat} {ret : Option FieldType} {ws : List Cond} {rm : Room} {Pc : Array Value → State → Prop} {Ts : List Cond} {own C : String} {b : Addr} {As : List Value} {g : JFrame} {locs : List Loc} {cells slots : Nat}
    (S : CallFix p m c cc nL s args Ts own) (hM : MetX l y ws rm Pc E G M) (cw : CallW R s args own C index y bytes maxL ret ws rm 1 6 n) (hp : PreV s H C b Pc As)
    (hg : g.method = m) (hn : As.length = n) (hsize : g.locals.size = nL) (hstack : g.stack = As.reverse ++ .ref b :: rest) (hW : 2 * g.monitorRoom + (rest.map fun v => v.category).sum ≤ 8) (hdg : decode cc g.pc = .ok (.invokevirtual index, 3)) (hf : cells + 1 ≤ R.cells ∧ slots + 6 ≤ R.slots) :
    x_Run p l e R s m args below meth c H locs cells slots E G M g rest := by
  obtain ⟨⟨hrc, hrs, hfr, hlo, hws, hcw, hcode, hini, hy, hlen, hl⟩, hinst, hsel⟩ := cw
  obtain ⟨hx, hb, hml, ho, -⟩ := S
  obtain ⟨hbl, ⟨cellB, hcB, hoB, hclB⟩, hPc⟩ := hp
  intro T hT X
  obtain ⟨mk, methM, hnamed, hmethM, hstM, habM⟩ := Cond.instanceMethod_spec hinst
  obtain ⟨methM', cM, hmethM', -, -, -, -, -, -, hsigM⟩ := Cond.code_spec hnamed hcode
  cases hmethM.symm.trans hmethM'
  obtain ⟨c2, r2, m2, q1, q2, q3, q4, kP, hkP, hkPi⟩ := Cond.selects_spec hsel
  cases hclB.symm.trans q1
  cases (State.methodFound?_of_named hnamed hy).symm.trans q2
  cases hnamed.symm.trans q3
  have hselP : selectMethod e.platform s.vm cellB.cls mk = .method mk := by rw [Launch.admits_selectMethod X.admits]; exact q4
  obtain ⟨vm₁, X₁, hstep₁⟩ := X.invokevirtual hx ho hl hnamed hmethM hstM hkP hkPi hy (a := b) (cell := cellB) (by rw [hT]; exact hcB)
    (fun z h => by rw [h] at hoB; cases hoB) hselP hmethM habM hkP hkPi (g := g) hg (argsL := As) (rest := rest) (hn.trans (hlen _ hsigM)) hstack (by rw [hb]; exact hdg)
  obtain ⟨x, T', X', hq, hs⟩ := x_back (g := { g with stack := rest }) (ig := .invokevirtual index) (len := 3) (Wt0 := 8) hM hbl hrc hrs hfr hlo hws hcw (fun a' U hW => word_at hW (Or.inl (by first | rfl | simp [Cond.onTables, Cond.keeps, Cond.steady])) hini) X₁ hg (hsize.trans hml.symm) (by rw [hb]; exact hdg) hW (X₁.named hnamed) hf (hPc _ hT X₁.warmed)
  exact ⟨x, (T.setVm vm₁).calling { g with stack := rest } mk (Value.ref b :: As).toArray, T', hT, X₁.warmed, X', hq, fun target h => hstep₁ _ fun acts => by rw [doInvoke_state]; exact hs.trans h⟩
/-- no handler: out of the caller -/
theorem x_out {g : JFrame} (hr : x_Run p l e R s m args below meth c s.heap [] 0 0 E G M g rest) (hlocks : meth.locks = false) (hg : g.method = m) (hl : g.locked = none) (he : g.entered = []) (hnoh : c.exceptionTable.isEmpty = true) : W p l e R s m args below meth c s.heap [] 0 0 (MQX below E G M s) g := by
  intro T hT X
  obtain ⟨x, st₀, T', h0, hW, X', ⟨⟨cell, c1, c2, c3⟩, hR2, hF2⟩, hs⟩ := hr T hT X
  obtain ⟨w1, w2, w3, w4, w5⟩ := X'.leaveThrown x (g := { g with stack := rest }) hg hl he (fun z hz => by
      have h1 : c.exceptionTable.toList = [] := by simpa using hnoh
      rw [h1] at hz; cases hz) hlocks
  refine ⟨_, hs _ w1, .threw x, w2, w3, x, rfl, ⟨⟨cell, c1, c2, ?_⟩, hR2, ?_⟩, w4, w5⟩
  · rw [← hW.alike.findClass]; exact c3
  · exact ⟨by rw [← h0]; exact hF2.1, fun q h1 h2 => by rw [← h0]; exact hF2.2 q (by rw [h0]; exact h1) h2⟩
/-- the search through a table t comes to the handler h, whatever of the tables is warm -/
def xF (e : Env) (s : State) (f : JFrame) (a : Addr) (cell : Cell) (t : List ExceptionTableEntry) (h : Nat) : Prop :=
  ∀ vm : Vm, s.WarmedH vm → ∃ vm' : Vm, s.WarmedH vm' ∧ ∀ S : State, S.vm = vm → S.heap[a]? = some cell → ∀ (Q : Handler → Pre) (E : CtlPost) (d : Bool) (acts : List Action), wp (findHandler.go f a t) Q E e d acts S ↔ Q (.found h) d acts (S.setVm vm')
theorem xF_at {f : JFrame} {a : Addr} {cell : Cell} {t : List ExceptionTableEntry} {x : ExceptionTableEntry} {h : Nat} {own name : String} (hpl : e.platform.magicAccessors = ({} : Platform).magicAccessors) (hf : f.method = m) (hown : s.vm.findClass own = some m.cls) (hx : covers x f.pc = true) (h0 : x.catchType ≠ 0)
    (hlink : (Cond.classLink own x.catchType name).before args s = true) (hobj : cell.vm.isStatics = false) (hk : ∃ k, s.vm.classes[cell.cls]? = some k)
    (hgo : ∀ cT : ClassId, s.vm.findClass name = some cT → (s.vm.assignable cell.cls cT = true ∧ h = x.handlerPc) ∨ (s.vm.assignable cell.cls cT = false ∧ xF e s f a cell t h)) : xF e s f a cell (x :: t) h := by
  intro vm hW
  obtain ⟨cT, hcT, hcl⟩ := Cond.classLink_spec hown hlink e.platform hpl
  obtain ⟨dk, _, _, kt, hd, _, _, _, _, hkt, _, hopen⟩ := hcl.here
  have hl0 := hW.classLinks hcl
  have hW' : s.WarmedH (vm.noted m.cls x.catchType (.cls cT)) := hW.noted hd hopen (State.rightAt_cls hcl)
  obtain ⟨ha, ht⟩ := (resolveClass_links e.toSetting hl0).op (op := VmOp.resolveClass m.cls x.catchType) rfl
  have hne := VmData.ne_statics_of hobj
  obtain ⟨k1, hk1⟩ := hk
  obtain ⟨k1', hk1', -⟩ := hW'.alike.2.2 _ _ hk1
  obtain ⟨k2', hk2', -⟩ := hW'.alike.2.2 _ _ hkt
  simp only [covers] at hx
  subst hf
  rcases hgo cT hcT with ⟨hfit, rfl⟩ | ⟨hfit, hrec⟩
  · have hfit' : (vm.noted f.method.cls x.catchType (.cls cT)).assignable cell.cls cT = true := by rw [hW'.alike.assignable]; exact hfit
    refine ⟨_, hW', fun S hS hcell Q E d acts => ?_⟩
    subst hS
    simp [findHandler.go, hx, h0, ha, ht, hcell, hne, hk1', hk2', hfit', VmOp.dirties, VmOp.acts]
  · have hfit' : (vm.noted f.method.cls x.catchType (.cls cT)).assignable cell.cls cT = false := by rw [hW'.alike.assignable]; exact hfit
    obtain ⟨vm2, hW2, hgo2⟩ := hrec _ hW'
    refine ⟨vm2, hW2, fun S hS hcell Q E d acts => ?_⟩
    subst hS
    have h9 := hgo2 (S.setVm (S.vm.noted f.method.cls x.catchType (.cls cT))) rfl hcell Q E d acts
    simp [findHandler.go, hx, h0, ha, ht, hcell, hne, hk1', hk2', hfit', VmOp.dirties, VmOp.acts]
    exact h9
theorem x_found {S : State} {a : Addr} {f : JFrame} {r : List Frame} {h : Nat} {vm' : Vm} (hfind : ∀ (Q : Handler → Pre) (E : CtlPost) (d : Bool) (acts : List Action), wp (findHandler f a) Q E e d acts S ↔ Q (.found h) d acts (S.setVm vm')) :
    (stepThrowing e S a (.java f :: r)).1 = (S.setVm vm').setFrames (.java { f with pc := h, stack := [.ref a] } :: r) := by
  have hI : (stepThrowing e S a (.java f :: r)).Is ((S.setVm vm').setFrames (.java { f with pc := h, stack := [.ref a] } :: r)) [] := by
    simp only [stepThrowing, searchFrame, vmDo]
    generalize hr : Sem.go _ e false [] S = res
    obtain ⟨as, rfl, ha⟩ := Sem.eq_ok_of hr (a := Handler.found h) (s' := S.setVm vm') (acts' := []) (by simp [hfind _ _ _ _])
    exact ⟨rfl, ha⟩
  exact hI.1
/-- a handler of the caller's own takes it -/
theorem x_catch {g : JFrame} {locs : List Loc} {cells slots h : Nat} (hr : x_Run p l e R s m args below meth c H locs cells slots E G M g rest) (hg : g.method = m)
    (hfnd : e.platform.magicAccessors = ({} : Platform).magicAccessors → ∀ (a : Addr) (cell : Cell), cell.vm.isStatics = false → s.vm.findClass E = some cell.cls → xF e s { g with stack := rest } a cell c.exceptionTable.toList h) (hS : va_S (Af G) s.heap H locs)
    (kk : ∀ (x : Addr) (H1 : Heap), Rp G M H1 → va_S (Af G) s.heap H1 locs → W p l e R s m args below meth c H1 locs (cells + 1) (slots + 6) Q { g with pc := h, stack := [.ref x] }) : W p l e R s m args below meth c H locs cells slots Q g := by
  intro T hT X
  obtain ⟨x, st₀, T', h0, hW, X', ⟨⟨cell, c1, c2, c3⟩, hR2, hF2⟩, hs⟩ := hr T hT X
  have hpl : e.platform.magicAccessors = ({} : Platform).magicAccessors := by rw [X.admits.platform]
  obtain ⟨vm', hW', hgo⟩ := hfnd hpl x cell c2 (by rw [← hW.alike.findClass]; exact c3) T'.vm X'.warmed
  have hS1 : va_S (Af G) s.heap T'.heap locs := ⟨Nat.le_trans hS.1 (by rw [← h0]; exact hF2.1), fun q h1 h2 => by
      rw [hF2.2 q (by rw [h0]; exact Nat.lt_of_lt_of_le h1 hS.1) h2, h0]; exact hS.2.1 q h1 h2, hS.2.2⟩
  obtain ⟨t, a1, b1⟩ := kk x T'.heap hR2 hS1 (T'.setVm vm') rfl (X'.noted hW')
  refine ⟨t, hs t ?_, b1⟩
  subst hg
  obtain ⟨hgo1, hw⟩ := X'.here.throwing (g := { g with stack := rest }) x
  refine Steps.head hgo1 hw ?_
  have hfind : ∀ (Q : Handler → Pre) (E : CtlPost) (d : Bool) (acts : List Action), wp (findHandler { g with stack := rest } x) Q E e d acts ((T'.setTop { g with stack := rest }).pushFrame (.throwing x)) ↔ Q (.found h) d acts (((T'.setTop { g with stack := rest }).pushFrame (.throwing x)).setVm vm') := by
    intro Q E d acts
    rw [W.findHandler_eq (s := (T'.setTop { g with stack := rest }).pushFrame (.throwing x)) (f := { g with stack := rest }) (meth := meth) (code := c) X'.method' X'.code]
    exact hgo ((T'.setTop { g with stack := rest }).pushFrame (.throwing x)) rfl c1 Q E d acts
  rw [stepThread_throwing (frames_entered X'.here.top _), x_found hfind]
  obtain ⟨g₀, hg0⟩ := Option.isSome_iff_exists.mp X'.here.top
  obtain ⟨r, hr0⟩ := State.topJava?_eq_some.mp hg0
  have hr' : (T'.setVm vm').frames = .java g₀ :: r := hr0
  rw [State.setTop_of_frames _ hr'] at a1
  have e9 : (((T'.setTop { g with stack := rest }).pushFrame (.throwing x)).setVm vm').setFrames (.java { g with pc := h, stack := [.ref x] } :: T'.frames.tail) = (T'.setVm vm').setFrames (.java { g with pc := h, stack := [.ref x] } :: r) := by
    rw [State.pushFrame, State.setTop_of_frames _ hr0, hr0]
    show ((((T'.setFrames _).setFrames _).setFrames _ : State).setVm vm') = _
    rw [State.setFrames_setFrames, State.setFrames_setFrames]
    rfl
  show Steps p.tables e below ((((T'.setTop { g with stack := rest }).pushFrame (.throwing x)).setVm vm').setFrames (.java { g with pc := h, stack := [.ref x] } :: T'.frames.tail)) t
  rw [e9]
  exact a1
end XROWS
/-! methods with handlers: their code is a word codeWith -/
theorem Met.ofWW {l : Launch} {y : MethodName} {ws ws' : List Cond} {rm : Room} {Pc : Array Value → State → Prop} {Qc : Array Value → State → Outcome → State → Prop} {mc ms : Nat} {free : Addr → Prop} {cc : ByteArray} {maxL : Nat} {ret : Option FieldType} {hh : List (Nat × Nat × Nat × Nat)}
    (hy : plainName y.cls = true) (hw : ws = Cond.codeWith y cc maxL ret hh :: ws')
    (body : ∀ p e s m args below meth c s₁, BodyLoose p l y (headSpec ws rm) cc maxL ret e s m args below meth c s₁ → c.maxLocals = maxL → c.exceptionTable.toList = tableOf hh → Pc args s →
      W p l e (headSpec ws rm).room s m args below meth c s.heap [] 0 0 (MQ below Qc args s mc ms free) (entryFrame m args maxL)) : Met l y ws rm Pc Qc mc ms free := by
  refine MetFree.of_bodyS (code := cc) (maxLocals := maxL) (ret := ret) hy ?_ ?_
  · intro args s m h hn
    obtain ⟨m', meth, c, h0, h1, h2, h3, h4, h5, h6, h7, -⟩ := Cond.codeWith_spec (atoms_spec (ws := ws) h _ (by rw [hw]; exact List.mem_cons_self))
    cases hn.symm.trans h0
    exact ⟨meth, c, h1, h2, h3, h4, h6, h7⟩
  · intro p e s m args below meth c s₁ B hml hP _
    have hh0 : s₁.heap = s.heap := by rw [B.state]; rfl
    obtain ⟨m', meth', c', h0, h1, h2, h3, h4, h5, h6, h7, -⟩ := Cond.codeWith_spec (atoms_spec (ws := ws) B.pre _ (by rw [hw]; exact List.mem_cons_self))
    cases B.named.symm.trans h0
    cases B.method.symm.trans h1
    cases (Stand.of_body B).code.symm.trans h2
    obtain ⟨t, a1, o, b1, b2, b3⟩ := body p e s m args below meth c s₁ B hml (by rw [← h5, table_eq]) hP s₁ hh0 (Stand.of_body B)
    exact ⟨t, o, a1, b1, b2, ⟨b3.1, b3.2⟩⟩
/-- the call of a static method with handlers -/
theorem x_runSW {p : Program} {l : Launch} {e : Env} {R : Room} {s : State} {m : MethodId} {args : Array Value} {below : List Frame} {meth : Method} {c : Code} {H : Heap} {locs : List Loc} {cells slots : Nat} {y : MethodName} {bytes cc : ByteArray} {maxL nL mc ms index : Nat} {ret : Option FieldType} {hh : List (Nat × Nat × Nat × Nat)} {ws ws' : List Cond} {rm : Room} {Pc : Array Value → State → Prop} {Qc : Array Value → State → Outcome → State → Prop} {free : Addr → Prop} {Ts : List Cond} {own : String} {As rest : List Value} {g : JFrame}
    (S : CallFix p m c cc nL s args Ts own) (hM : Met l y ws rm Pc Qc mc ms free) (n : Nat) (hT : GoodIn Ts (va_wsS own index y ws)) (hw : ws = Cond.codeWith y bytes maxL ret hh :: ws') (hrc : rm.cells = mc) (hrs : rm.slots = ms)
    (hd : y.cls ≠ "java/lang/invoke/MethodHandle" ∧ y.cls ≠ "java/lang/invoke/VarHandle" ∧ (parseMethodDescriptor y.desc).map (fun d => d.parameters.length) = some n) (hR : rm.frames + 1 ≤ R.frames ∧ 8 + (maxL + 11) + rm.locals ≤ R.locals) (hp : PreS s H Pc As)
    (hg : g.method = m) (hn : As.length = n) (hsize : g.locals.size = nL) (hstack : g.stack = As.reverse ++ rest) (hW : 2 * g.monitorRoom + (rest.map fun v => v.category).sum ≤ 8) (hdg : decode cc g.pc = .ok (.invokestatic index, 3)) (hf : cells + mc ≤ R.cells ∧ slots + ms ≤ R.slots) :
    va_Run p l e R s m args below meth c H locs cells slots mc ms g rest (Qc As.toArray) free := by
  obtain ⟨hx, hb, hml, ho, ht⟩ := S
  have ok : ∀ w ∈ va_wsS own index y ws, w.before args s = true := fun w h => ht w (hT w h).1
  have hG : GoodIn Ts ws := fun w h => hT w (by unfold va_wsS; exact List.mem_append_right _ h)
  have hcw : Cond.codeWith y bytes maxL ret hh ∈ ws := by rw [hw]; exact List.mem_cons_self
  have hl : (Cond.methodLink own index y).before args s = true := ok _ (by simp [va_wsS])
  have hst : (Cond.static y).before args s = true := ok _ (by simp [va_wsS])
  have hini : (Cond.initialized y.cls).before args s = true := ok _ (by simp [va_wsS])
  have hK : Back l R p e below s args y 3 8 (PreOf R mc ms Pc) (PostOf Qc mc ms free) := va_backW hM hp.1 hrc hrs hR.1 hR.2 (pay_in ht hG) hcw (fun a' U hW => word_at hW (Or.inl (by first | rfl | simp [Cond.onTables, Cond.keeps, Cond.steady])) hini)
  intro T hT0 X
  obtain ⟨mk, methM, cM, hnamed, hmethM, -, -, -, -, -, -, hsigM⟩ := Cond.codeWith_spec (ht _ (hG _ hcw).1)
  have hstatic : methM.isStatic = true := Cond.static_spec hnamed hmethM hst
  obtain ⟨kP, hkP, -⟩ := className_of_methodNamed hnamed
  have hinitP : kP.init = .initialized := Cond.initialized_spec (findClass_of_methodNamed hnamed) hkP hini
  have hlen : As.length = methM.sig.parameters.length := by
    have h2 := hd.2.2
    rw [hsigM] at h2
    exact hn.trans (Option.some.inj h2).symm
  obtain ⟨vm₁, X₁, hstep₁⟩ := X.invokestatic hx ho hl hnamed hmethM hstatic hkP hinitP ⟨hd.1, hd.2.1⟩ (g := g) hg (argsL := As) (rest := rest) hlen hstack (by rw [hb]; exact hdg)
  obtain ⟨v, ⟨U', l2, c2, s2⟩, X', ⟨g', mk', t, L, e1, e2, hq, h1, hL, h2, h3⟩, st⟩ := hK m meth c ⟨T.setVm vm₁, locs, cells, slots⟩ { g with stack := rest } (.invokestatic index) mk As.toArray X₁ hg (hsize.trans hml.symm) (by rw [hb]; exact hdg) hW (X₁.named hnamed) ⟨hf.1, hf.2, hp.2 (T.setVm vm₁) hT0 X₁.warmed⟩
  dsimp only [Pt.U, Pt.locs, Pt.cells, Pt.slots] at X' e1 e2 h1 h2 h3 st
  subst h1; subst h2; subst h3
  exact ⟨v, (T.setVm vm₁).calling g' mk' As.toArray, t, U', L, hT0, X', hL, e1, e2, hq, fun target h => hstep₁ _ fun acts => by rw [doInvoke_state]; exact st.trans h⟩
