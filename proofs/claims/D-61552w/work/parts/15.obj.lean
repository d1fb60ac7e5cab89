/-! Object.equals, walked in its own frame (no contract of Object's methods can be used: its initialisation is no word of the tables) -/
set_option maxHeartbeats 4000000 in
theorem obj_equals {e : Env} {s : State} {g : JFrame} {cg : Code} {below : List Frame} {tb : Tables} {target : State} (h : At s g.method cg below) (hexec : tb.exec = Jvm.exec) {mk : MethodId} {k : Class} {meth : Method} {code : Code} {a b : Nat}
    {ig : Instr} {len : Nat} (acts : List Action)
    (hk : s.vm.classes[mk.cls]? = some k) (hn : k.name = "java/lang/Object") (hfin : e.platform.finalization = false)
    (hm : s.vm.method? mk = some meth) (hc : meth.code = some code) (hbytes : code.code = cJ23_equals) (hmax : code.maxLocals = 2) (hret : meth.sig.returnType = some .boolean) (hl : meth.locks = false)
    (hroom : e.platform.stackFull (((s.setTop g).threads[(s.setTop g).cur]?).getD { frames := [] }) (s.setTop g).frames code.maxLocals = false)
    (hdg : decode cg.code g.pc = .ok (ig, len))
    (hrest : Steps tb e below (s.setTop { g with pc := g.pc + len, stack := .int (bI (a = b)) :: g.stack }) target) :
    Steps tb e below (doInvoke e (s.setTop g) acts mk #[.ref a, .ref b]).1 target := by
  rw [doInvoke_enter h.top acts hm hc hl hroom]
  obtain ⟨mid, hmid⟩ := h.above
  have go : ∀ f : JFrame, f.method = mk → (match decode code.code f.pc with
      | .ok (i, len) => wpRun (tb.exec i)
          (fun _ s₁ _ => ∀ acts, Steps tb e below (afterInstr e len (.ok () s₁ acts)).1 target)
          (fun x s₁ _ => ∀ acts, Steps tb e below (afterInstr e len (.ctl x s₁ acts)).1 target) e ((s.setTop g).pushFrame (.java f))
      | .error _ => False) → Steps tb e below ((s.setTop g).pushFrame (.java f)) target := by
    intro f hfm hw
    have hf := frames_entered (g := g) h.top (.java f)
    have e1 : ((s.setTop g).pushFrame (.java f)).setTop f = (s.setTop g).pushFrame (.java f) := by
      rw [State.setTop_of_frames _ hf]
      obtain ⟨t, ht, h1⟩ := State.frames_cons hf
      have := State.setFrames_self ht
      rw [hf] at this
      exact this
    rw [← e1]
    refine Steps.instrOv (c := code) (by rw [State.topJava?_of_frames hf]; rfl) ⟨.java g :: mid, by rw [hf, List.tail_cons, hmid]; rfl⟩ h.running (by simpa using h.runnable) (by simpa using h.alone)
      (by rw [State.code?_eq, hfm]; simp [State.pushFrame, State.setFrames, hm, hc]) (overridden_object tb (k := k) (by rw [hfm]; simpa [State.pushFrame, State.setFrames] using hk) hn hfin) ?_
    rw [e1]
    exact hw
  have st : ∀ f f1 : JFrame, ((s.setTop g).pushFrame (.java f)).setTop f1 = (s.setTop g).pushFrame (.java f1) := by
    intro f f1
    have hf := frames_entered (g := g) h.top (.java f)
    have hf1 := frames_entered (g := g) h.top (.java f1)
    rw [State.setTop_of_frames _ hf, State.pushFrame, State.setFrames_setFrames, State.pushFrame, State.frames_setTop' g h.top]
  rw [st]
  refine go (entryFrame mk #[.ref a, .ref b] code.maxLocals) rfl ?_
  rw [hbytes]
  have tf : ∀ f : JFrame, ((s.setTop g).pushFrame (.java f)).topJava? = some f := fun f => State.topJava?_of_frames (frames_entered (g := g) h.top (.java f))
  have af : ∀ (f : JFrame) (n : Nat) (ac : List Action), (afterInstr e n (.ok () ((s.setTop g).pushFrame (.java f)) ac)).1 = (s.setTop g).pushFrame (.java { f with pc := f.pc + n }) := by
    intro f n ac
    show ((s.setTop g).pushFrame (.java f)).modifyTopJava (fun f => { f with pc := f.pc + n }) = _
    rw [State.modifyTopJava_eq_setTop _ (tf f), st]
  have ab : ∀ (f : JFrame) (n : Nat) (d : Int) (ac : List Action) (t : Nat), (f.pc : Int) + d = (t : Int) → (afterInstr e n (.ctl (.branch d) ((s.setTop g).pushFrame (.java f)) ac)).1 = (s.setTop g).pushFrame (.java { f with pc := t }) := by
    intro f n d ac t ht
    have h1 : ¬ ((f.pc : Int) + d < 0) := by omega
    have h2 : ((f.pc : Int) + d).toNat = t := by omega
    simp only [afterInstr, tf, h1, if_false]
    rw [State.modifyTopJava_eq_setTop _ (tf f), st, h2]
  simp [jvm, wpRun, exec, hexec, entryFrame, dJ23_equals_0, hmax, tf, st]
  refine ⟨.ref a, rfl, rfl, fun ac => ?_⟩
  rw [af]
  refine go _ (by rfl) ?_
  rw [hbytes]
  simp [jvm, wpRun, exec, hexec, dJ23_equals_1, tf, st]
  refine ⟨.ref b, rfl, rfl, fun ac => ?_⟩
  rw [af]
  refine go _ (by rfl) ?_
  rw [hbytes]
  simp [jvm, wpRun, exec, hexec, dJ23_equals_2, tf, st]
  refine ⟨_, rfl, _, rfl, ?_⟩
  have e9 : ∀ (v : Int32) (z : JFrame), z = { method := mk, pc := 10, locals := argsToLocals #[Value.ref a, Value.ref b] 2, stack := [.int v], locked := none } → narrow .boolean (.int v) = .int v → Steps tb e below (s.setTop { g with pc := g.pc + len, stack := .int v :: g.stack }) target → Steps tb e below ((s.setTop g).pushFrame (.java z)) target := by
    intro v z hz hv hr9
    subst hz
    refine go _ (by rfl) ?_
    rw [hbytes]
    simp [jvm, wpRun, exec, hexec, dJ23_equals_10, tf, st]
    refine ⟨meth, by simpa [State.pushFrame, State.setFrames] using hm, .boolean, hret, fun ac => ?_⟩
    rw [hv]
    have hf := frames_entered (g := g) h.top (.java { method := mk, pc := 10, locals := argsToLocals #[Value.ref a, Value.ref b] 2, stack := [.int v], locked := none })
    have h9 := doReturn_leave (e := e) (g := g) (f := { method := mk, pc := 10, locals := argsToLocals #[Value.ref a, Value.ref b] 2, stack := [], locked := none }) (meth := meth) (cg := cg) (ig := ig) (len := len) (v := some (.int v)) ac hf (by simpa [State.pushFrame, State.setFrames] using hm) hl rfl rfl
      (by have := h.code; rw [State.code?_eq] at this ⊢; simpa [State.pushFrame, State.setFrames] using this) hdg
    rw [st] at h9
    rw [h9, setFrames_entered h.top, State.setTop_setTop]
    exact hr9
  by_cases hab : a = b
  · rw [if_neg (by simp [if_acmp.holds, hab])]
    intro ac
    rw [af]
    refine go _ (by rfl) ?_
    rw [hbytes]
    simp [jvm, wpRun, exec, hexec, dJ23_equals_5, tf, st]
    intro ac
    rw [af]
    refine go _ (by rfl) ?_
    rw [hbytes]
    simp [jvm, wpRun, exec, hexec, dJ23_equals_6, tf, st]
    intro ac
    rw [ab _ _ _ _ 10 (by rfl)]
    refine e9 1 _ (by rfl) (by rfl) ?_
    rw [bI_t hab] at hrest
    exact hrest
  · rw [if_pos (by simp [if_acmp.holds, hab])]
    intro ac
    rw [ab _ _ _ _ 9 (by rfl)]
    refine go _ (by rfl) ?_
    rw [hbytes]
    simp [jvm, wpRun, exec, hexec, dJ23_equals_9, tf, st]
    intro ac
    rw [af]
    refine e9 0 _ (by rfl) (by rfl) ?_
    rw [bI_f hab] at hrest
    exact hrest
section ROBJ
variable {p : Program} {l : Launch} {e : Env} {R : Room} {s : State} {m : MethodId} {args : Array Value} {below : List Frame} {meth : Method} {c : Code} {H : Heap} {locs : List Loc} {cells slots : Nat} {Q : State → Prop}
variable {cc : ByteArray} {pc : Nat} {ls : Array Slot} {rest : List Value}
theorem r_equals (hexec : p.tables.exec = Jvm.exec) (hb : c.code = cc) (hml : c.maxLocals = ls.size) {own C : String} {index : Nat} (hown : s.vm.findClass own = some m.cls) (hlink : (Cond.methodLink own index yJ23_equals).before args s = true) (hinst : (Cond.instanceMethod yJ23_equals).before args s = true) (hsel : (Cond.selects C yJ23_equals yJ23_equals).before args s = true) (hcode : (Cond.code yJ23_equals cJ23_equals 2 (some .boolean)).before args s = true)
    {a b : Nat} (hrecv : ∃ cell : Cell, H[a]? = some cell ∧ cell.vm.isStatics = false ∧ s.vm.findClass C = some cell.cls) (hframes : 1 ≤ R.frames) (hlocals : (rest.map fun v => v.category).sum + (2 + 11) ≤ R.locals) (hdg : decode cc pc = .ok (.invokevirtual index, 3))
    (kk : W p l e R s m args below meth c H locs cells slots Q (F0 m (pc + 3) ls (.int (bI (a = b)) :: rest))) : W p l e R s m args below meth c H locs cells slots Q (F0 m pc ls (.ref b :: .ref a :: rest)) := by
  intro T hT X
  subst hb
  obtain ⟨mk, methM, hnamed, hmethM, hstM, habM⟩ := Cond.instanceMethod_spec hinst
  obtain ⟨methM', cM, hmethM', hcM, hbytes, hmax, hret, hlM, -, hsigM⟩ := Cond.code_spec hnamed hcode
  cases hmethM.symm.trans hmethM'
  obtain ⟨cellB, hcB, hoB, hclB⟩ := hrecv
  obtain ⟨c2, r2, m2, q1, q2, q3, q4, kP, hkP, hkPi⟩ := Cond.selects_spec hsel
  cases hclB.symm.trans q1
  have hy : yJ23_equals.cls ≠ "java/lang/invoke/MethodHandle" ∧ yJ23_equals.cls ≠ "java/lang/invoke/VarHandle" := ⟨by decide, by decide⟩
  cases (State.methodFound?_of_named hnamed hy).symm.trans q2
  cases hnamed.symm.trans q3
  have hselP : selectMethod e.platform s.vm cellB.cls mk = .method mk := by rw [Launch.admits_selectMethod X.admits]; exact q4
  have hsg : parseMethodDescriptor yJ23_equals.desc = some methM.sig := hsigM
  have hlen : ([.ref b] : List Value).length = methM.sig.parameters.length := by
    have h1 : (parseMethodDescriptor yJ23_equals.desc).map (fun d => d.parameters.length) = some 1 := by decide +kernel
    rw [hsg] at h1
    exact (Option.some.inj h1).symm
  obtain ⟨vm₁, X₁, hstep₁⟩ := X.invokevirtual hexec hown hlink hnamed hmethM hstM hkP hkPi hy (a := a) (cell := cellB) (by rw [hT]; exact hcB)
    (fun z h => by rw [h] at hoB; cases hoB) hselP hmethM habM hkP hkPi (g := F0 m pc ls (.ref b :: .ref a :: rest)) rfl (argsL := [.ref b]) (rest := rest) hlen rfl hdg
  obtain ⟨t, a1, b1⟩ := kk (T.setVm vm₁) hT X₁
  obtain ⟨kO, hkO, hnO⟩ := className_of_methodNamed hnamed
  refine ⟨t, hstep₁ t (fun acts => ?_), b1⟩
  have hm1 : (T.setVm vm₁).vm.method? mk = some methM := by rw [X₁.warmed.alike.method?]; exact hmethM
  obtain ⟨k1, hk1, hk1e⟩ := X₁.warmed.alike.2.2 _ _ hkO
  exact obj_equals (g := F0 m pc ls rest) (cg := c) (k := k1) (meth := methM) (code := cM) X₁.here hexec acts hk1 (by rw [hk1e]; exact hnO) (Launch.admits_finalization X.admits) hm1 hcM hbytes hmax hret hlM
    (X₁.notFull (g := F0 m pc ls rest) hml.symm hframes (by rw [hmax]; show 2 * 0 + (rest.map fun v => v.category).sum + (2 + 11) ≤ _; omega)) hdg a1
end ROBJ
