/-! states of modems: their class is a number -/
section RSTATE
variable {p : Program} {l : Launch} {e : Env} {R : Room} {s : State} {m : MethodId} {args : Array Value} {below : List Frame} {meth : Method} {c : Code} {H : Heap} {locs : List Loc} {cells slots : Nat} {Q : State → Prop}
variable {cc : ByteArray} {pc : Nat} {ls : Array Slot} {rest : List Value} {G : Gw} {M : Mp} {H0 : Heap} {b : Nat} {k r u : Int32}
theorem r_getRest (hexec : p.tables.exec = Jvm.exec) (hb : c.code = cc) (hts : ∀ w ∈ lw_all, w.before args s = true) (hown : s.vm.findClass RX1 = some m.cls) (hT : Wt G s) (hR : Rp G M H) (ha : M b = some (stE k r u)) (hdg : decode cc pc = .ok (.getfield 158, 3)) (kk : W p l e R s m args below meth c H locs cells slots Q (F0 m (pc + 3) ls (.int r :: rest))) : W p l e R s m args below meth c H locs cells slots Q (F0 m pc ls (.ref b :: rest)) := by
  unfold stE at ha
  by_cases h0 : k = 0
  · rw [if_pos h0] at ha
    exact va_get (D := G.1) (ci := 3) (v := .int r) (C := RX4) (T := TX4) (N := 1) hexec hb hts in_X4 hown hT.1 (hR.one ha) 0 rfl rfl 0 (by decide) (hts _ q440) (fun _ h9 => h9) rfl hdg kk
  · rw [if_neg h0] at ha
    by_cases h1 : k = 1
    · rw [if_pos h1] at ha
      exact va_get (D := G.1) (ci := 4) (v := .int r) (C := RX7) (T := TX7) (N := 1) hexec hb hts in_X7 hown hT.1 (hR.one ha) 0 rfl rfl 0 (by decide) (hts _ q440) (fun _ h9 => h9) rfl hdg kk
    · rw [if_neg h1] at ha
      exact va_get (D := G.1) (ci := 5) (v := .int r) (C := RX9) (T := TX9) (N := 2) hexec hb hts in_X9 hown hT.1 (hR.one ha) 0 rfl rfl 0 (by decide) (hts _ q440) (fun _ h9 => h9) rfl hdg kk
theorem r_putRest (hexec : p.tables.exec = Jvm.exec) (hb : c.code = cc) (hts : ∀ w ∈ lw_all, w.before args s = true) (hown : s.vm.findClass RX1 = some m.cls) (hT : Wt G s) (hR : Rp G M H) (hS : va_S (Af G) H0 H locs) {v : Int32} (ha : M b = some (stE k r u)) (hdg : decode cc pc = .ok (.putfield 158, 3)) (kk : ∀ (H1 : Heap) (locs1 : List Loc), H1.size = H.size → Rp G (mu M b (stE k v u)) H1 → va_S (Af G) H0 H1 locs1 → W p l e R s m args below meth c H1 locs1 cells slots Q (F0 m (pc + 3) ls (rest))) : W p l e R s m args below meth c H locs cells slots Q (F0 m pc ls (.int v :: .ref b :: rest)) := by
  unfold stE at ha
  by_cases h0 : k = 0
  · rw [if_pos h0] at ha
    refine r_put (ci := 3) (v := .int v) (ty := .int) (C := RX4) (T := TX4) (N := 1) hexec hb hts in_X4 tyX4 tyX4_ok nmX4 hown hT hR hS ha rfl 0 (by decide) (hts _ q440) (fun _ h9 => h9) rfl (by decide +kernel) rfl rfl (Nat.le_of_ble_eq_true rfl) hdg (fun H1 locs1 hz hR1 hS1 => kk H1 locs1 hz (by unfold stE; rw [if_pos h0]; exact hR1) hS1)
  · rw [if_neg h0] at ha
    by_cases h1 : k = 1
    · rw [if_pos h1] at ha
      refine r_put (ci := 4) (v := .int v) (ty := .int) (C := RX7) (T := TX7) (N := 1) hexec hb hts in_X7 tyX7 tyX7_ok nmX7 hown hT hR hS ha rfl 0 (by decide) (hts _ q440) (fun _ h9 => h9) rfl (by decide +kernel) rfl rfl (Nat.le_of_ble_eq_true rfl) hdg (fun H1 locs1 hz hR1 hS1 => kk H1 locs1 hz (by unfold stE; rw [if_neg h0, if_pos h1]; exact hR1) hS1)
    · rw [if_neg h1] at ha
      refine r_put (ci := 5) (v := .int v) (ty := .int) (C := RX9) (T := TX9) (N := 2) hexec hb hts in_X9 tyX9 tyX9_ok nmX9 hown hT hR hS ha rfl 0 (by decide) (hts _ q440) (fun _ h9 => h9) rfl (by decide +kernel) rfl rfl (Nat.le_of_ble_eq_true rfl) hdg (fun H1 locs1 hz hR1 hS1 => kk H1 locs1 hz (by unfold stE; rw [if_neg h0, if_neg h1]; exact hR1) hS1)
theorem r_instOff (hexec : p.tables.exec = Jvm.exec) (hb : c.code = cc) {own : String} {index : Nat} (hown : s.vm.findClass own = some m.cls) (hl : (Cond.classLink own index "CablePlant$Off").before args s = true) (hT : Wt G s) (hR : Rp G M H) (ha : M b = some (stE k r u)) (hdg : decode cc pc = .ok (.instanceof index, 3)) (kk : W p l e R s m args below meth c H locs cells slots Q (F0 m (pc + 3) ls (.int (bI (k = 0)) :: rest))) : W p l e R s m args below meth c H locs cells slots Q (F0 m pc ls (.ref b :: rest)) := by
  unfold stE at ha
  by_cases h0 : k = 0
  · rw [if_pos h0] at ha
    rw [bI_t h0] at kk
    exact va_instS hexec hb hown hl (hT.cls (ci := 3) rfl) (hT.recv hR ha rfl rfl) hdg kk
  · rw [if_neg h0] at ha
    by_cases h1 : k = 1
    · rw [if_pos h1] at ha
      rw [bI_f h0] at kk
      exact va_instNo hexec hb hown hl (hT.nc (A := "CablePlant$Seeking") (B := "CablePlant$Off") (by decide)) (hT.recv hR ha rfl rfl) hdg kk
    · rw [if_neg h1] at ha
      rw [bI_f h0] at kk
      exact va_instNo hexec hb hown hl (hT.nc (A := "CablePlant$Ready") (B := "CablePlant$Off") (by decide)) (hT.recv hR ha rfl rfl) hdg kk
theorem r_instSeek (hexec : p.tables.exec = Jvm.exec) (hb : c.code = cc) {own : String} {index : Nat} (hown : s.vm.findClass own = some m.cls) (hl : (Cond.classLink own index "CablePlant$Seeking").before args s = true) (hT : Wt G s) (hR : Rp G M H) (ha : M b = some (stE k r u)) (hdg : decode cc pc = .ok (.instanceof index, 3)) (kk : W p l e R s m args below meth c H locs cells slots Q (F0 m (pc + 3) ls (.int (bI (k = 1)) :: rest))) : W p l e R s m args below meth c H locs cells slots Q (F0 m pc ls (.ref b :: rest)) := by
  unfold stE at ha
  by_cases h0 : k = 0
  · rw [if_pos h0] at ha
    rw [bI_f (fun q => by rw [h0] at q; exact absurd q (by decide))] at kk
    exact va_instNo hexec hb hown hl (hT.nc (A := "CablePlant$Off") (B := "CablePlant$Seeking") (by decide)) (hT.recv hR ha rfl rfl) hdg kk
  · rw [if_neg h0] at ha
    by_cases h1 : k = 1
    · rw [if_pos h1] at ha
      rw [bI_t h1] at kk
      exact va_instS hexec hb hown hl (hT.cls (ci := 4) rfl) (hT.recv hR ha rfl rfl) hdg kk
    · rw [if_neg h1] at ha
      rw [bI_f h1] at kk
      exact va_instNo hexec hb hown hl (hT.nc (A := "CablePlant$Ready") (B := "CablePlant$Seeking") (by decide)) (hT.recv hR ha rfl rfl) hdg kk
theorem r_instReady (hexec : p.tables.exec = Jvm.exec) (hb : c.code = cc) {own : String} {index : Nat} (hown : s.vm.findClass own = some m.cls) (hl : (Cond.classLink own index "CablePlant$Ready").before args s = true) (hT : Wt G s) (hR : Rp G M H) (ha : M b = some (stE k r u)) (hdg : decode cc pc = .ok (.instanceof index, 3)) (kk : W p l e R s m args below meth c H locs cells slots Q (F0 m (pc + 3) ls (.int (bI (¬ k = 0 ∧ ¬ k = 1)) :: rest))) : W p l e R s m args below meth c H locs cells slots Q (F0 m pc ls (.ref b :: rest)) := by
  unfold stE at ha
  by_cases h0 : k = 0
  · rw [if_pos h0] at ha
    rw [bI_f (fun q => q.1 h0)] at kk
    exact va_instNo hexec hb hown hl (hT.nc (A := "CablePlant$Off") (B := "CablePlant$Ready") (by decide)) (hT.recv hR ha rfl rfl) hdg kk
  · rw [if_neg h0] at ha
    by_cases h1 : k = 1
    · rw [if_pos h1] at ha
      rw [bI_f (fun q => q.2 h1)] at kk
      exact va_instNo hexec hb hown hl (hT.nc (A := "CablePlant$Seeking") (B := "CablePlant$Ready") (by decide)) (hT.recv hR ha rfl rfl) hdg kk
    · rw [if_neg h1] at ha
      rw [bI_t ⟨h0, h1⟩] at kk
      exact va_instS hexec hb hown hl (hT.cls (ci := 5) rfl) (hT.recv hR ha rfl rfl) hdg kk
end RSTATE
theorem CR.st2 {G : Gw} {a : Ad} {N : Cs} {X M : Mp} (h : CR G a N X M) {j : Nat} (hj : j < 6) (hk : ¬ gI N.1 6 j = 0 ∧ ¬ gI N.1 6 j = 1) : M (a.1 (6 + j)) = some (ob 5 [.int (gI N.1 9 j), .int (gI N.1 11 j)]) := by
  have h1 := h.st hj
  unfold stE at h1
  rwa [if_neg hk.1, if_neg hk.2] at h1
theorem CR.su2 {G : Gw} {a : Ad} {N : Cs} {X M : Mp} (h : CR G a N X M) {j : Nat} (hj : j < 6) (hk : ¬ gI N.1 6 j = 0 ∧ ¬ gI N.1 6 j = 1) (v : Int32) : CR G a (sI N.1 11 j v, N.2) X (mu M (a.1 (6 + j)) (ob 5 [.int (gI N.1 9 j), .int v])) := by
  have h1 := h.su hj v
  unfold stE at h1
  rwa [if_neg hk.1, if_neg hk.2] at h1
theorem CR.xnone {G : Gw} {a : Ad} {N : Cs} {X X0 M : Mp} (h : CR G a N X M) (hX : ∀ (b : Nat) (e : va_E), X0 b = some e → X b = some e) {q : Nat} (hq : M q = none) : X0 q = none := by
  cases hz : X0 q with
  | none => rfl
  | some e => rw [h.x (hX q e hz)] at hq; cases hq
theorem CR.pxnone {G : Gw} {a : Ad} {N : Cs} {X M : Mp} (h : CR G a N X M) {q : Nat} (hq : M q = none) {w : Nat} (hw : w < 12) : q ∉ a.2.1 w := by
  intro hm
  obtain ⟨z, hz⟩ := h.pkm hw hm
  rw [hq] at hz
  cases hz
theorem CR.rxnone {G : Gw} {a : Ad} {N : Cs} {X M : Mp} (h : CR G a N X M) {q : Nat} (hq : M q = none) : q ∉ a.2.2.1 := by
  intro hm
  obtain ⟨z, hz⟩ := h.rqm hm
  rw [hq] at hz
  cases hz
theorem CR.tset6 {G : Gw} {a : Ad} {N : Cs} {X M : Mp} (h : CR G a N X M) {q : Nat} {e0 e : va_E} (hq : X q = some e0) (hp : ∀ w, w < 12 → q ∉ a.2.1 w) : CR G a N (mu X q e) (mu M q e) := by
  obtain ⟨y1, y2, y3⟩ := h.2.2.2.2.2.2.2.1 q e0 hq
  have c9 : ∀ i, celR i → i < 59 := fun i hi => by unfold celR at hi; omega
  refine ⟨fun i hi => muL (Ne.symm (y3 i (c9 i hi))) (h.1 i hi), muL (Ne.symm (y3 _ (by decide))) h.rl, muL (Ne.symm (y3 _ (by decide))) h.re, fun w hw => ⟨muL (Ne.symm (y3 _ (by omega))) (h.l hw), muL (Ne.symm (y3 _ (by omega))) (h.e hw)⟩,
    fun w hw => ⟨(map_mu (b := q) (fun y hy z => hp w hw (by rw [← z]; exact hy))).trans (h.2.2.2.2.1 w hw).1, (h.2.2.2.2.1 w hw).2⟩,
    ⟨(map_mu (b := q) (fun y hy z => y2 (by rw [← z]; exact hy))).trans h.2.2.2.2.2.1.1, h.2.2.2.2.2.1.2⟩, h.2.2.2.2.2.2.1, fun b x hb => ?_, h.2.2.2.2.2.2.2.2⟩
  by_cases z : b = q
  · subst z
    rw [mu_eq] at hb
    cases hb
    exact ⟨mu_eq _ _ _, y2, y3⟩
  · rw [mu_ne z] at hb
    obtain ⟨x1, x2, x3⟩ := h.2.2.2.2.2.2.2.1 b x hb
    exact ⟨muL z x1, x2, x3⟩
theorem mu_keep {X0 X : Mp} (h : ∀ (b : Nat) (e : va_E), X0 b = some e → X b = some e) {q : Nat} {e0 : va_E} (hq : X0 q = none) : ∀ (b : Nat) (e : va_E), X0 b = some e → mu X q e0 b = some e :=
  fun b e hb => muL (ne_none hq hb) (h b e hb)
/-- the addresses but for those of the states are as they were -/
def Sm (a a1 : Ad) : Prop := ∀ i, i < 6 ∨ 12 ≤ i → a1.1 i = a.1 i
theorem Sm.rf {a : Ad} : Sm a a := fun _ _ => rfl
theorem Sm.tr {a a1 a2 : Ad} (h : Sm a a1) (h1 : Sm a1 a2) : Sm a a2 := fun i hi => (h1 i hi).trans (h i hi)
theorem Sm.up {a : Ad} {j q : Nat} (hj : j < 6) : Sm a (va_up a.1 (6 + j) q, a.2) := fun i hi => va_up_ne _ _ (by omega)
