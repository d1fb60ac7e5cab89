set_option maxHeartbeats 4000000 in
set_option maxRecDepth 100000 in
theorem met_in (l : Launch) (G : Gw) (M : Mp) (sz : Nat) (v a b : Int32) : Cp l yX1_in cX1_in 3 (some .boolean) 0 [.int v, .int a, .int b] G M sz (some (.int (bI (¬ v < a ∧ ¬ b < v)))) := by
  refine Met.ofW (cc := cX1_in) (maxL := 3) (ret := (some .boolean)) (by decide) rfl ?_
  intro p e s m args below meth c s₁ B hml hv
  obtain ⟨rfl, hT, hR, hsz⟩ := hv
  have hx := B.exec
  have hb := B.bytes
  have hr := B.returns
  have hts := atoms_spec (ws := ws_ yX1_in cX1_in 3 (some .boolean)) B.pre
  have hts : ∀ w ∈ lw_all, w.before _ s = true := fun w h => hts w (List.mem_cons_of_mem _ h)
  have hown : s.vm.findClass RX1 = some m.cls := findClass_of_methodNamed B.named
  have hlocks := B.notSynchronized
  have hS : va_S (Af G) s.heap s.heap [] := va_S.rf
  have hl := lv_entry ([.int v, .int a, .int b]) (n := 3) (Nat.le_of_ble_eq_true rfl)
  rw [lg_entry_eq]
  generalize (lg_sl ([.int v, .int a, .int b]) ++ List.replicate (3 - (lg_sl ([.int v, .int a, .int b])).length) Slot.unset).toArray = ls at hl ⊢
  have hl : lv_has ls 3 [(0, .int v), (1, .int a), (2, .int b)] := hl
  refine lv_iload_n hx hb dX1_in_0 rfl (lv_at hl 0 rfl) ?_
  refine lv_iload_n hx hb dX1_in_1 rfl (lv_at hl 1 rfl) ?_
  refine lv_icmp_lt (tgt := 14) hx hb dX1_in_2 (by decide) (fun c_1 => ?_) (fun c_1 => ?_)
  · skip
    refine lv_iconst (v := 0) hx hb dX1_in_14 (by decide) ?_
    exact W.zret hx hb hr rfl (fun t ht _ => ⟨(by rw [bI_f (fun h => h.1 c_1)]), ht⟩) t_nil dX1_in_15
  · skip
    refine lv_iload_n hx hb dX1_in_5 rfl (lv_at hl 0 rfl) ?_
    refine lv_iload_n hx hb dX1_in_6 rfl (lv_at hl 2 rfl) ?_
    refine lv_icmp_gt (tgt := 14) hx hb dX1_in_7 (by decide) (fun c_2 => ?_) (fun c_2 => ?_)
    · skip
      refine lv_iconst (v := 0) hx hb dX1_in_14 (by decide) ?_
      exact W.zret hx hb hr rfl (fun t ht _ => ⟨(by rw [bI_f (fun h => h.2 c_2)]), ht⟩) t_nil dX1_in_15
    · skip
      refine lv_iconst (v := 1) hx hb dX1_in_10 (by decide) ?_
      refine lv_goto (tgt := 15) hx hb dX1_in_11 (by decide) ?_
      exact W.zret hx hb hr rfl (fun t ht _ => ⟨(by rw [bI_t ⟨c_1, c_2⟩]), ht⟩) t_nil dX1_in_15
set_option maxHeartbeats 4000000 in
set_option maxRecDepth 100000 in
theorem met_between (l : Launch) (G : Gw) (M : Mp) (sz : Nat) (v a b : UInt64) : Cp l yX1_between cX1_between 6 (some .boolean) 0 [.double v, .double a, .double b] G M sz (some (.int (bI (btw v a b)))) := by
  refine Met.ofW (cc := cX1_between) (maxL := 6) (ret := (some .boolean)) (by decide) rfl ?_
  intro p e s m args below meth c s₁ B hml hv
  obtain ⟨rfl, hT, hR, hsz⟩ := hv
  have hx := B.exec
  have hb := B.bytes
  have hr := B.returns
  have hts := atoms_spec (ws := ws_ yX1_between cX1_between 6 (some .boolean)) B.pre
  have hts : ∀ w ∈ lw_all, w.before _ s = true := fun w h => hts w (List.mem_cons_of_mem _ h)
  have hown : s.vm.findClass RX1 = some m.cls := findClass_of_methodNamed B.named
  have hlocks := B.notSynchronized
  have hS : va_S (Af G) s.heap s.heap [] := va_S.rf
  have hl := lv_entry ([.double v, .double a, .double b]) (n := 6) (Nat.le_of_ble_eq_true rfl)
  rw [lg_entry_eq]
  generalize (lg_sl ([.double v, .double a, .double b]) ++ List.replicate (6 - (lg_sl ([.double v, .double a, .double b])).length) Slot.unset).toArray = ls at hl ⊢
  have hl : lv_has ls 6 [(0, .double v), (2, .double a), (4, .double b)] := hl
  refine lv_dload_n hx hb dX1_between_0 rfl (lv_at hl 0 rfl) ?_
  refine lv_dload_n hx hb dX1_between_1 rfl (lv_at hl 1 rfl) ?_
  refine lv_dcmp hx hb dX1_between_2 ?_
  refine lv_if_lt (tgt := 17) hx hb dX1_between_3 (by decide) (fun c_1 => ?_) (fun c_1 => ?_)
  · skip
    refine lv_iconst (v := 0) hx hb dX1_between_17 (by decide) ?_
    exact W.zret hx hb hr rfl (fun t ht _ => ⟨(by rw [bI_f (fun h => h.1 c_1)]), ht⟩) t_nil dX1_between_18
  · skip
    refine lv_dload_n hx hb dX1_between_6 rfl (lv_at hl 0 rfl) ?_
    refine lv_dload hx hb dX1_between_7 (lv_at hl 2 rfl) ?_
    refine lv_dcmp hx hb dX1_between_9 ?_
    refine lv_if_gt (tgt := 17) hx hb dX1_between_10 (by decide) (fun c_2 => ?_) (fun c_2 => ?_)
    · skip
      refine lv_iconst (v := 0) hx hb dX1_between_17 (by decide) ?_
      exact W.zret hx hb hr rfl (fun t ht _ => ⟨(by rw [bI_f (fun h => h.2 c_2)]), ht⟩) t_nil dX1_between_18
    · skip
      refine lv_iconst (v := 1) hx hb dX1_between_13 (by decide) ?_
      refine lv_goto (tgt := 18) hx hb dX1_between_14 (by decide) ?_
      exact W.zret hx hb hr rfl (fun t ht _ => ⟨(by rw [bI_t ⟨c_1, c_2⟩]), ht⟩) t_nil dX1_between_18
set_option maxHeartbeats 4000000 in
set_option maxRecDepth 100000 in
theorem met_late (l : Launch) (G : Gw) (M : Mp) (sz : Nat) (a : Nat) (di lo of ga : UInt64) (ch ke : Int32) (sa fa : Nat) (ha : M a = some (ob 1 [.double di, .double lo, .double of, .double ga, .int ch, .int ke, .ref sa, .ref fa])) (hn : okLate di of) : Cp l yX2_late cX2_late 1 (some .double) 0 [.ref a] G M sz (some (.double (lateV di of))) := by
  refine Met.ofW (cc := cX2_late) (maxL := 1) (ret := (some .double)) (by decide) rfl ?_
  intro p e s m args below meth c s₁ B hml hv
  obtain ⟨rfl, hT, hR, hsz⟩ := hv
  have hx := B.exec
  have hb := B.bytes
  have hr := B.returns
  have hts := atoms_spec (ws := ws_ yX2_late cX2_late 1 (some .double)) B.pre
  have hts : ∀ w ∈ lw_all, w.before _ s = true := fun w h => hts w (List.mem_cons_of_mem _ h)
  have hown : s.vm.findClass RX2 = some m.cls := findClass_of_methodNamed B.named
  have hlocks := B.notSynchronized
  have hS : va_S (Af G) s.heap s.heap [] := va_S.rf
  have hl := lv_entry ([.ref a]) (n := 1) (Nat.le_of_ble_eq_true rfl)
  rw [lg_entry_eq]
  generalize (lg_sl ([.ref a]) ++ List.replicate (1 - (lg_sl ([.ref a])).length) Slot.unset).toArray = ls at hl ⊢
  have hl : lv_has ls 1 [(0, .ref a)] := hl
  refine lv_aload_n hx hb dX2_late_0 rfl (lv_at hl 0 rfl) ?_
  refine va_get (D := G.1) (ci := 1) (v := .double di) (C := RX2) (T := TX2) (N := 8) hx hb hts in_X2 hown hT.1 (hR.one ha) 0 rfl rfl 0 (by decide) (hts _ q472) (fun _ h9 => h9) rfl dX2_late_1 ?_
  refine lv_ldc2d (v := c05) hx hb hown (hts _ q554) dX2_late_4 ?_
  refine lv_dmul hx hb dX2_late_7 hn.1 ?_
  refine lv_aload_n hx hb dX2_late_8 rfl (lv_at hl 0 rfl) ?_
  refine va_get (D := G.1) (ci := 1) (v := .double of) (C := RX2) (T := TX2) (N := 8) hx hb hts in_X2 hown hT.1 (hR.one ha) 0 rfl rfl 2 (by decide) (hts _ q476) (fun _ h9 => h9) rfl dX2_late_9 ?_
  refine lv_dsub hx hb dX2_late_12 hn.2 ?_
  exact W.dret hx hb hr (fun t ht _ => ⟨rfl, ht⟩) t_nil dX2_late_13
set_option maxHeartbeats 4000000 in
set_option maxRecDepth 100000 in
theorem met_strong (l : Launch) (G : Gw) (M : Mp) (sz : Nat) (a : Nat) (di lo of ga : UInt64) (ch ke : Int32) (sa fa : Nat) (ha : M a = some (ob 1 [.double di, .double lo, .double of, .double ga, .int ch, .int ke, .ref sa, .ref fa])) (hn : okStrong lo ga) : Cp l yX2_strong cX2_strong 1 (some .double) 0 [.ref a] G M sz (some (.double (strongV ga lo))) := by
  refine Met.ofW (cc := cX2_strong) (maxL := 1) (ret := (some .double)) (by decide) rfl ?_
  intro p e s m args below meth c s₁ B hml hv
  obtain ⟨rfl, hT, hR, hsz⟩ := hv
  have hx := B.exec
  have hb := B.bytes
  have hr := B.returns
  have hts := atoms_spec (ws := ws_ yX2_strong cX2_strong 1 (some .double)) B.pre
  have hts : ∀ w ∈ lw_all, w.before _ s = true := fun w h => hts w (List.mem_cons_of_mem _ h)
  have hown : s.vm.findClass RX2 = some m.cls := findClass_of_methodNamed B.named
  have hlocks := B.notSynchronized
  have hS : va_S (Af G) s.heap s.heap [] := va_S.rf
  have hl := lv_entry ([.ref a]) (n := 1) (Nat.le_of_ble_eq_true rfl)
  rw [lg_entry_eq]
  generalize (lg_sl ([.ref a]) ++ List.replicate (1 - (lg_sl ([.ref a])).length) Slot.unset).toArray = ls at hl ⊢
  have hl : lv_has ls 1 [(0, .ref a)] := hl
  refine lv_aload_n hx hb dX2_strong_0 rfl (lv_at hl 0 rfl) ?_
  refine va_get (D := G.1) (ci := 1) (v := .double ga) (C := RX2) (T := TX2) (N := 8) hx hb hts in_X2 hown hT.1 (hR.one ha) 0 rfl rfl 3 (by decide) (hts _ q478) (fun _ h9 => h9) rfl dX2_strong_1 ?_
  refine lv_aload_n hx hb dX2_strong_4 rfl (lv_at hl 0 rfl) ?_
  refine va_get (D := G.1) (ci := 1) (v := .double lo) (C := RX2) (T := TX2) (N := 8) hx hb hts in_X2 hown hT.1 (hR.one ha) 0 rfl rfl 1 (by decide) (hts _ q474) (fun _ h9 => h9) rfl dX2_strong_5 ?_
  refine lv_dsub hx hb dX2_strong_8 hn ?_
  exact W.dret hx hb hr (fun t ht _ => ⟨rfl, ht⟩) t_nil dX2_strong_9
set_option maxHeartbeats 4000000 in
set_option maxRecDepth 100000 in
theorem met_fine (l : Launch) (G : Gw) (M : Mp) (sz : Nat) (a : Nat) (di lo of ga : UInt64) (ch ke : Int32) (sa fa : Nat) (ha : M a = some (ob 1 [.double di, .double lo, .double of, .double ga, .int ch, .int ke, .ref sa, .ref fa])) (hn : okLate di of) (hs : okStrong lo ga) : Cp l yX2_fine cX2_fine 1 (some .boolean) 1 [.ref a] G M sz (some (.int (bI (fineV di lo of ga)))) := by
  refine Met.ofW (cc := cX2_fine) (maxL := 1) (ret := (some .boolean)) (by decide) rfl ?_
  intro p e s m args below meth c s₁ B hml hv
  obtain ⟨rfl, hT, hR, hsz⟩ := hv
  have hx := B.exec
  have hb := B.bytes
  have hr := B.returns
  have hts := atoms_spec (ws := ws_ yX2_fine cX2_fine 1 (some .boolean)) B.pre
  have hts : ∀ w ∈ lw_all, w.before _ s = true := fun w h => hts w (List.mem_cons_of_mem _ h)
  have hown : s.vm.findClass RX2 = some m.cls := findClass_of_methodNamed B.named
  have hlocks := B.notSynchronized
  have hS : va_S (Af G) s.heap s.heap [] := va_S.rf
  have hl := lv_entry ([.ref a]) (n := 1) (Nat.le_of_ble_eq_true rfl)
  rw [lg_entry_eq]
  generalize (lg_sl ([.ref a]) ++ List.replicate (1 - (lg_sl ([.ref a])).length) Slot.unset).toArray = ls at hl ⊢
  have hl : lv_has ls 1 [(0, .ref a)] := hl
  refine lv_aload_n hx hb dX2_fine_0 rfl (lv_at hl 0 rfl) ?_
  refine g_pure (va_runV (As := []) (rest := []) ⟨hx, hb, hml, hown, hts⟩ (met_late l G M _ a di lo of ga ch ke sa fa ha hn) (cwV 0 hts (lw_V q550 q551 q552 q57 q553) rfl rfl rfl (by decide +kernel) ⟨Nat.le_of_ble_eq_true rfl, Nat.le_of_ble_eq_true rfl⟩) (preV hT hR hS ha rfl rfl) rfl rfl hl.1 rfl (lv_room (Nat.le_of_ble_eq_true rfl)) dX2_fine_1 ⟨Nat.le_of_ble_eq_true rfl, Nat.le_of_ble_eq_true rfl⟩) ?_
  refine W.eq (g2 := F0 m 4 ls [.double (lateV di of)]) rfl ?_
  refine lv_ldc2d (v := cm05) hx hb hown (hts _ q555) dX2_fine_4 ?_
  refine lv_ldc2d (v := c05) hx hb hown (hts _ q554) dX2_fine_7 ?_
  refine g_pure (va_runSN (As := [.double (lateV di of), .double cm05, .double c05]) (rest := []) ⟨hx, hb, hml, hown, hts⟩ (met_between l G M _ (lateV di of) cm05 c05) ⟨va_cnB 3 hts (lw_meth q558) rfl rfl rfl (hT.nw q556 rfl) (hts _ q37) (by decide +kernel) ⟨Nat.le_of_ble_eq_true rfl, Nat.le_of_ble_eq_true rfl⟩, hts _ q557, trivial⟩ (preS hT hR hS) rfl rfl hl.1 rfl (lv_room (Nat.le_of_ble_eq_true rfl)) dX2_fine_10 ⟨Nat.le_of_ble_eq_true rfl, Nat.le_of_ble_eq_true rfl⟩) ?_
  refine W.eq (g2 := F0 m 13 ls [.int (bI (btw (lateV di of) cm05 c05))]) rfl ?_
  refine lv_if_eq (tgt := 36) hx hb dX2_fine_13 (by decide) (fun c_1 => ?_) (fun c_1 => ?_)
  · skip
    have c_1 := b_0 c_1
    refine lv_iconst (v := 0) hx hb dX2_fine_36 (by decide) ?_
    exact W.zret hx hb hr rfl (fun t ht _ => ⟨(by rw [bI_f (fun h => c_1 h.1)]), ht⟩) t_nil dX2_fine_37
  · skip
    have c_1 := b_n0 c_1
    refine lv_aload_n hx hb dX2_fine_16 rfl (lv_at hl 0 rfl) ?_
    refine g_pure (va_runV (As := []) (rest := []) ⟨hx, hb, hml, hown, hts⟩ (met_strong l G M _ a di lo of ga ch ke sa fa ha hs) (cwV 0 hts (lw_V q559 q560 q561 q57 q562) rfl rfl rfl (by decide +kernel) ⟨Nat.le_of_ble_eq_true rfl, Nat.le_of_ble_eq_true rfl⟩) (preV hT hR hS ha rfl rfl) rfl rfl hl.1 rfl (lv_room (Nat.le_of_ble_eq_true rfl)) dX2_fine_17 ⟨Nat.le_of_ble_eq_true rfl, Nat.le_of_ble_eq_true rfl⟩) ?_
    refine W.eq (g2 := F0 m 20 ls [.double (strongV ga lo)]) rfl ?_
    refine lv_ldc2d (v := cm05) hx hb hown (hts _ q555) dX2_fine_20 ?_
    refine lv_ldc2d (v := c05) hx hb hown (hts _ q554) dX2_fine_23 ?_
    refine g_pure (va_runSN (As := [.double (strongV ga lo), .double cm05, .double c05]) (rest := []) ⟨hx, hb, hml, hown, hts⟩ (met_between l G M _ (strongV ga lo) cm05 c05) ⟨va_cnB 3 hts (lw_meth q558) rfl rfl rfl (hT.nw q556 rfl) (hts _ q37) (by decide +kernel) ⟨Nat.le_of_ble_eq_true rfl, Nat.le_of_ble_eq_true rfl⟩, hts _ q557, trivial⟩ (preS hT hR hS) rfl rfl hl.1 rfl (lv_room (Nat.le_of_ble_eq_true rfl)) dX2_fine_26 ⟨Nat.le_of_ble_eq_true rfl, Nat.le_of_ble_eq_true rfl⟩) ?_
    refine W.eq (g2 := F0 m 29 ls [.int (bI (btw (strongV ga lo) cm05 c05))]) rfl ?_
    refine lv_if_eq (tgt := 36) hx hb dX2_fine_29 (by decide) (fun c_2 => ?_) (fun c_2 => ?_)
    · skip
      have c_2 := b_0 c_2
      refine lv_iconst (v := 0) hx hb dX2_fine_36 (by decide) ?_
      exact W.zret hx hb hr rfl (fun t ht _ => ⟨(by rw [bI_f (fun h => c_2 h.2)]), ht⟩) t_nil dX2_fine_37
    · skip
      have c_2 := b_n0 c_2
      refine lv_iconst (v := 1) hx hb dX2_fine_32 (by decide) ?_
      refine lv_goto (tgt := 37) hx hb dX2_fine_33 (by decide) ?_
      exact W.zret hx hb hr rfl (fun t ht _ => ⟨(by rw [bI_t ⟨c_1, c_2⟩]), ht⟩) t_nil dX2_fine_37
set_option maxHeartbeats 4000000 in
set_option maxRecDepth 100000 in
theorem met_draw (l : Launch) (G : Gw) (M : Mp) (sz : Nat) (a : Nat) (di lo of ga : UInt64) (ch ke : Int32) (sa fa : Nat) (ha : M a = some (ob 1 [.double di, .double lo, .double of, .double ga, .int ch, .int ke, .ref sa, .ref fa])) (n : Int32) (hn : ¬ n = 0) : Ct l yX2_draw cX2_draw 2 (some .int) 0 0 0 [.ref a, .int n] G M sz (fun v M1 z => v = some (.int (drawR ch n)) ∧ M1 = mu M a (ob 1 [.double di, .double lo, .double of, .double ga, .int (drawC ch), .int ke, .ref sa, .ref fa]) ∧ z = sz) := by
  refine Met.ofW (cc := cX2_draw) (maxL := 2) (ret := (some .int)) (by decide) rfl ?_
  intro p e s m args below meth c s₁ B hml hv
  obtain ⟨rfl, hT, hR, hsz⟩ := hv
  have hx := B.exec
  have hb := B.bytes
  have hr := B.returns
  have hts := atoms_spec (ws := ws_ yX2_draw cX2_draw 2 (some .int)) B.pre
  have hts : ∀ w ∈ lw_all, w.before _ s = true := fun w h => hts w (List.mem_cons_of_mem _ h)
  have hown : s.vm.findClass RX2 = some m.cls := findClass_of_methodNamed B.named
  have hlocks := B.notSynchronized
  have hS : va_S (Af G) s.heap s.heap [] := va_S.rf
  have hl := lv_entry ([.ref a, .int n]) (n := 2) (Nat.le_of_ble_eq_true rfl)
  rw [lg_entry_eq]
  generalize (lg_sl ([.ref a, .int n]) ++ List.replicate (2 - (lg_sl ([.ref a, .int n])).length) Slot.unset).toArray = ls at hl ⊢
  have hl : lv_has ls 2 [(0, .ref a), (1, .int n)] := hl
  refine lv_aload_n hx hb dX2_draw_0 rfl (lv_at hl 0 rfl) ?_
  refine lv_aload_n hx hb dX2_draw_1 rfl (lv_at hl 0 rfl) ?_
  refine va_get (D := G.1) (ci := 1) (v := .int ch) (C := RX2) (T := TX2) (N := 8) hx hb hts in_X2 hown hT.1 (hR.one ha) 0 rfl rfl 4 (by decide) (hts _ q480) (fun _ h9 => h9) rfl dX2_draw_2 ?_
  refine lv_ldc (v := 1103515245) hx hb hown (hts _ q883) dX2_draw_5 ?_
  refine lv_imul hx hb dX2_draw_7 ?_
  refine lv_sipush (v := 12345) hx hb dX2_draw_8 (by decide) ?_
  refine lv_iadd hx hb dX2_draw_11 ?_
  refine W.eq (g2 := F0 m 12 ls (.int (drawC ch) :: [.ref a])) (by rw [show ch * 1103515245 + 12345 = drawC ch from rfl]) ?_
  refine r_put (ci := 1) (v := .int (drawC ch)) (ty := .int) (C := RX2) (T := TX2) (N := 8) hx hb hts in_X2 tyX2 tyX2_ok nmX2 hown hT hR hS ha rfl 4 (by decide) (hts _ q480) (fun _ h9 => h9) rfl (by decide +kernel) rfl rfl (Nat.le_of_ble_eq_true rfl) dX2_draw_12 (fun H locs hz hR hS => ?_)
  have hsz : H.size = sz := hz.trans hsz
  have hR : Rp G (mu M a (ob 1 [.double di, .double lo, .double of, .double ga, .int (drawC ch), .int ke, .ref sa, .ref fa])) H := hR
  refine lv_aload_n hx hb dX2_draw_15 rfl (lv_at hl 0 rfl) ?_
  refine va_get (D := G.1) (ci := 1) (v := .int (drawC ch)) (C := RX2) (T := TX2) (N := 8) hx hb hts in_X2 hown hT.1 (hR.one (mu_eq _ _ _)) 0 rfl rfl 4 (by decide) (hts _ q480) (fun _ h9 => h9) rfl dX2_draw_16 ?_
  refine lv_bipush (v := 16) hx hb dX2_draw_19 (by decide) ?_
  refine lv_iushr (v := ((drawC ch).toUInt32 >>> ((16 : Int32).toUInt32 &&& Int32.toUInt32 31)).toInt32) hx hb dX2_draw_21 rfl ?_
  refine lv_iload_n hx hb dX2_draw_22 rfl (lv_at hl 1 rfl) ?_
  refine lv_irem hx hb dX2_draw_23 hn ?_
  exact W.iret hx hb hr (q_ret (⟨rfl, rfl, hsz⟩) hR hS) hS.2.2 dX2_draw_24
set_option maxHeartbeats 4000000 in
set_option maxRecDepth 100000 in
theorem met_adjust (l : Launch) (G : Gw) (M : Mp) (sz : Nat) (a : Nat) (di lo of ga : UInt64) (ch ke : Int32) (sa fa : Nat) (ha : M a = some (ob 1 [.double di, .double lo, .double of, .double ga, .int ch, .int ke, .ref sa, .ref fa])) (hn : okLate di of) (hs : okStrong lo ga) (hj : okAdj di lo of ga) : Ct l yX2_adjust cX2_adjust 5 none 1 0 0 [.ref a] G M sz (fun v M1 z => v = none ∧ M1 = mu M a (ob 1 [.double di, .double lo, .double (offN di of), .double (gainN lo ga), .int ch, .int ke, .ref sa, .ref fa]) ∧ z = sz) := by
  refine Met.ofW (cc := cX2_adjust) (maxL := 5) (ret := none) (by decide) rfl ?_
  intro p e s m args below meth c s₁ B hml hv
  obtain ⟨rfl, hT, hR, hsz⟩ := hv
  have hx := B.exec
  have hb := B.bytes
  have hr := B.returns
  have hts := atoms_spec (ws := ws_ yX2_adjust cX2_adjust 5 none) B.pre
  have hts : ∀ w ∈ lw_all, w.before _ s = true := fun w h => hts w (List.mem_cons_of_mem _ h)
  have hown : s.vm.findClass RX2 = some m.cls := findClass_of_methodNamed B.named
  have hlocks := B.notSynchronized
  have hS : va_S (Af G) s.heap s.heap [] := va_S.rf
  have hl := lv_entry ([.ref a]) (n := 5) (Nat.le_of_ble_eq_true rfl)
  rw [lg_entry_eq]
  generalize (lg_sl ([.ref a]) ++ List.replicate (5 - (lg_sl ([.ref a])).length) Slot.unset).toArray = ls at hl ⊢
  have hl : lv_has ls 5 [(0, .ref a)] := hl
  refine lv_aload_n hx hb dX2_adjust_0 rfl (lv_at hl 0 rfl) ?_
  refine g_pure (va_runV (As := []) (rest := []) ⟨hx, hb, hml, hown, hts⟩ (met_late l G M _ a di lo of ga ch ke sa fa ha hn) (cwV 0 hts (lw_V q550 q551 q552 q57 q553) rfl rfl rfl (by decide +kernel) ⟨Nat.le_of_ble_eq_true rfl, Nat.le_of_ble_eq_true rfl⟩) (preV hT hR hS ha rfl rfl) rfl rfl hl.1 rfl (lv_room (Nat.le_of_ble_eq_true rfl)) dX2_adjust_1 ⟨Nat.le_of_ble_eq_true rfl, Nat.le_of_ble_eq_true rfl⟩) ?_
  refine W.eq (g2 := F0 m 4 ls [.double (lateV di of)]) rfl ?_
  refine lv_dstore_n (lv' := [(1, .double (lateV di of)), (0, .ref a)]) hx hb dX2_adjust_4 rfl hl (by decide) rfl (fun ls hl => ?_)
  refine lv_aload_n hx hb dX2_adjust_5 rfl (lv_at hl 1 rfl) ?_
  refine g_pure (va_runV (As := []) (rest := []) ⟨hx, hb, hml, hown, hts⟩ (met_strong l G M _ a di lo of ga ch ke sa fa ha hs) (cwV 0 hts (lw_V q559 q560 q561 q57 q562) rfl rfl rfl (by decide +kernel) ⟨Nat.le_of_ble_eq_true rfl, Nat.le_of_ble_eq_true rfl⟩) (preV hT hR hS ha rfl rfl) rfl rfl hl.1 rfl (lv_room (Nat.le_of_ble_eq_true rfl)) dX2_adjust_6 ⟨Nat.le_of_ble_eq_true rfl, Nat.le_of_ble_eq_true rfl⟩) ?_
  refine W.eq (g2 := F0 m 9 ls [.double (strongV ga lo)]) rfl ?_
  refine lv_dstore_n (lv' := [(3, .double (strongV ga lo)), (1, .double (lateV di of)), (0, .ref a)]) hx hb dX2_adjust_9 rfl hl (by decide) rfl (fun ls hl => ?_)
  refine lv_aload_n hx hb dX2_adjust_10 rfl (lv_at hl 2 rfl) ?_
  refine lv_aload_n hx hb dX2_adjust_11 rfl (lv_at hl 2 rfl) ?_
  refine va_get (D := G.1) (ci := 1) (v := .double of) (C := RX2) (T := TX2) (N := 8) hx hb hts in_X2 hown hT.1 (hR.one ha) 0 rfl rfl 2 (by decide) (hts _ q476) (fun _ h9 => h9) rfl dX2_adjust_12 ?_
  refine lv_dload_n hx hb dX2_adjust_15 rfl (lv_at hl 1 rfl) ?_
  refine lv_ldc2d (v := c075) hx hb hown (hts _ q888) dX2_adjust_16 ?_
  refine lv_dmul hx hb dX2_adjust_19 hj.1 ?_
  refine lv_dadd hx hb dX2_adjust_20 hj.2.1 ?_
  refine r_put (ci := 1) (v := .double (FP.dadd of (FP.dmul (lateV di of) c075))) (ty := .double) (C := RX2) (T := TX2) (N := 8) hx hb hts in_X2 tyX2 tyX2_ok nmX2 hown hT hR hS ha rfl 2 (by decide) (hts _ q476) (fun _ h9 => h9) rfl (by decide +kernel) rfl rfl (Nat.le_of_ble_eq_true rfl) dX2_adjust_21 (fun H locs hz hR hS => ?_)
  have hsz : H.size = sz := hz.trans hsz
  have hR : Rp G (mu M a (ob 1 [.double di, .double lo, .double (FP.dadd of (FP.dmul (lateV di of) c075)), .double ga, .int ch, .int ke, .ref sa, .ref fa])) H := hR
  refine lv_aload_n hx hb dX2_adjust_24 rfl (lv_at hl 2 rfl) ?_
  refine lv_aload_n hx hb dX2_adjust_25 rfl (lv_at hl 2 rfl) ?_
  refine va_get (D := G.1) (ci := 1) (v := .double ga) (C := RX2) (T := TX2) (N := 8) hx hb hts in_X2 hown hT.1 (hR.one (mu_eq _ _ _)) 0 rfl rfl 3 (by decide) (hts _ q478) (fun _ h9 => h9) rfl dX2_adjust_26 ?_
  refine lv_dload_n hx hb dX2_adjust_29 rfl (lv_at hl 0 rfl) ?_
  refine lv_ldc2d (v := c075) hx hb hown (hts _ q888) dX2_adjust_30 ?_
  refine lv_dmul hx hb dX2_adjust_33 hj.2.2.1 ?_
  refine lv_dsub hx hb dX2_adjust_34 hj.2.2.2 ?_
  refine r_put (ci := 1) (v := .double (FP.dsub ga (FP.dmul (strongV ga lo) c075))) (ty := .double) (C := RX2) (T := TX2) (N := 8) hx hb hts in_X2 tyX2 tyX2_ok nmX2 hown hT hR hS (mu_eq _ _ _) rfl 3 (by decide) (hts _ q478) (fun _ h9 => h9) rfl (by decide +kernel) rfl rfl (Nat.le_of_ble_eq_true rfl) dX2_adjust_35 (fun H locs hz hR hS => ?_)
  have hsz : H.size = sz := hz.trans hsz
  have hR : Rp G (mu (mu M a (ob 1 [.double di, .double lo, .double (FP.dadd of (FP.dmul (lateV di of) c075)), .double ga, .int ch, .int ke, .ref sa, .ref fa])) a (ob 1 [.double di, .double lo, .double (FP.dadd of (FP.dmul (lateV di of) c075)), .double (FP.dsub ga (FP.dmul (strongV ga lo) c075)), .int ch, .int ke, .ref sa, .ref fa])) H := hR
  exact W.vret hx hb hr (q_ret (⟨rfl, mu_mu _ _ _ _, hsz⟩) hR hS) hS.2.2 dX2_adjust_38
