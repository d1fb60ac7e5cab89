set_option maxHeartbeats 4000000 in
set_option maxRecDepth 100000 in
theorem met_recinit (l : Launch) (G : Gw) (M : Mp) (sz : Nat) (a : Nat) : Cp l yJ21_init cJ21_init 1 none 1 [.ref a] G M sz (none) := by
  refine Met.ofW (cc := cJ21_init) (maxL := 1) (ret := none) (by decide) rfl ?_
  intro p e s m args below meth c s₁ B hml hv
  obtain ⟨rfl, hT, hR, hsz⟩ := hv
  have hx := B.exec
  have hb := B.bytes
  have hr := B.returns
  have hts := atoms_spec (ws := ws_ yJ21_init cJ21_init 1 none) B.pre
  have hts : ∀ w ∈ lw_all, w.before _ s = true := fun w h => hts w (List.mem_cons_of_mem _ h)
  have hown : s.vm.findClass RJ21 = some m.cls := findClass_of_methodNamed B.named
  have hlocks := B.notSynchronized
  have hin : meth.name = "<init>" := (name_of_methodNamed B.named B.method).1
  have hS : va_S (Af G) s.heap s.heap [] := va_S.rf
  have hl := lv_entry ([.ref a]) (n := 1) (Nat.le_of_ble_eq_true rfl)
  rw [lg_entry_eq]
  generalize (lg_sl ([.ref a]) ++ List.replicate (1 - (lg_sl ([.ref a])).length) Slot.unset).toArray = ls at hl ⊢
  have hl : lv_has ls 1 [(0, .ref a)] := hl
  refine lv_aload_n hx hb dJ21_init_0 rfl (lv_at hl 0 rfl) ?_
  refine W.objInit hx hb hown (hts _ q802) (hts _ q78) (hts _ q79) rfl (by rw [hml]; exact hl.1) rfl dJ21_init_1 (Nat.le_of_ble_eq_true rfl) (Nat.le_of_ble_eq_true rfl) ?_
  refine W.eq (g2 := F0 m 4 ls []) rfl ?_
  exact W.vret hx hb hr (fun t ht _ => ⟨rfl, ht⟩) t_nil dJ21_init_4
set_option maxHeartbeats 4000000 in
set_option maxRecDepth 100000 in
theorem met_pkinit (l : Launch) (G : Gw) (M : Mp) (sz : Nat) (a : Nat) (z v : Int32) (ha : M a = some (ob 6 [.int 0, .int 0])) : Ct l yX8_init cX8_init 3 none 2 0 0 [.ref a, .int z, .int v] G M sz (fun r M1 _ => r = none ∧ M1 = mu M a (ob 6 [.int z, .int v])) := by
  refine Met.ofW (cc := cX8_init) (maxL := 3) (ret := none) (by decide) rfl ?_
  intro p e s m args below meth c s₁ B hml hv
  obtain ⟨rfl, hT, hR, hsz⟩ := hv
  have hx := B.exec
  have hb := B.bytes
  have hr := B.returns
  have hts := atoms_spec (ws := ws_ yX8_init cX8_init 3 none) B.pre
  have hts : ∀ w ∈ lw_all, w.before _ s = true := fun w h => hts w (List.mem_cons_of_mem _ h)
  have hown : s.vm.findClass RX8 = some m.cls := findClass_of_methodNamed B.named
  have hlocks := B.notSynchronized
  have hin : meth.name = "<init>" := (name_of_methodNamed B.named B.method).1
  have hS : va_S (Af G) s.heap s.heap [] := va_S.rf
  have hl := lv_entry ([.ref a, .int z, .int v]) (n := 3) (Nat.le_of_ble_eq_true rfl)
  rw [lg_entry_eq]
  generalize (lg_sl ([.ref a, .int z, .int v]) ++ List.replicate (3 - (lg_sl ([.ref a, .int z, .int v])).length) Slot.unset).toArray = ls at hl ⊢
  have hl : lv_has ls 3 [(0, .ref a), (1, .int z), (2, .int v)] := hl
  refine lv_aload_n hx hb dX8_init_0 rfl (lv_at hl 0 rfl) ?_
  refine g_pure (va_runI (As := []) (rest := []) ⟨hx, hb, hml, hown, hts⟩ (met_recinit l G M _ a) (cwI 0 hts (lw_meth q801) rfl rfl rfl (hts _ q67) (hts _ q799) (hts _ q800) rfl (by decide +kernel) ⟨Nat.le_of_ble_eq_true rfl, Nat.le_of_ble_eq_true rfl⟩) (preS hT hR hS) rfl rfl hl.1 rfl (lv_room (Nat.le_of_ble_eq_true rfl)) dX8_init_1 ⟨Nat.le_of_ble_eq_true rfl, Nat.le_of_ble_eq_true rfl⟩) ?_
  refine W.eq (g2 := F0 m 4 ls []) rfl ?_
  refine lv_aload_n hx hb dX8_init_4 rfl (lv_at hl 0 rfl) ?_
  refine lv_iload_n hx hb dX8_init_5 rfl (lv_at hl 1 rfl) ?_
  refine r_putF (ci := 6) (v := .int z) (ty := .int) (C := RX8) (T := TX8) (N := 2) hx hb hts in_X8 tyX8 tyX8_ok nmX8 hown hT hR hS ha rfl 0 (by decide) (hts _ q803) (fun _ h9 => h9) rfl hin rfl (by decide +kernel) rfl rfl (Nat.le_of_ble_eq_true rfl) dX8_init_6 (fun H locs hz hR hS => ?_)
  have hsz : H.size = sz := hz.trans hsz
  have hR : Rp G (mu M a (ob 6 [.int z, .int 0])) H := hR
  refine lv_aload_n hx hb dX8_init_9 rfl (lv_at hl 0 rfl) ?_
  refine lv_iload_n hx hb dX8_init_10 rfl (lv_at hl 2 rfl) ?_
  refine r_putF (ci := 6) (v := .int v) (ty := .int) (C := RX8) (T := TX8) (N := 2) hx hb hts in_X8 tyX8 tyX8_ok nmX8 hown hT hR hS (mu_eq _ _ _) rfl 1 (by decide) (hts _ q804) (fun _ h9 => h9) rfl hin rfl (by decide +kernel) rfl rfl (Nat.le_of_ble_eq_true rfl) dX8_init_11 (fun H locs hz hR hS => ?_)
  have hsz : H.size = sz := hz.trans hsz
  have hR : Rp G (mu (mu M a (ob 6 [.int z, .int 0])) a (ob 6 [.int z, .int v])) H := hR
  exact W.vret hx hb hr (q_ret (⟨rfl, mu_mu _ _ _ _⟩) hR hS) hS.2.2 dX8_init_14
set_option maxHeartbeats 4000000 in
set_option maxRecDepth 100000 in
theorem met_pksize (l : Launch) (G : Gw) (M : Mp) (sz : Nat) (a : Nat) (z v : Int32) (ha : M a = some (ob 6 [.int z, .int v])) : Cp l yX8_size cX8_size 1 (some .int) 0 [.ref a] G M sz (some (.int z)) := by
  refine Met.ofW (cc := cX8_size) (maxL := 1) (ret := (some .int)) (by decide) rfl ?_
  intro p e s m args below meth c s₁ B hml hv
  obtain ⟨rfl, hT, hR, hsz⟩ := hv
  have hx := B.exec
  have hb := B.bytes
  have hr := B.returns
  have hts := atoms_spec (ws := ws_ yX8_size cX8_size 1 (some .int)) B.pre
  have hts : ∀ w ∈ lw_all, w.before _ s = true := fun w h => hts w (List.mem_cons_of_mem _ h)
  have hown : s.vm.findClass RX8 = some m.cls := findClass_of_methodNamed B.named
  have hlocks := B.notSynchronized
  have hS : va_S (Af G) s.heap s.heap [] := va_S.rf
  have hl := lv_entry ([.ref a]) (n := 1) (Nat.le_of_ble_eq_true rfl)
  rw [lg_entry_eq]
  generalize (lg_sl ([.ref a]) ++ List.replicate (1 - (lg_sl ([.ref a])).length) Slot.unset).toArray = ls at hl ⊢
  have hl : lv_has ls 1 [(0, .ref a)] := hl
  refine lv_aload_n hx hb dX8_size_0 rfl (lv_at hl 0 rfl) ?_
  refine va_get (D := G.1) (ci := 6) (v := .int z) (C := RX8) (T := TX8) (N := 2) hx hb hts in_X8 hown hT.1 (hR.one ha) 0 rfl rfl 0 (by decide) (hts _ q803) (fun _ h9 => h9) rfl dX8_size_1 ?_
  exact W.iret hx hb hr (fun t ht _ => ⟨rfl, ht⟩) t_nil dX8_size_4
set_option maxHeartbeats 4000000 in
set_option maxRecDepth 100000 in
theorem met_pkv (l : Launch) (G : Gw) (M : Mp) (sz : Nat) (a : Nat) (z v : Int32) (ha : M a = some (ob 6 [.int z, .int v])) : Cp l yX8_v cX8_v 1 (some .int) 0 [.ref a] G M sz (some (.int v)) := by
  refine Met.ofW (cc := cX8_v) (maxL := 1) (ret := (some .int)) (by decide) rfl ?_
  intro p e s m args below meth c s₁ B hml hv
  obtain ⟨rfl, hT, hR, hsz⟩ := hv
  have hx := B.exec
  have hb := B.bytes
  have hr := B.returns
  have hts := atoms_spec (ws := ws_ yX8_v cX8_v 1 (some .int)) B.pre
  have hts : ∀ w ∈ lw_all, w.before _ s = true := fun w h => hts w (List.mem_cons_of_mem _ h)
  have hown : s.vm.findClass RX8 = some m.cls := findClass_of_methodNamed B.named
  have hlocks := B.notSynchronized
  have hS : va_S (Af G) s.heap s.heap [] := va_S.rf
  have hl := lv_entry ([.ref a]) (n := 1) (Nat.le_of_ble_eq_true rfl)
  rw [lg_entry_eq]
  generalize (lg_sl ([.ref a]) ++ List.replicate (1 - (lg_sl ([.ref a])).length) Slot.unset).toArray = ls at hl ⊢
  have hl : lv_has ls 1 [(0, .ref a)] := hl
  refine lv_aload_n hx hb dX8_v_0 rfl (lv_at hl 0 rfl) ?_
  refine va_get (D := G.1) (ci := 6) (v := .int v) (C := RX8) (T := TX8) (N := 2) hx hb hts in_X8 hown hT.1 (hR.one ha) 0 rfl rfl 1 (by decide) (hts _ q804) (fun _ h9 => h9) rfl dX8_v_1 ?_
  exact W.iret hx hb hr (fun t ht _ => ⟨rfl, ht⟩) t_nil dX8_v_4
set_option maxHeartbeats 4000000 in
set_option maxRecDepth 100000 in
theorem met_stinit (l : Launch) (G : Gw) (M : Mp) (sz : Nat) (a : Nat) : Cp l yX3_init cX3_init 1 none 1 [.ref a] G M sz (none) := by
  refine Met.ofW (cc := cX3_init) (maxL := 1) (ret := none) (by decide) rfl ?_
  intro p e s m args below meth c s₁ B hml hv
  obtain ⟨rfl, hT, hR, hsz⟩ := hv
  have hx := B.exec
  have hb := B.bytes
  have hr := B.returns
  have hts := atoms_spec (ws := ws_ yX3_init cX3_init 1 none) B.pre
  have hts : ∀ w ∈ lw_all, w.before _ s = true := fun w h => hts w (List.mem_cons_of_mem _ h)
  have hown : s.vm.findClass RX3 = some m.cls := findClass_of_methodNamed B.named
  have hlocks := B.notSynchronized
  have hin : meth.name = "<init>" := (name_of_methodNamed B.named B.method).1
  have hS : va_S (Af G) s.heap s.heap [] := va_S.rf
  have hl := lv_entry ([.ref a]) (n := 1) (Nat.le_of_ble_eq_true rfl)
  rw [lg_entry_eq]
  generalize (lg_sl ([.ref a]) ++ List.replicate (1 - (lg_sl ([.ref a])).length) Slot.unset).toArray = ls at hl ⊢
  have hl : lv_has ls 1 [(0, .ref a)] := hl
  refine lv_aload_n hx hb dX3_init_0 rfl (lv_at hl 0 rfl) ?_
  refine W.objInit hx hb hown (hts _ q439) (hts _ q78) (hts _ q79) rfl (by rw [hml]; exact hl.1) rfl dX3_init_1 (Nat.le_of_ble_eq_true rfl) (Nat.le_of_ble_eq_true rfl) ?_
  refine W.eq (g2 := F0 m 4 ls []) rfl ?_
  exact W.vret hx hb hr (fun t ht _ => ⟨rfl, ht⟩) t_nil dX3_init_4
set_option maxHeartbeats 4000000 in
set_option maxRecDepth 100000 in
theorem met_offinit (l : Launch) (G : Gw) (M : Mp) (sz : Nat) (a : Nat) : Cp l yX4_init cX4_init 1 none 2 [.ref a] G M sz (none) := by
  refine Met.ofW (cc := cX4_init) (maxL := 1) (ret := none) (by decide) rfl ?_
  intro p e s m args below meth c s₁ B hml hv
  obtain ⟨rfl, hT, hR, hsz⟩ := hv
  have hx := B.exec
  have hb := B.bytes
  have hr := B.returns
  have hts := atoms_spec (ws := ws_ yX4_init cX4_init 1 none) B.pre
  have hts : ∀ w ∈ lw_all, w.before _ s = true := fun w h => hts w (List.mem_cons_of_mem _ h)
  have hown : s.vm.findClass RX4 = some m.cls := findClass_of_methodNamed B.named
  have hlocks := B.notSynchronized
  have hin : meth.name = "<init>" := (name_of_methodNamed B.named B.method).1
  have hS : va_S (Af G) s.heap s.heap [] := va_S.rf
  have hl := lv_entry ([.ref a]) (n := 1) (Nat.le_of_ble_eq_true rfl)
  rw [lg_entry_eq]
  generalize (lg_sl ([.ref a]) ++ List.replicate (1 - (lg_sl ([.ref a])).length) Slot.unset).toArray = ls at hl ⊢
  have hl : lv_has ls 1 [(0, .ref a)] := hl
  refine lv_aload_n hx hb dX4_init_0 rfl (lv_at hl 0 rfl) ?_
  refine g_pure (va_runIN (As := []) (rest := []) ⟨hx, hb, hml, hown, hts⟩ (met_stinit l G M _ a) ⟨va_cnB 0 hts (lw_meth q438) rfl rfl rfl (hT.nw q436 rfl) (hts _ q58) (by decide +kernel) ⟨Nat.le_of_ble_eq_true rfl, Nat.le_of_ble_eq_true rfl⟩, rfl, hts _ q437⟩ (preS hT hR hS) rfl rfl hl.1 rfl (lv_room (Nat.le_of_ble_eq_true rfl)) dX4_init_1 ⟨Nat.le_of_ble_eq_true rfl, Nat.le_of_ble_eq_true rfl⟩) ?_
  refine W.eq (g2 := F0 m 4 ls []) rfl ?_
  exact W.vret hx hb hr (fun t ht _ => ⟨rfl, ht⟩) t_nil dX4_init_4
set_option maxHeartbeats 4000000 in
set_option maxRecDepth 100000 in
theorem met_offnum (l : Launch) (G : Gw) (M : Mp) (sz : Nat) (a : Nat) : Cp l yX4_number cX4_number 1 (some .int) 0 [.ref a] G M sz (some (.int 0)) := by
  refine Met.ofW (cc := cX4_number) (maxL := 1) (ret := (some .int)) (by decide) rfl ?_
  intro p e s m args below meth c s₁ B hml hv
  obtain ⟨rfl, hT, hR, hsz⟩ := hv
  have hx := B.exec
  have hb := B.bytes
  have hr := B.returns
  have hts := atoms_spec (ws := ws_ yX4_number cX4_number 1 (some .int)) B.pre
  have hts : ∀ w ∈ lw_all, w.before _ s = true := fun w h => hts w (List.mem_cons_of_mem _ h)
  have hown : s.vm.findClass RX4 = some m.cls := findClass_of_methodNamed B.named
  have hlocks := B.notSynchronized
  have hS : va_S (Af G) s.heap s.heap [] := va_S.rf
  have hl := lv_entry ([.ref a]) (n := 1) (Nat.le_of_ble_eq_true rfl)
  rw [lg_entry_eq]
  generalize (lg_sl ([.ref a]) ++ List.replicate (1 - (lg_sl ([.ref a])).length) Slot.unset).toArray = ls at hl ⊢
  have hl : lv_has ls 1 [(0, .ref a)] := hl
  refine lv_iconst (v := 0) hx hb dX4_number_0 (by decide) ?_
  exact W.iret hx hb hr (fun t ht _ => ⟨rfl, ht⟩) t_nil dX4_number_1
set_option maxHeartbeats 4000000 in
set_option maxRecDepth 100000 in
theorem met_skinit (l : Launch) (G : Gw) (M : Mp) (sz : Nat) (a : Nat) : Cp l yX7_init cX7_init 1 none 2 [.ref a] G M sz (none) := by
  refine Met.ofW (cc := cX7_init) (maxL := 1) (ret := none) (by decide) rfl ?_
  intro p e s m args below meth c s₁ B hml hv
  obtain ⟨rfl, hT, hR, hsz⟩ := hv
  have hx := B.exec
  have hb := B.bytes
  have hr := B.returns
  have hts := atoms_spec (ws := ws_ yX7_init cX7_init 1 none) B.pre
  have hts : ∀ w ∈ lw_all, w.before _ s = true := fun w h => hts w (List.mem_cons_of_mem _ h)
  have hown : s.vm.findClass RX7 = some m.cls := findClass_of_methodNamed B.named
  have hlocks := B.notSynchronized
  have hin : meth.name = "<init>" := (name_of_methodNamed B.named B.method).1
  have hS : va_S (Af G) s.heap s.heap [] := va_S.rf
  have hl := lv_entry ([.ref a]) (n := 1) (Nat.le_of_ble_eq_true rfl)
  rw [lg_entry_eq]
  generalize (lg_sl ([.ref a]) ++ List.replicate (1 - (lg_sl ([.ref a])).length) Slot.unset).toArray = ls at hl ⊢
  have hl : lv_has ls 1 [(0, .ref a)] := hl
  refine lv_aload_n hx hb dX7_init_0 rfl (lv_at hl 0 rfl) ?_
  refine g_pure (va_runIN (As := []) (rest := []) ⟨hx, hb, hml, hown, hts⟩ (met_stinit l G M _ a) ⟨va_cnB 0 hts (lw_meth q438) rfl rfl rfl (hT.nw q756 rfl) (hts _ q58) (by decide +kernel) ⟨Nat.le_of_ble_eq_true rfl, Nat.le_of_ble_eq_true rfl⟩, rfl, hts _ q437⟩ (preS hT hR hS) rfl rfl hl.1 rfl (lv_room (Nat.le_of_ble_eq_true rfl)) dX7_init_1 ⟨Nat.le_of_ble_eq_true rfl, Nat.le_of_ble_eq_true rfl⟩) ?_
  refine W.eq (g2 := F0 m 4 ls []) rfl ?_
  exact W.vret hx hb hr (fun t ht _ => ⟨rfl, ht⟩) t_nil dX7_init_4
set_option maxHeartbeats 4000000 in
set_option maxRecDepth 100000 in
theorem met_sknum (l : Launch) (G : Gw) (M : Mp) (sz : Nat) (a : Nat) : Cp l yX7_number cX7_number 1 (some .int) 0 [.ref a] G M sz (some (.int 1)) := by
  refine Met.ofW (cc := cX7_number) (maxL := 1) (ret := (some .int)) (by decide) rfl ?_
  intro p e s m args below meth c s₁ B hml hv
  obtain ⟨rfl, hT, hR, hsz⟩ := hv
  have hx := B.exec
  have hb := B.bytes
  have hr := B.returns
  have hts := atoms_spec (ws := ws_ yX7_number cX7_number 1 (some .int)) B.pre
  have hts : ∀ w ∈ lw_all, w.before _ s = true := fun w h => hts w (List.mem_cons_of_mem _ h)
  have hown : s.vm.findClass RX7 = some m.cls := findClass_of_methodNamed B.named
  have hlocks := B.notSynchronized
  have hS : va_S (Af G) s.heap s.heap [] := va_S.rf
  have hl := lv_entry ([.ref a]) (n := 1) (Nat.le_of_ble_eq_true rfl)
  rw [lg_entry_eq]
  generalize (lg_sl ([.ref a]) ++ List.replicate (1 - (lg_sl ([.ref a])).length) Slot.unset).toArray = ls at hl ⊢
  have hl : lv_has ls 1 [(0, .ref a)] := hl
  refine lv_iconst (v := 1) hx hb dX7_number_0 (by decide) ?_
  exact W.iret hx hb hr (fun t ht _ => ⟨rfl, ht⟩) t_nil dX7_number_1
set_option maxHeartbeats 4000000 in
set_option maxRecDepth 100000 in
theorem met_rdinit (l : Launch) (G : Gw) (M : Mp) (sz : Nat) (a : Nat) : Cp l yX9_init cX9_init 1 none 2 [.ref a] G M sz (none) := by
  refine Met.ofW (cc := cX9_init) (maxL := 1) (ret := none) (by decide) rfl ?_
  intro p e s m args below meth c s₁ B hml hv
  obtain ⟨rfl, hT, hR, hsz⟩ := hv
  have hx := B.exec
  have hb := B.bytes
  have hr := B.returns
  have hts := atoms_spec (ws := ws_ yX9_init cX9_init 1 none) B.pre
  have hts : ∀ w ∈ lw_all, w.before _ s = true := fun w h => hts w (List.mem_cons_of_mem _ h)
  have hown : s.vm.findClass RX9 = some m.cls := findClass_of_methodNamed B.named
  have hlocks := B.notSynchronized
  have hin : meth.name = "<init>" := (name_of_methodNamed B.named B.method).1
  have hS : va_S (Af G) s.heap s.heap [] := va_S.rf
  have hl := lv_entry ([.ref a]) (n := 1) (Nat.le_of_ble_eq_true rfl)
  rw [lg_entry_eq]
  generalize (lg_sl ([.ref a]) ++ List.replicate (1 - (lg_sl ([.ref a])).length) Slot.unset).toArray = ls at hl ⊢
  have hl : lv_has ls 1 [(0, .ref a)] := hl
  refine lv_aload_n hx hb dX9_init_0 rfl (lv_at hl 0 rfl) ?_
  refine g_pure (va_runIN (As := []) (rest := []) ⟨hx, hb, hml, hown, hts⟩ (met_stinit l G M _ a) ⟨va_cnB 0 hts (lw_meth q438) rfl rfl rfl (hT.nw q893 rfl) (hts _ q58) (by decide +kernel) ⟨Nat.le_of_ble_eq_true rfl, Nat.le_of_ble_eq_true rfl⟩, rfl, hts _ q437⟩ (preS hT hR hS) rfl rfl hl.1 rfl (lv_room (Nat.le_of_ble_eq_true rfl)) dX9_init_1 ⟨Nat.le_of_ble_eq_true rfl, Nat.le_of_ble_eq_true rfl⟩) ?_
  refine W.eq (g2 := F0 m 4 ls []) rfl ?_
  exact W.vret hx hb hr (fun t ht _ => ⟨rfl, ht⟩) t_nil dX9_init_4
set_option maxHeartbeats 4000000 in
set_option maxRecDepth 100000 in
theorem met_rdnum (l : Launch) (G : Gw) (M : Mp) (sz : Nat) (a : Nat) : Cp l yX9_number cX9_number 1 (some .int) 0 [.ref a] G M sz (some (.int 2)) := by
  refine Met.ofW (cc := cX9_number) (maxL := 1) (ret := (some .int)) (by decide) rfl ?_
  intro p e s m args below meth c s₁ B hml hv
  obtain ⟨rfl, hT, hR, hsz⟩ := hv
  have hx := B.exec
  have hb := B.bytes
  have hr := B.returns
  have hts := atoms_spec (ws := ws_ yX9_number cX9_number 1 (some .int)) B.pre
  have hts : ∀ w ∈ lw_all, w.before _ s = true := fun w h => hts w (List.mem_cons_of_mem _ h)
  have hown : s.vm.findClass RX9 = some m.cls := findClass_of_methodNamed B.named
  have hlocks := B.notSynchronized
  have hS : va_S (Af G) s.heap s.heap [] := va_S.rf
  have hl := lv_entry ([.ref a]) (n := 1) (Nat.le_of_ble_eq_true rfl)
  rw [lg_entry_eq]
  generalize (lg_sl ([.ref a]) ++ List.replicate (1 - (lg_sl ([.ref a])).length) Slot.unset).toArray = ls at hl ⊢
  have hl : lv_has ls 1 [(0, .ref a)] := hl
  refine lv_iconst (v := 2) hx hb dX9_number_0 (by decide) ?_
  exact W.iret hx hb hr (fun t ht _ => ⟨rfl, ht⟩) t_nil dX9_number_1
/-- all that was known stays, but for the cell a -/
def Fr (a : Nat) (M M1 : Mp) : Prop := ∀ (q : Nat) (e : va_E), M q = some e → q ≠ a → M1 q = some e
theorem Fr.rf {a : Nat} {M : Mp} : Fr a M M := fun _ _ h _ => h
theorem Fr.own {a : Nat} {M M1 : Mp} {e : va_E} (h : Fr a M M1) : Fr a M (mu M1 a e) := fun q x hq hn => muL hn (h q x hq hn)
theorem Fr.non {a b : Nat} {M M1 : Mp} {e : va_E} (h : Fr a M M1) (ha : M1 a = some e) (hb : M1 b = none) : M b = none := by
  cases hm : M b with
  | none => rfl
  | some x =>
    have n : b ≠ a := fun q => by subst q; rw [ha] at hb; cases hb
    rw [h b x hm n] at hb
    cases hb
theorem Fr.new {a b : Nat} {M M1 : Mp} {e : va_E} (h : Fr a M M1) (hb : M b = none) : Fr a M (mu M1 b e) := fun q x hq hn => muL (fun z => by subst z; rw [hb] at hq; cases hq) (h q x hq hn)
theorem Fr.call {a b : Nat} {M M1 M2 : Mp} (h : Fr a M M1) (hb : M b = none) (h1 : Fr b M1 M2) : Fr a M M2 := fun q x hq hn => h1 q x (h q x hq hn) (fun z => by subst z; rw [hb] at hq; cases hq)
set_option maxHeartbeats 4000000 in
set_option maxRecDepth 100000 in
theorem met_flinit (l : Launch) (G : Gw) (M0 : Mp) (sz : Nat) (a : Nat) (ha : M0 a = some (ob 2 [.int 0, .double 0, .double 0, .null])) : Ct l yX5_init cX5_init 1 none 4 2 7 [.ref a] G M0 sz (fun r M1 _ => r = none ∧ ∃ L E : Nat, M0 L = none ∧ M0 E = none ∧ L ≠ E ∧ M1 a = some (ob 2 [.int 0, .double FP.dconst1, .double 0, .ref L]) ∧ M1 L = some (ob 8 [.int 0, .ref E, .int 0]) ∧ M1 E = some (aO G 4 (lsO [])) ∧ Fr a M0 M1) := by
  refine Met.ofW (cc := cX5_init) (maxL := 1) (ret := none) (by decide) rfl ?_
  intro p e s m args below meth c s₁ B hml hv
  obtain ⟨rfl, hT, hR, hsz⟩ := hv
  have hx := B.exec
  have hb := B.bytes
  have hr := B.returns
  have hts := atoms_spec (ws := ws_ yX5_init cX5_init 1 none) B.pre
  have hts : ∀ w ∈ lw_all, w.before _ s = true := fun w h => hts w (List.mem_cons_of_mem _ h)
  have hown : s.vm.findClass RX5 = some m.cls := findClass_of_methodNamed B.named
  have hlocks := B.notSynchronized
  have hin : meth.name = "<init>" := (name_of_methodNamed B.named B.method).1
  have hS : va_S (Af G) s.heap s.heap [] := va_S.rf
  have hl := lv_entry ([.ref a]) (n := 1) (Nat.le_of_ble_eq_true rfl)
  rw [lg_entry_eq]
  generalize (lg_sl ([.ref a]) ++ List.replicate (1 - (lg_sl ([.ref a])).length) Slot.unset).toArray = ls at hl ⊢
  have hl : lv_has ls 1 [(0, .ref a)] := hl
  have hfr : Fr a M0 M0 := Fr.rf
  refine lv_aload_n hx hb dX5_init_0 rfl (lv_at hl 0 rfl) ?_
  refine W.objInit hx hb hown (hts _ q451) (hts _ q78) (hts _ q79) rfl (by rw [hml]; exact hl.1) rfl dX5_init_1 (Nat.le_of_ble_eq_true rfl) (Nat.le_of_ble_eq_true rfl) ?_
  refine W.eq (g2 := F0 m 4 ls []) rfl ?_
  refine lv_aload_n hx hb dX5_init_4 rfl (lv_at hl 0 rfl) ?_
  refine lv_dconst1 hx hb dX5_init_5 ?_
  refine r_put (ci := 2) (v := .double FP.dconst1) (ty := .double) (C := RX5) (T := TX5) (N := 4) hx hb hts in_X5 tyX5 tyX5_ok nmX5 hown hT hR hS ha rfl 1 (by decide) (hts _ q456) (fun _ h9 => h9) rfl (by decide +kernel) rfl rfl (Nat.le_of_ble_eq_true rfl) dX5_init_6 (fun H locs hz hR hS => ?_)
  obtain ⟨M, hR, k_1, hfr⟩ : ∃ M1 : Mp, Rp G M1 H ∧ M1 a = some (ob 2 [.int 0, .double FP.dconst1, .double 0, .null]) ∧ Fr a M0 M1 := ⟨_, hR, mu_eq _ _ _, hfr.own⟩
  refine lv_aload_n hx hb dX5_init_9 rfl (lv_at hl 0 rfl) ?_
  refine r_new (ci := 8) (fs := [.int 0, .null, .int 0]) (C := RJ2) (T := TJ2) (N := 3) hx hb hts in_J2 tyJ2 tyJ2_ok hown (hts _ q452) (hts _ q83) (hts _ q40) hT hR hS rfl (fun j hj => by rcases (show j = 0 ∨ j = 1 ∨ j = 2 by omega) with rfl | rfl | rfl <;> rfl) (by exact Nat.le_of_ble_eq_true rfl) (by exact Nat.le_of_ble_eq_true rfl) dX5_init_10 (fun q_2 H hq_2 hz hq_2n hR hS => ?_)
  have z_3 : M0 q_2 = none := hfr.non k_1 hq_2n
  have n_4 : a ≠ q_2 := ne_none hq_2n k_1
  obtain ⟨M, hR, k_5, k_6, hfr⟩ : ∃ M1 : Mp, Rp G M1 H ∧ M1 a = some (ob 2 [.int 0, .double FP.dconst1, .double 0, .null]) ∧ M1 q_2 = some (ob 8 [.int 0, .null, .int 0]) ∧ Fr a M0 M1 := ⟨_, hR, muL n_4 k_1, mu_eq _ _ _, hfr.new z_3⟩
  refine W.widen (k := 1) (n := 3) (Nat.le_of_ble_eq_true rfl) (Nat.le_of_ble_eq_true rfl) ?_
  refine lv_dup hx hb dX5_init_13 rfl ?_
  refine lv_iconst (v := 4) hx hb dX5_init_14 (by decide) ?_
  have hE0 := hR.none (Nat.le_refl _)
  obtain ⟨E_7, hE_7⟩ : ∃ z9, z9 = H.size := ⟨_, rfl⟩
  rw [← hE_7] at hE0
  refine g_call (va_runI (As := [.int 4]) (rest := [.ref q_2, .ref a]) ⟨hx, hb, hml, hown, hts⟩ (met_linit4 l G M _ q_2 k_6) (cwI 1 hts (lw_meth q86) rfl rfl rfl (hts _ q40) (hts _ q453) (hts _ q85) rfl (by decide +kernel) ⟨Nat.le_of_ble_eq_true rfl, Nat.le_of_ble_eq_true rfl⟩) (preS hT hR hS) rfl rfl hl.1 rfl (lv_room (Nat.le_of_ble_eq_true rfl)) dX5_init_15 ⟨Nat.le_of_ble_eq_true rfl, Nat.le_of_ble_eq_true rfl⟩) hS (fun v M1 H locs hq hR hz hS => ?_)
  obtain ⟨rfl, rfl, -⟩ := hq
  rw [← hE_7] at hR
  have z_8 : M0 E_7 = none := hfr.non k_5 hE0
  have n_9 : a ≠ E_7 := ne_none hE0 k_5
  have n_10 : q_2 ≠ E_7 := ne_none hE0 k_6
  obtain ⟨M, hR, k_11, k_12, k_13, hfr⟩ : ∃ M1 : Mp, Rp G M1 H ∧ M1 a = some (ob 2 [.int 0, .double FP.dconst1, .double 0, .null]) ∧ M1 q_2 = some (ob 8 [.int 0, .ref E_7, .int 0]) ∧ M1 E_7 = some (aO G 4 (lsO [])) ∧ Fr a M0 M1 := ⟨_, hR, muL n_4 (muL n_9 k_5), mu_eq _ _ _, muL (Ne.symm n_10) (mu_eq _ _ _), (hfr.new z_8).new z_3⟩
  refine W.widen (k := 2) (n := 7) (Nat.le_of_ble_eq_true rfl) (Nat.le_of_ble_eq_true rfl) ?_
  refine W.eq (g2 := F0 m 18 ls [.ref q_2, .ref a]) rfl ?_
  refine r_putF (ci := 2) (v := .ref q_2) (ty := .object "java/util/ArrayList") (C := RX5) (T := TX5) (N := 4) hx hb hts in_X5 tyX5 tyX5_ok nmX5 hown hT hR hS k_11 rfl 3 (by decide) (hts _ q460) (fun _ h9 => h9) rfl hin rfl (by decide +kernel) rfl rfl (Nat.le_of_ble_eq_true rfl) dX5_init_18 (fun H locs hz hR hS => ?_)
  obtain ⟨M, hR, k_14, k_15, k_16, hfr⟩ : ∃ M1 : Mp, Rp G M1 H ∧ M1 a = some (ob 2 [.int 0, .double FP.dconst1, .double 0, .ref q_2]) ∧ M1 q_2 = some (ob 8 [.int 0, .ref E_7, .int 0]) ∧ M1 E_7 = some (aO G 4 (lsO [])) ∧ Fr a M0 M1 := ⟨_, hR, mu_eq _ _ _, muL (Ne.symm n_4) k_12, muL (Ne.symm n_9) k_13, hfr.own⟩
  refine W.widen (k := 2) (n := 7) (Nat.le_of_ble_eq_true rfl) (Nat.le_of_ble_eq_true rfl) ?_
  exact W.vret hx hb hr (q_ret (⟨rfl, q_2, E_7, z_3, z_8, n_10, k_14, k_15, k_16, hfr⟩) hR hS) hS.2.2 dX5_init_21
set_option maxHeartbeats 4000000 in
set_option maxRecDepth 100000 in
theorem met_moinit (l : Launch) (G : Gw) (M0 : Mp) (sz : Nat) (a : Nat) (ha : M0 a = some (ob 1 [.double 0, .double 0, .double 0, .double 0, .int 0, .int 0, .null, .null])) : Ct l yX2_init cX2_init 1 none 5 8 25 [.ref a] G M0 sz (fun r M1 _ => r = none ∧ ∃ sa fa f0 l0 e0 f1 l1 e1 : Nat, (M0 sa = none ∧ M0 fa = none ∧ M0 f0 = none ∧ M0 l0 = none ∧ M0 e0 = none ∧ M0 f1 = none ∧ M0 l1 = none ∧ M0 e1 = none) ∧ (sa ≠ fa ∧ sa ≠ f0 ∧ sa ≠ l0 ∧ sa ≠ e0 ∧ sa ≠ f1 ∧ sa ≠ l1 ∧ sa ≠ e1 ∧ fa ≠ f0 ∧ fa ≠ l0 ∧ fa ≠ e0 ∧ fa ≠ f1 ∧ fa ≠ l1 ∧ fa ≠ e1 ∧ f0 ≠ l0 ∧ f0 ≠ e0 ∧ f0 ≠ f1 ∧ f0 ≠ l1 ∧ f0 ≠ e1 ∧ l0 ≠ e0 ∧ l0 ≠ f1 ∧ l0 ≠ l1 ∧ l0 ≠ e1 ∧ e0 ≠ f1 ∧ e0 ≠ l1 ∧ e0 ≠ e1 ∧ f1 ≠ l1 ∧ f1 ≠ e1 ∧ l1 ≠ e1) ∧ M1 a = some (ob 1 [.double 0, .double 0, .double 0, .double 0, .int 0, .int 0, .ref sa, .ref fa]) ∧ M1 sa = some (ob 3 [.int 0]) ∧ M1 fa = some (aF G 2 (va_up (va_up (fun _ => none) 0 (some f0)) 1 (some f1))) ∧ M1 f0 = some (ob 2 [.int 0, .double FP.dconst1, .double 0, .ref l0]) ∧ M1 l0 = some (ob 8 [.int 0, .ref e0, .int 0]) ∧ M1 e0 = some (aO G 4 (lsO [])) ∧ M1 f1 = some (ob 2 [.int 0, .double FP.dconst1, .double 0, .ref l1]) ∧ M1 l1 = some (ob 8 [.int 0, .ref e1, .int 0]) ∧ M1 e1 = some (aO G 4 (lsO [])) ∧ Fr a M0 M1) := by
  refine Met.ofW (cc := cX2_init) (maxL := 1) (ret := none) (by decide) rfl ?_
  intro p e s m args below meth c s₁ B hml hv
  obtain ⟨rfl, hT, hR, hsz⟩ := hv
  have hx := B.exec
  have hb := B.bytes
  have hr := B.returns
  have hts := atoms_spec (ws := ws_ yX2_init cX2_init 1 none) B.pre
  have hts : ∀ w ∈ lw_all, w.before _ s = true := fun w h => hts w (List.mem_cons_of_mem _ h)
  have hown : s.vm.findClass RX2 = some m.cls := findClass_of_methodNamed B.named
  have hlocks := B.notSynchronized
  have hin : meth.name = "<init>" := (name_of_methodNamed B.named B.method).1
  have hS : va_S (Af G) s.heap s.heap [] := va_S.rf
  have hl := lv_entry ([.ref a]) (n := 1) (Nat.le_of_ble_eq_true rfl)
  rw [lg_entry_eq]
  generalize (lg_sl ([.ref a]) ++ List.replicate (1 - (lg_sl ([.ref a])).length) Slot.unset).toArray = ls at hl ⊢
  have hl : lv_has ls 1 [(0, .ref a)] := hl
  have hfr : Fr a M0 M0 := Fr.rf
  refine lv_aload_n hx hb dX2_init_0 rfl (lv_at hl 0 rfl) ?_
  refine W.objInit hx hb hown (hts _ q430) (hts _ q78) (hts _ q79) rfl (by rw [hml]; exact hl.1) rfl dX2_init_1 (Nat.le_of_ble_eq_true rfl) (Nat.le_of_ble_eq_true rfl) ?_
  refine W.eq (g2 := F0 m 4 ls []) rfl ?_
  refine lv_aload_n hx hb dX2_init_4 rfl (lv_at hl 0 rfl) ?_
  refine r_new (ci := 3) (fs := [.int 0]) (C := RX4) (T := TX4) (N := 1) hx hb hts in_X4 tyX4 tyX4_ok hown (hts _ q431) (hts _ q432) (hts _ q59) hT hR hS rfl (fun j hj => by rcases (show j = 0 by omega) with rfl <;> rfl) (by exact Nat.le_of_ble_eq_true rfl) (by exact Nat.le_of_ble_eq_true rfl) dX2_init_5 (fun q_1 H hq_1 hz hq_1n hR hS => ?_)
  have z_2 : M0 q_1 = none := hfr.non ha hq_1n
  have n_3 : a ≠ q_1 := ne_none hq_1n ha
  obtain ⟨M, hR, k_4, k_5, hfr⟩ : ∃ M1 : Mp, Rp G M1 H ∧ M1 a = some (ob 1 [.double 0, .double 0, .double 0, .double 0, .int 0, .int 0, .null, .null]) ∧ M1 q_1 = some (ob 3 [.int 0]) ∧ Fr a M0 M1 := ⟨_, hR, muL n_3 ha, mu_eq _ _ _, hfr.new z_2⟩
  refine W.widen (k := 1) (n := 1) (Nat.le_of_ble_eq_true rfl) (Nat.le_of_ble_eq_true rfl) ?_
  refine lv_dup hx hb dX2_init_8 rfl ?_
  refine g_pure (va_runIN (As := []) (rest := [.ref q_1, .ref a]) ⟨hx, hb, hml, hown, hts⟩ (met_offinit l G M _ q_1) ⟨va_cnB 0 hts (lw_meth q435) rfl rfl rfl (hT.nw q433 rfl) (hts _ q59) (by decide +kernel) ⟨Nat.le_of_ble_eq_true rfl, Nat.le_of_ble_eq_true rfl⟩, rfl, hts _ q434⟩ (preS hT hR hS) rfl rfl hl.1 rfl (lv_room (Nat.le_of_ble_eq_true rfl)) dX2_init_9 ⟨Nat.le_of_ble_eq_true rfl, Nat.le_of_ble_eq_true rfl⟩) ?_
  refine W.eq (g2 := F0 m 12 ls [.ref q_1, .ref a]) rfl ?_
  refine r_put (ci := 1) (v := .ref q_1) (ty := .object "CablePlant$State") (C := RX2) (T := TX2) (N := 8) hx hb hts in_X2 tyX2 tyX2_ok nmX2 hown hT hR hS k_4 rfl 6 (by decide) (hts _ q483) (fun _ h9 => h9) rfl (by decide +kernel) rfl rfl (Nat.le_of_ble_eq_true rfl) dX2_init_12 (fun H locs hz hR hS => ?_)
  obtain ⟨M, hR, k_6, k_7, hfr⟩ : ∃ M1 : Mp, Rp G M1 H ∧ M1 a = some (ob 1 [.double 0, .double 0, .double 0, .double 0, .int 0, .int 0, .ref q_1, .null]) ∧ M1 q_1 = some (ob 3 [.int 0]) ∧ Fr a M0 M1 := ⟨_, hR, mu_eq _ _ _, muL (Ne.symm n_3) k_5, hfr.own⟩
  refine lv_aload_n hx hb dX2_init_15 rfl (lv_at hl 0 rfl) ?_
  refine lv_iconst (v := 2) hx hb dX2_init_16 (by decide) ?_
  refine r_newq hx hb hown (hts _ q445) (hT.nw q446 rfl) 4 hT rfl hR hS (N' := 2) (by decide) (by decide) (by decide) (by exact Nat.le_of_ble_eq_true rfl) (by exact Nat.le_of_ble_eq_true rfl) dX2_init_17 (fun q_8 H hq_8 hz hq_8n hR hS => ?_)
  have z_9 : M0 q_8 = none := hfr.non k_6 hq_8n
  have n_10 : a ≠ q_8 := ne_none hq_8n k_6
  have n_11 : q_1 ≠ q_8 := ne_none hq_8n k_7
  obtain ⟨M, hR, k_12, k_13, k_14, hfr⟩ : ∃ M1 : Mp, Rp G M1 H ∧ M1 a = some (ob 1 [.double 0, .double 0, .double 0, .double 0, .int 0, .int 0, .ref q_1, .null]) ∧ M1 q_1 = some (ob 3 [.int 0]) ∧ M1 q_8 = some (aF G 2 (fun _ => none)) ∧ Fr a M0 M1 := ⟨_, hR, muL n_10 k_6, muL n_11 k_7, mu_eq _ _ _, hfr.new z_9⟩
  refine W.widen (k := 2) (n := 3) (Nat.le_of_ble_eq_true rfl) (Nat.le_of_ble_eq_true rfl) ?_
  refine lv_dup hx hb dX2_init_20 rfl ?_
  refine lv_iconst (v := 0) hx hb dX2_init_21 (by decide) ?_
  refine r_new (ci := 2) (fs := [.int 0, .double 0, .double 0, .null]) (C := RX5) (T := TX5) (N := 4) hx hb hts in_X5 tyX5 tyX5_ok hown (hts _ q445) (hts _ q447) (hts _ q60) hT hR hS rfl (fun j hj => by rcases (show j = 0 ∨ j = 1 ∨ j = 2 ∨ j = 3 by omega) with rfl | rfl | rfl | rfl <;> rfl) (by exact Nat.le_of_ble_eq_true rfl) (by exact Nat.le_of_ble_eq_true rfl) dX2_init_22 (fun q_15 H hq_15 hz hq_15n hR hS => ?_)
  have z_16 : M0 q_15 = none := hfr.non k_12 hq_15n
  have n_17 : a ≠ q_15 := ne_none hq_15n k_12
  have n_18 : q_1 ≠ q_15 := ne_none hq_15n k_13
  have n_19 : q_8 ≠ q_15 := ne_none hq_15n k_14
  obtain ⟨M, hR, k_20, k_21, k_22, k_23, hfr⟩ : ∃ M1 : Mp, Rp G M1 H ∧ M1 a = some (ob 1 [.double 0, .double 0, .double 0, .double 0, .int 0, .int 0, .ref q_1, .null]) ∧ M1 q_1 = some (ob 3 [.int 0]) ∧ M1 q_8 = some (aF G 2 (fun _ => none)) ∧ M1 q_15 = some (ob 2 [.int 0, .double 0, .double 0, .null]) ∧ Fr a M0 M1 := ⟨_, hR, muL n_17 k_12, muL n_18 k_13, muL n_19 k_14, mu_eq _ _ _, hfr.new z_16⟩
  refine W.widen (k := 3) (n := 7) (Nat.le_of_ble_eq_true rfl) (Nat.le_of_ble_eq_true rfl) ?_
  refine lv_dup hx hb dX2_init_25 rfl ?_
  refine g_call (va_runIN (As := []) (rest := [.ref q_15, .int 0, .ref q_8, .ref q_8, .ref a]) ⟨hx, hb, hml, hown, hts⟩ (met_flinit l G M _ q_15 k_23) ⟨va_cnB 0 hts (lw_meth q450) rfl rfl rfl (hT.nw q448 rfl) (hts _ q60) (by decide +kernel) ⟨Nat.le_of_ble_eq_true rfl, Nat.le_of_ble_eq_true rfl⟩, rfl, hts _ q449⟩ (preS hT hR hS) rfl rfl hl.1 rfl (lv_room (Nat.le_of_ble_eq_true rfl)) dX2_init_26 ⟨Nat.le_of_ble_eq_true rfl, Nat.le_of_ble_eq_true rfl⟩) hS (fun v M1 H locs hq hR hz hS => ?_)
  obtain ⟨rfl, L_24, E_25, hL_24n, hE_25n, hL_24E, x1, x2, x3, hf1⟩ := hq
  have z_26 : M0 L_24 = none := hfr.non k_20 hL_24n
  have z_27 : M0 E_25 = none := hfr.non k_20 hE_25n
  have n_28 : a ≠ L_24 := ne_none hL_24n k_20
  have n_29 : a ≠ E_25 := ne_none hE_25n k_20
  have n_30 : q_1 ≠ L_24 := ne_none hL_24n k_21
  have n_31 : q_1 ≠ E_25 := ne_none hE_25n k_21
  have n_32 : q_8 ≠ L_24 := ne_none hL_24n k_22
  have n_33 : q_8 ≠ E_25 := ne_none hE_25n k_22
  have n_34 : q_15 ≠ L_24 := ne_none hL_24n k_23
  have n_35 : q_15 ≠ E_25 := ne_none hE_25n k_23
  obtain ⟨M, hR, k_36, k_37, k_38, k_39, k_40, k_41, hfr⟩ : ∃ M1 : Mp, Rp G M1 H ∧ M1 a = some (ob 1 [.double 0, .double 0, .double 0, .double 0, .int 0, .int 0, .ref q_1, .null]) ∧ M1 q_1 = some (ob 3 [.int 0]) ∧ M1 q_8 = some (aF G 2 (fun _ => none)) ∧ M1 q_15 = some (ob 2 [.int 0, .double FP.dconst1, .double 0, .ref L_24]) ∧ M1 L_24 = some (ob 8 [.int 0, .ref E_25, .int 0]) ∧ M1 E_25 = some (aO G 4 (lsO [])) ∧ Fr a M0 M1 := ⟨_, hR, hf1 _ _ k_20 n_17, hf1 _ _ k_21 n_18, hf1 _ _ k_22 n_19, x1, x2, x3, hfr.call z_16 hf1⟩
  refine W.widen (k := 5) (n := 14) (Nat.le_of_ble_eq_true rfl) (Nat.le_of_ble_eq_true rfl) ?_
  refine W.eq (g2 := F0 m 29 ls [.ref q_15, .int 0, .ref q_8, .ref q_8, .ref a]) rfl ?_
  refine r_aastj hx hb hT hR hS 4 rfl k_38 (hT.anyS hR k_39 rfl) (j := 0) rfl (by decide) (by decide) dX2_init_29 (fun H locs hz hR hS => ?_)
  obtain ⟨M, hR, k_42, k_43, k_44, k_45, k_46, k_47, hfr⟩ : ∃ M1 : Mp, Rp G M1 H ∧ M1 a = some (ob 1 [.double 0, .double 0, .double 0, .double 0, .int 0, .int 0, .ref q_1, .null]) ∧ M1 q_1 = some (ob 3 [.int 0]) ∧ M1 q_8 = some (aF G 2 (va_up (fun _ => none) 0 (some q_15))) ∧ M1 q_15 = some (ob 2 [.int 0, .double FP.dconst1, .double 0, .ref L_24]) ∧ M1 L_24 = some (ob 8 [.int 0, .ref E_25, .int 0]) ∧ M1 E_25 = some (aO G 4 (lsO [])) ∧ Fr a M0 M1 := ⟨_, hR, muL n_10 k_36, muL n_11 k_37, mu_eq _ _ _, muL (Ne.symm n_19) k_39, muL (Ne.symm n_32) k_40, muL (Ne.symm n_33) k_41, hfr.new z_9⟩
  refine lv_dup hx hb dX2_init_30 rfl ?_
  refine lv_iconst (v := 1) hx hb dX2_init_31 (by decide) ?_
  refine r_new (ci := 2) (fs := [.int 0, .double 0, .double 0, .null]) (C := RX5) (T := TX5) (N := 4) hx hb hts in_X5 tyX5 tyX5_ok hown (hts _ q445) (hts _ q447) (hts _ q60) hT hR hS rfl (fun j hj => by rcases (show j = 0 ∨ j = 1 ∨ j = 2 ∨ j = 3 by omega) with rfl | rfl | rfl | rfl <;> rfl) (by exact Nat.le_of_ble_eq_true rfl) (by exact Nat.le_of_ble_eq_true rfl) dX2_init_32 (fun q_48 H hq_48 hz hq_48n hR hS => ?_)
  have z_49 : M0 q_48 = none := hfr.non k_42 hq_48n
  have n_50 : a ≠ q_48 := ne_none hq_48n k_42
  have n_51 : q_1 ≠ q_48 := ne_none hq_48n k_43
  have n_52 : q_8 ≠ q_48 := ne_none hq_48n k_44
  have n_53 : q_15 ≠ q_48 := ne_none hq_48n k_45
  have n_54 : L_24 ≠ q_48 := ne_none hq_48n k_46
  have n_55 : E_25 ≠ q_48 := ne_none hq_48n k_47
  obtain ⟨M, hR, k_56, k_57, k_58, k_59, k_60, k_61, k_62, hfr⟩ : ∃ M1 : Mp, Rp G M1 H ∧ M1 a = some (ob 1 [.double 0, .double 0, .double 0, .double 0, .int 0, .int 0, .ref q_1, .null]) ∧ M1 q_1 = some (ob 3 [.int 0]) ∧ M1 q_8 = some (aF G 2 (va_up (fun _ => none) 0 (some q_15))) ∧ M1 q_15 = some (ob 2 [.int 0, .double FP.dconst1, .double 0, .ref L_24]) ∧ M1 L_24 = some (ob 8 [.int 0, .ref E_25, .int 0]) ∧ M1 E_25 = some (aO G 4 (lsO [])) ∧ M1 q_48 = some (ob 2 [.int 0, .double 0, .double 0, .null]) ∧ Fr a M0 M1 := ⟨_, hR, muL n_50 k_42, muL n_51 k_43, muL n_52 k_44, muL n_53 k_45, muL n_54 k_46, muL n_55 k_47, mu_eq _ _ _, hfr.new z_49⟩
  refine W.widen (k := 6) (n := 18) (Nat.le_of_ble_eq_true rfl) (Nat.le_of_ble_eq_true rfl) ?_
  refine lv_dup hx hb dX2_init_35 rfl ?_
  refine g_call (va_runIN (As := []) (rest := [.ref q_48, .int 1, .ref q_8, .ref q_8, .ref a]) ⟨hx, hb, hml, hown, hts⟩ (met_flinit l G M _ q_48 k_62) ⟨va_cnB 0 hts (lw_meth q450) rfl rfl rfl (hT.nw q448 rfl) (hts _ q60) (by decide +kernel) ⟨Nat.le_of_ble_eq_true rfl, Nat.le_of_ble_eq_true rfl⟩, rfl, hts _ q449⟩ (preS hT hR hS) rfl rfl hl.1 rfl (lv_room (Nat.le_of_ble_eq_true rfl)) dX2_init_36 ⟨Nat.le_of_ble_eq_true rfl, Nat.le_of_ble_eq_true rfl⟩) hS (fun v M1 H locs hq hR hz hS => ?_)
  obtain ⟨rfl, L_63, E_64, hL_63n, hE_64n, hL_63E, x1, x2, x3, hf1⟩ := hq
  have z_65 : M0 L_63 = none := hfr.non k_56 hL_63n
  have z_66 : M0 E_64 = none := hfr.non k_56 hE_64n
  have n_67 : a ≠ L_63 := ne_none hL_63n k_56
  have n_68 : a ≠ E_64 := ne_none hE_64n k_56
  have n_69 : q_1 ≠ L_63 := ne_none hL_63n k_57
  have n_70 : q_1 ≠ E_64 := ne_none hE_64n k_57
  have n_71 : q_8 ≠ L_63 := ne_none hL_63n k_58
  have n_72 : q_8 ≠ E_64 := ne_none hE_64n k_58
  have n_73 : q_15 ≠ L_63 := ne_none hL_63n k_59
  have n_74 : q_15 ≠ E_64 := ne_none hE_64n k_59
  have n_75 : L_24 ≠ L_63 := ne_none hL_63n k_60
  have n_76 : L_24 ≠ E_64 := ne_none hE_64n k_60
  have n_77 : E_25 ≠ L_63 := ne_none hL_63n k_61
  have n_78 : E_25 ≠ E_64 := ne_none hE_64n k_61
  have n_79 : q_48 ≠ L_63 := ne_none hL_63n k_62
  have n_80 : q_48 ≠ E_64 := ne_none hE_64n k_62
  obtain ⟨M, hR, k_81, k_82, k_83, k_84, k_85, k_86, k_87, k_88, k_89, hfr⟩ : ∃ M1 : Mp, Rp G M1 H ∧ M1 a = some (ob 1 [.double 0, .double 0, .double 0, .double 0, .int 0, .int 0, .ref q_1, .null]) ∧ M1 q_1 = some (ob 3 [.int 0]) ∧ M1 q_8 = some (aF G 2 (va_up (fun _ => none) 0 (some q_15))) ∧ M1 q_15 = some (ob 2 [.int 0, .double FP.dconst1, .double 0, .ref L_24]) ∧ M1 L_24 = some (ob 8 [.int 0, .ref E_25, .int 0]) ∧ M1 E_25 = some (aO G 4 (lsO [])) ∧ M1 q_48 = some (ob 2 [.int 0, .double FP.dconst1, .double 0, .ref L_63]) ∧ M1 L_63 = some (ob 8 [.int 0, .ref E_64, .int 0]) ∧ M1 E_64 = some (aO G 4 (lsO [])) ∧ Fr a M0 M1 := ⟨_, hR, hf1 _ _ k_56 n_50, hf1 _ _ k_57 n_51, hf1 _ _ k_58 n_52, hf1 _ _ k_59 n_53, hf1 _ _ k_60 n_54, hf1 _ _ k_61 n_55, x1, x2, x3, hfr.call z_49 hf1⟩
  refine W.widen (k := 8) (n := 25) (Nat.le_of_ble_eq_true rfl) (Nat.le_of_ble_eq_true rfl) ?_
  refine W.eq (g2 := F0 m 39 ls [.ref q_48, .int 1, .ref q_8, .ref q_8, .ref a]) rfl ?_
  refine r_aastj hx hb hT hR hS 4 rfl k_83 (hT.anyS hR k_87 rfl) (j := 1) rfl (by decide) (by decide) dX2_init_39 (fun H locs hz hR hS => ?_)
  obtain ⟨M, hR, k_90, k_91, k_92, k_93, k_94, k_95, k_96, k_97, k_98, hfr⟩ : ∃ M1 : Mp, Rp G M1 H ∧ M1 a = some (ob 1 [.double 0, .double 0, .double 0, .double 0, .int 0, .int 0, .ref q_1, .null]) ∧ M1 q_1 = some (ob 3 [.int 0]) ∧ M1 q_8 = some (aF G 2 (va_up (va_up (fun _ => none) 0 (some q_15)) 1 (some q_48))) ∧ M1 q_15 = some (ob 2 [.int 0, .double FP.dconst1, .double 0, .ref L_24]) ∧ M1 L_24 = some (ob 8 [.int 0, .ref E_25, .int 0]) ∧ M1 E_25 = some (aO G 4 (lsO [])) ∧ M1 q_48 = some (ob 2 [.int 0, .double FP.dconst1, .double 0, .ref L_63]) ∧ M1 L_63 = some (ob 8 [.int 0, .ref E_64, .int 0]) ∧ M1 E_64 = some (aO G 4 (lsO [])) ∧ Fr a M0 M1 := ⟨_, hR, muL n_10 k_81, muL n_11 k_82, mu_eq _ _ _, muL (Ne.symm n_19) k_84, muL (Ne.symm n_32) k_85, muL (Ne.symm n_33) k_86, muL (Ne.symm n_52) k_87, muL (Ne.symm n_71) k_88, muL (Ne.symm n_72) k_89, hfr.new z_9⟩
  refine r_putF (ci := 1) (v := .ref q_8) (ty := .array (.object "CablePlant$Flow")) (C := RX2) (T := TX2) (N := 8) hx hb hts in_X2 tyX2 tyX2_ok nmX2 hown hT hR hS k_90 rfl 7 (by decide) (hts _ q485) (fun _ h9 => h9) rfl hin rfl (by decide +kernel) rfl rfl (Nat.le_of_ble_eq_true rfl) dX2_init_40 (fun H locs hz hR hS => ?_)
  obtain ⟨M, hR, k_99, k_100, k_101, k_102, k_103, k_104, k_105, k_106, k_107, hfr⟩ : ∃ M1 : Mp, Rp G M1 H ∧ M1 a = some (ob 1 [.double 0, .double 0, .double 0, .double 0, .int 0, .int 0, .ref q_1, .ref q_8]) ∧ M1 q_1 = some (ob 3 [.int 0]) ∧ M1 q_8 = some (aF G 2 (va_up (va_up (fun _ => none) 0 (some q_15)) 1 (some q_48))) ∧ M1 q_15 = some (ob 2 [.int 0, .double FP.dconst1, .double 0, .ref L_24]) ∧ M1 L_24 = some (ob 8 [.int 0, .ref E_25, .int 0]) ∧ M1 E_25 = some (aO G 4 (lsO [])) ∧ M1 q_48 = some (ob 2 [.int 0, .double FP.dconst1, .double 0, .ref L_63]) ∧ M1 L_63 = some (ob 8 [.int 0, .ref E_64, .int 0]) ∧ M1 E_64 = some (aO G 4 (lsO [])) ∧ Fr a M0 M1 := ⟨_, hR, mu_eq _ _ _, muL (Ne.symm n_3) k_91, muL (Ne.symm n_10) k_92, muL (Ne.symm n_17) k_93, muL (Ne.symm n_28) k_94, muL (Ne.symm n_29) k_95, muL (Ne.symm n_50) k_96, muL (Ne.symm n_67) k_97, muL (Ne.symm n_68) k_98, hfr.own⟩
  refine W.widen (k := 8) (n := 25) (Nat.le_of_ble_eq_true rfl) (Nat.le_of_ble_eq_true rfl) ?_
  exact W.vret hx hb hr (q_ret (⟨rfl, q_1, q_8, q_15, L_24, E_25, q_48, L_63, E_64, ⟨z_2, z_9, z_16, z_26, z_27, z_49, z_65, z_66⟩, ⟨n_11, n_18, n_30, n_31, n_51, n_69, n_70, n_19, n_32, n_33, n_52, n_71, n_72, n_34, n_35, n_53, n_73, n_74, hL_24E, n_54, n_75, n_76, n_55, n_77, n_78, n_79, n_80, hL_63E⟩, k_99, k_100, k_101, k_102, k_103, k_104, k_105, k_106, k_107, hfr⟩) hR hS) hS.2.2 dX2_init_43
def earnC (c r : UInt64) : UInt64 := if leL (FP.dadd c r) c8 then FP.dadd c r else c8
set_option maxHeartbeats 4000000 in
set_option maxRecDepth 100000 in
theorem met_earn (l : Launch) (G : Gw) (M : Mp) (sz : Nat) (a L : Nat) (pr : Int32) (ra cr : UInt64) (ha : M a = some (ob 2 [.int pr, .double ra, .double cr, .ref L])) (hn : vf_n64 (FP.dadd cr ra)) : Ct l yX5_earn cX5_earn 1 none 0 0 0 [.ref a] G M sz (fun r M1 _ => r = none ∧ M1 = mu M a (ob 2 [.int pr, .double ra, .double (earnC cr ra), .ref L])) := by
  refine Met.ofW (cc := cX5_earn) (maxL := 1) (ret := none) (by decide) rfl ?_
  intro p e s m args below meth c s₁ B hml hv
  obtain ⟨rfl, hT, hR, hsz⟩ := hv
  have hx := B.exec
  have hb := B.bytes
  have hr := B.returns
  have hts := atoms_spec (ws := ws_ yX5_earn cX5_earn 1 none) B.pre
  have hts : ∀ w ∈ lw_all, w.before _ s = true := fun w h => hts w (List.mem_cons_of_mem _ h)
  have hown : s.vm.findClass RX5 = some m.cls := findClass_of_methodNamed B.named
  have hlocks := B.notSynchronized
  have hS : va_S (Af G) s.heap s.heap [] := va_S.rf
  have hl := lv_entry ([.ref a]) (n := 1) (Nat.le_of_ble_eq_true rfl)
  rw [lg_entry_eq]
  generalize (lg_sl ([.ref a]) ++ List.replicate (1 - (lg_sl ([.ref a])).length) Slot.unset).toArray = ls at hl ⊢
  have hl : lv_has ls 1 [(0, .ref a)] := hl
  refine lv_aload_n hx hb dX5_earn_0 rfl (lv_at hl 0 rfl) ?_
  refine lv_aload_n hx hb dX5_earn_1 rfl (lv_at hl 0 rfl) ?_
  refine va_get (D := G.1) (ci := 2) (v := .double cr) (C := RX5) (T := TX5) (N := 4) hx hb hts in_X5 hown hT.1 (hR.one ha) 0 rfl rfl 2 (by decide) (hts _ q458) (fun _ h9 => h9) rfl dX5_earn_2 ?_
  refine lv_aload_n hx hb dX5_earn_5 rfl (lv_at hl 0 rfl) ?_
  refine va_get (D := G.1) (ci := 2) (v := .double ra) (C := RX5) (T := TX5) (N := 4) hx hb hts in_X5 hown hT.1 (hR.one ha) 0 rfl rfl 1 (by decide) (hts _ q456) (fun _ h9 => h9) rfl dX5_earn_6 ?_
  refine lv_dadd hx hb dX5_earn_9 hn ?_
  refine r_put (ci := 2) (v := .double (FP.dadd cr ra)) (ty := .double) (C := RX5) (T := TX5) (N := 4) hx hb hts in_X5 tyX5 tyX5_ok nmX5 hown hT hR hS ha rfl 2 (by decide) (hts _ q458) (fun _ h9 => h9) rfl (by decide +kernel) rfl rfl (Nat.le_of_ble_eq_true rfl) dX5_earn_10 (fun H locs hz hR hS => ?_)
  have hsz : H.size = sz := hz.trans hsz
  have hR : Rp G (mu M a (ob 2 [.int pr, .double ra, .double (FP.dadd cr ra), .ref L])) H := hR
  refine lv_aload_n hx hb dX5_earn_13 rfl (lv_at hl 0 rfl) ?_
  refine va_get (D := G.1) (ci := 2) (v := .double (FP.dadd cr ra)) (C := RX5) (T := TX5) (N := 4) hx hb hts in_X5 hown hT.1 (hR.one (mu_eq _ _ _)) 0 rfl rfl 2 (by decide) (hts _ q458) (fun _ h9 => h9) rfl dX5_earn_14 ?_
  refine lv_ldc2d (v := c8) hx hb hown (hts _ q874) dX5_earn_17 ?_
  refine lv_dcmp hx hb dX5_earn_20 ?_
  refine lv_if_le (tgt := 31) hx hb dX5_earn_21 (by decide) (fun c_1 => ?_) (fun c_1 => ?_)
  · skip
    exact W.vret hx hb hr (q_ret (⟨rfl, by rw [show earnC cr ra = FP.dadd cr ra from (if_pos c_1).trans (rfl)]⟩) hR hS) hS.2.2 dX5_earn_31
  · skip
    refine lv_aload_n hx hb dX5_earn_24 rfl (lv_at hl 0 rfl) ?_
    refine lv_ldc2d (v := c8) hx hb hown (hts _ q874) dX5_earn_25 ?_
    refine r_put (ci := 2) (v := .double c8) (ty := .double) (C := RX5) (T := TX5) (N := 4) hx hb hts in_X5 tyX5 tyX5_ok nmX5 hown hT hR hS (mu_eq _ _ _) rfl 2 (by decide) (hts _ q458) (fun _ h9 => h9) rfl (by decide +kernel) rfl rfl (Nat.le_of_ble_eq_true rfl) dX5_earn_28 (fun H locs hz hR hS => ?_)
    have hsz : H.size = sz := hz.trans hsz
    have hR : Rp G (mu (mu M a (ob 2 [.int pr, .double ra, .double (FP.dadd cr ra), .ref L])) a (ob 2 [.int pr, .double ra, .double c8, .ref L])) H := hR
    exact W.vret hx hb hr (q_ret (⟨rfl, by rw [show earnC cr ra = c8 from (if_neg c_1).trans (rfl)]; exact mu_mu _ _ _ _⟩) hR hS) hS.2.2 dX5_earn_31
