/-! ArrayList by the list of what it holds: L the object, E its array -/
def lsO (xs : List Nat) : Nat → Option Nat := fun i => xs[i]?
theorem nI_z {n : Nat} (h : n < 2 ^ 31) : nI n = 0 ↔ n = 0 := nI_eq (b := 0) h (by decide)
def isObj (M : Mp) (y : Nat) : Prop := ∃ (ci : Nat) (fs : List Value), M y = some (.inr (ci, fs)) ∧ ci < 11
theorem anyW : ∀ (ci : Nat) (r : vw_C), vwCl[ci]? = some r → Cond.castable r.1 "java/lang/Object" ∈ lw_tbl := by
  intro ci r h
  match ci, h with
  | 0, h => cases h; exact q1264
  | 1, h => cases h; exact q1262
  | 2, h => cases h; exact q1263
  | 3, h => cases h; exact q1269
  | 4, h => cases h; exact q1274
  | 5, h => cases h; exact q1277
  | 6, h => cases h; exact q1276
  | 7, h => cases h; exact q1278
  | 8, h => cases h; exact q1265
  | 9, h => cases h; exact q1272
  | 10, h => cases h; exact q1270
theorem Wt.anyO {G : Gw} {M : Mp} {s : State} {H : Heap} {y : Nat} (hT : Wt G s) (hR : Rp G M H) (h : isObj M y) : va_Any "java/lang/Object" s H y := by
  obtain ⟨ci, fs, h1, h2⟩ := h
  obtain ⟨r, hr, -⟩ := hR.at h1
  exact hT.any hR h1 hr (anyW ci r hr)
theorem isObj.up {M : Mp} {a y ci : Nat} {fs : List Value} (h : isObj M y) (hc : ci < 11) : isObj (mu M a (.inr (ci, fs))) y := by
  obtain ⟨c1, f1, h1, h2⟩ := h
  by_cases q : y = a
  · subst q
    exact ⟨ci, fs, mu_eq _ _ _, hc⟩
  · exact ⟨c1, f1, muL q h1, h2⟩
theorem isObj.upA {M : Mp} {a y : Nat} {x x1 : ClassId × vp_A} (h : isObj M y) (ha : M a = some (.inl x)) : isObj (mu M a (.inl x1)) y := by
  obtain ⟨c1, f1, h1, h2⟩ := h
  refine ⟨c1, f1, muL (fun q => ?_) h1, h2⟩
  subst q
  rw [ha] at h1
  cases h1
theorem mu4 {M : Mp} {L E : Nat} {a b c d : va_E} (h : L ≠ E) : mu (mu (mu (mu M L a) E b) L c) E d = mu (mu M E d) L c := by
  rw [mu_comm _ c d h, mu_mu, mu_comm _ a d h, mu_mu]
theorem mu3 {M : Mp} {L E : Nat} {a c d : va_E} (h : L ≠ E) : mu (mu (mu M L a) L c) E d = mu (mu M E d) L c := by
  rw [mu_mu, mu_comm _ c d h]
theorem lsO_add (xs : List Nat) (v : Nat) : va_up (lsO xs) xs.length (some v) = lsO (xs ++ [v]) := by
  funext i
  unfold va_up lsO
  by_cases h : i = xs.length
  · subst h; simp
  · rw [if_neg h]
    by_cases h2 : i < xs.length
    · rw [List.getElem?_append_left h2]
    · rw [List.getElem?_eq_none (by omega), List.getElem?_eq_none (by simp; omega)]
theorem lsO_ins (xs : List Nat) (k v : Nat) (hk : k ≤ xs.length) : va_up (va_cpy (lsO xs) (lsO xs) k (k + 1) (xs.length - k)) k (some v) = lsO (xs.insertIdx k v) := by
  funext i
  unfold va_up lsO
  rw [List.getElem?_insertIdx]
  by_cases h : i = k
  · subst h; simp [hk]
  · rw [if_neg h]
    by_cases h2 : i < k
    · rw [if_pos h2, pk_cpy_out (by omega)]
    · rw [if_neg h2, if_neg h]
      by_cases h3 : i ≤ xs.length
      · rw [pk_cpy_in (by omega) (by omega)]
        congr 1; omega
      · rw [pk_cpy_out (by omega), List.getElem?_eq_none (by omega), List.getElem?_eq_none (by omega)]
theorem lsO_era (xs : List Nat) (k : Nat) (hk : k < xs.length) : va_up (va_cpy (lsO xs) (lsO xs) (k + 1) k (xs.length - 1 - k)) (xs.length - 1) none = lsO (xs.eraseIdx k) := by
  funext i
  unfold va_up lsO
  rw [List.getElem?_eraseIdx]
  by_cases h : i = xs.length - 1
  · subst h
    rw [if_pos rfl]
    by_cases h2 : xs.length - 1 < k
    · omega
    · rw [if_neg h2, List.getElem?_eq_none (by omega)]
  · rw [if_neg h]
    by_cases h2 : i < k
    · rw [if_pos h2, pk_cpy_out (by omega)]
    · rw [if_neg h2]
      by_cases h3 : i < xs.length - 1
      · rw [pk_cpy_in (by omega) (by omega)]
        congr 1; omega
      · rw [pk_cpy_out (by omega), List.getElem?_eq_none (by omega), List.getElem?_eq_none (by omega)]
theorem lsO_era0 (xs : List Nat) (k : Nat) (hk : k < xs.length) (h : ¬ k < xs.length - 1) : va_up (lsO xs) (xs.length - 1) none = lsO (xs.eraseIdx k) := by
  rw [← lsO_era xs k hk]
  congr 1
  funext i
  rw [pk_cpy_out (by omega)]
set_option maxHeartbeats 4000000 in
set_option maxRecDepth 100000 in
theorem met_lsize (l : Launch) (G : Gw) (M : Mp) (sz : Nat) (L E cap : Nat) (mc : Int32) (xs : List Nat) (hc : cap < 2 ^ 31) (hx9 : xs.length ≤ cap) (hL : M L = some (ob 8 [.int mc, .ref E, .int (nI xs.length)])) (hE : M E = some (aO G cap (lsO xs))) : Cp l yJ2_size cJ2_size 1 (some .int) 0 [.ref L] G M sz (some (.int (nI xs.length))) := by
  refine Met.ofW (cc := cJ2_size) (maxL := 1) (ret := (some .int)) (by decide) rfl ?_
  intro p e s m args below meth c s₁ B hml hv
  obtain ⟨rfl, hT, hR, hsz⟩ := hv
  have hx := B.exec
  have hb := B.bytes
  have hr := B.returns
  have hts := atoms_spec (ws := ws_ yJ2_size cJ2_size 1 (some .int)) B.pre
  have hts : ∀ w ∈ lw_all, w.before _ s = true := fun w h => hts w (List.mem_cons_of_mem _ h)
  have hown : s.vm.findClass RJ2 = some m.cls := findClass_of_methodNamed B.named
  have hlocks := B.notSynchronized
  have hS : va_S (Af G) s.heap s.heap [] := va_S.rf
  have hl := lv_entry ([.ref L]) (n := 1) (Nat.le_of_ble_eq_true rfl)
  rw [lg_entry_eq]
  generalize (lg_sl ([.ref L]) ++ List.replicate (1 - (lg_sl ([.ref L])).length) Slot.unset).toArray = ls at hl ⊢
  have hl : lv_has ls 1 [(0, .ref L)] := hl
  refine lv_aload_n hx hb dJ2_size_0 rfl (lv_at hl 0 rfl) ?_
  refine va_get (D := G.1) (ci := 8) (v := .int (nI xs.length)) (C := RJ2) (T := TJ2) (N := 3) hx hb hts in_J2 hown hT.1 (hR.one hL) 0 rfl rfl 2 (by decide) (hts _ q414) (fun _ h9 => h9) rfl dJ2_size_1 ?_
  exact W.iret hx hb hr (fun t ht _ => ⟨rfl, ht⟩) t_nil dJ2_size_4
set_option maxHeartbeats 4000000 in
set_option maxRecDepth 100000 in
theorem met_isEmpty (l : Launch) (G : Gw) (M : Mp) (sz : Nat) (L E cap : Nat) (mc : Int32) (xs : List Nat) (hc : cap < 2 ^ 31) (hx9 : xs.length ≤ cap) (hL : M L = some (ob 8 [.int mc, .ref E, .int (nI xs.length)])) (hE : M E = some (aO G cap (lsO xs))) : Cp l yJ2_isEmpty cJ2_isEmpty 1 (some .boolean) 0 [.ref L] G M sz (some (.int (bI (xs.length = 0)))) := by
  refine Met.ofW (cc := cJ2_isEmpty) (maxL := 1) (ret := (some .boolean)) (by decide) rfl ?_
  intro p e s m args below meth c s₁ B hml hv
  obtain ⟨rfl, hT, hR, hsz⟩ := hv
  have hx := B.exec
  have hb := B.bytes
  have hr := B.returns
  have hts := atoms_spec (ws := ws_ yJ2_isEmpty cJ2_isEmpty 1 (some .boolean)) B.pre
  have hts : ∀ w ∈ lw_all, w.before _ s = true := fun w h => hts w (List.mem_cons_of_mem _ h)
  have hown : s.vm.findClass RJ2 = some m.cls := findClass_of_methodNamed B.named
  have hlocks := B.notSynchronized
  have hS : va_S (Af G) s.heap s.heap [] := va_S.rf
  have hl := lv_entry ([.ref L]) (n := 1) (Nat.le_of_ble_eq_true rfl)
  rw [lg_entry_eq]
  generalize (lg_sl ([.ref L]) ++ List.replicate (1 - (lg_sl ([.ref L])).length) Slot.unset).toArray = ls at hl ⊢
  have hl : lv_has ls 1 [(0, .ref L)] := hl
  refine lv_aload_n hx hb dJ2_isEmpty_0 rfl (lv_at hl 0 rfl) ?_
  refine va_get (D := G.1) (ci := 8) (v := .int (nI xs.length)) (C := RJ2) (T := TJ2) (N := 3) hx hb hts in_J2 hown hT.1 (hR.one hL) 0 rfl rfl 2 (by decide) (hts _ q414) (fun _ h9 => h9) rfl dJ2_isEmpty_1 ?_
  refine lv_if_ne (tgt := 11) hx hb dJ2_isEmpty_4 (by decide) (fun c_1 => ?_) (fun c_1 => ?_)
  · skip
    refine lv_iconst (v := 0) hx hb dJ2_isEmpty_11 (by decide) ?_
    exact W.zret hx hb hr rfl (fun t ht _ => ⟨(by rw [bI_f (fun h => c_1 ((nI_z (by omega)).mpr h))]), ht⟩) t_nil dJ2_isEmpty_12
  · skip
    refine lv_iconst (v := 1) hx hb dJ2_isEmpty_7 (by decide) ?_
    refine lv_goto (tgt := 12) hx hb dJ2_isEmpty_8 (by decide) ?_
    exact W.zret hx hb hr rfl (fun t ht _ => ⟨(by rw [bI_t ((nI_z (by omega)).mp c_1)]), ht⟩) t_nil dJ2_isEmpty_12
set_option maxHeartbeats 4000000 in
set_option maxRecDepth 100000 in
theorem met_pci (l : Launch) (G : Gw) (M : Mp) (sz : Nat) (k n : Nat) (hk : k < n) (hn : n < 2 ^ 31) : Cp l yJ14_checkIndex cJ14_checkIndex 3 (some .int) 0 [.int (nI k), .int (nI n), .null] G M sz (some (.int (nI k))) := by
  refine Met.ofW (cc := cJ14_checkIndex) (maxL := 3) (ret := (some .int)) (by decide) rfl ?_
  intro p e s m args below meth c s₁ B hml hv
  obtain ⟨rfl, hT, hR, hsz⟩ := hv
  have hx := B.exec
  have hb := B.bytes
  have hr := B.returns
  have hts := atoms_spec (ws := ws_ yJ14_checkIndex cJ14_checkIndex 3 (some .int)) B.pre
  have hts : ∀ w ∈ lw_all, w.before _ s = true := fun w h => hts w (List.mem_cons_of_mem _ h)
  have hown : s.vm.findClass RJ14 = some m.cls := findClass_of_methodNamed B.named
  have hlocks := B.notSynchronized
  have hS : va_S (Af G) s.heap s.heap [] := va_S.rf
  have hl := lv_entry ([.int (nI k), .int (nI n), .null]) (n := 3) (Nat.le_of_ble_eq_true rfl)
  rw [lg_entry_eq]
  generalize (lg_sl ([.int (nI k), .int (nI n), .null]) ++ List.replicate (3 - (lg_sl ([.int (nI k), .int (nI n), .null])).length) Slot.unset).toArray = ls at hl ⊢
  have hl : lv_has ls 3 [(0, .int (nI k)), (1, .int (nI n)), (2, .null)] := hl
  refine lv_iload_n hx hb dJ14_checkIndex_0 rfl (lv_at hl 0 rfl) ?_
  refine lv_if_lt (tgt := 9) hx hb dJ14_checkIndex_1 (by decide) (fun c_1 => ?_) (fun c_1 => ?_)
  · skip
    exact absurd c_1 (nI_pos (by omega))
  · skip
    refine lv_iload_n hx hb dJ14_checkIndex_4 rfl (lv_at hl 0 rfl) ?_
    refine lv_iload_n hx hb dJ14_checkIndex_5 rfl (lv_at hl 1 rfl) ?_
    refine lv_icmp_lt (tgt := 16) hx hb dJ14_checkIndex_6 (by decide) (fun c_2 => ?_) (fun c_2 => ?_)
    · skip
      refine lv_iload_n hx hb dJ14_checkIndex_16 rfl (lv_at hl 0 rfl) ?_
      exact W.iret hx hb hr (fun t ht _ => ⟨rfl, ht⟩) t_nil dJ14_checkIndex_17
    · skip
      exact absurd (nI_lt hk hn) c_2
set_option maxHeartbeats 4000000 in
set_option maxRecDepth 100000 in
theorem met_oci (l : Launch) (G : Gw) (M : Mp) (sz : Nat) (k n : Nat) (hk : k < n) (hn : n < 2 ^ 31) : Cp l yJ22_checkIndex cJ22_checkIndex 2 (some .int) 1 [.int (nI k), .int (nI n)] G M sz (some (.int (nI k))) := by
  refine Met.ofW (cc := cJ22_checkIndex) (maxL := 2) (ret := (some .int)) (by decide) rfl ?_
  intro p e s m args below meth c s₁ B hml hv
  obtain ⟨rfl, hT, hR, hsz⟩ := hv
  have hx := B.exec
  have hb := B.bytes
  have hr := B.returns
  have hts := atoms_spec (ws := ws_ yJ22_checkIndex cJ22_checkIndex 2 (some .int)) B.pre
  have hts : ∀ w ∈ lw_all, w.before _ s = true := fun w h => hts w (List.mem_cons_of_mem _ h)
  have hown : s.vm.findClass RJ22 = some m.cls := findClass_of_methodNamed B.named
  have hlocks := B.notSynchronized
  have hS : va_S (Af G) s.heap s.heap [] := va_S.rf
  have hl := lv_entry ([.int (nI k), .int (nI n)]) (n := 2) (Nat.le_of_ble_eq_true rfl)
  rw [lg_entry_eq]
  generalize (lg_sl ([.int (nI k), .int (nI n)]) ++ List.replicate (2 - (lg_sl ([.int (nI k), .int (nI n)])).length) Slot.unset).toArray = ls at hl ⊢
  have hl : lv_has ls 2 [(0, .int (nI k)), (1, .int (nI n))] := hl
  refine lv_iload_n hx hb dJ22_checkIndex_0 rfl (lv_at hl 0 rfl) ?_
  refine lv_iload_n hx hb dJ22_checkIndex_1 rfl (lv_at hl 1 rfl) ?_
  refine lv_null hx hb dJ22_checkIndex_2 ?_
  refine g_pure (va_runS (As := [.int (nI k), .int (nI n), .null]) (rest := []) ⟨hx, hb, hml, hown, hts⟩ (met_pci l G M _ k n hk hn) (va_cwS 3 hts (lw_S q581 q582 q53 q583) rfl rfl rfl (by decide +kernel) ⟨Nat.le_of_ble_eq_true rfl, Nat.le_of_ble_eq_true rfl⟩) (preS hT hR hS) rfl rfl hl.1 rfl (lv_room (Nat.le_of_ble_eq_true rfl)) dJ22_checkIndex_3 ⟨Nat.le_of_ble_eq_true rfl, Nat.le_of_ble_eq_true rfl⟩) ?_
  refine W.eq (g2 := F0 m 6 ls [.int (nI k)]) rfl ?_
  exact W.iret hx hb hr (fun t ht _ => ⟨rfl, ht⟩) t_nil dJ22_checkIndex_6
set_option maxHeartbeats 4000000 in
set_option maxRecDepth 100000 in
theorem met_elem (l : Launch) (G : Gw) (M : Mp) (sz : Nat) (L E cap : Nat) (mc : Int32) (xs : List Nat) (hc : cap < 2 ^ 31) (hx9 : xs.length ≤ cap) (hL : M L = some (ob 8 [.int mc, .ref E, .int (nI xs.length)])) (hE : M E = some (aO G cap (lsO xs))) (k y : Nat) (hk : k < xs.length) (hy : xs[k]? = some y) : Cp l yJ2_elementData cJ2_elementData 2 (some (.object "java/lang/Object")) 0 [.ref L, .int (nI k)] G M sz (some (.ref y)) := by
  refine Met.ofW (cc := cJ2_elementData) (maxL := 2) (ret := (some (.object "java/lang/Object"))) (by decide) rfl ?_
  intro p e s m args below meth c s₁ B hml hv
  obtain ⟨rfl, hT, hR, hsz⟩ := hv
  have hx := B.exec
  have hb := B.bytes
  have hr := B.returns
  have hts := atoms_spec (ws := ws_ yJ2_elementData cJ2_elementData 2 (some (.object "java/lang/Object"))) B.pre
  have hts : ∀ w ∈ lw_all, w.before _ s = true := fun w h => hts w (List.mem_cons_of_mem _ h)
  have hown : s.vm.findClass RJ2 = some m.cls := findClass_of_methodNamed B.named
  have hlocks := B.notSynchronized
  have hS : va_S (Af G) s.heap s.heap [] := va_S.rf
  have hl := lv_entry ([.ref L, .int (nI k)]) (n := 2) (Nat.le_of_ble_eq_true rfl)
  rw [lg_entry_eq]
  generalize (lg_sl ([.ref L, .int (nI k)]) ++ List.replicate (2 - (lg_sl ([.ref L, .int (nI k)])).length) Slot.unset).toArray = ls at hl ⊢
  have hl : lv_has ls 2 [(0, .ref L), (1, .int (nI k))] := hl
  refine lv_aload_n hx hb dJ2_elementData_0 rfl (lv_at hl 0 rfl) ?_
  refine va_get (D := G.1) (ci := 8) (v := .ref E) (C := RJ2) (T := TJ2) (N := 3) hx hb hts in_J2 hown hT.1 (hR.one hL) 0 rfl rfl 1 (by decide) (hts _ q411) (fun _ h9 => h9) rfl dJ2_elementData_1 ?_
  refine lv_iload_n hx hb dJ2_elementData_4 rfl (lv_at hl 1 rfl) ?_
  refine r_aald hx hb hT 5 rfl hR hE (j := k) rfl (by omega) (by omega) (y := y) hy dJ2_elementData_5 ?_
  exact W.aret hx hb hr (Or.inl ⟨_, rfl⟩) (Or.inr ⟨_, rfl⟩) (fun t ht _ => ⟨rfl, ht⟩) t_nil dJ2_elementData_6
set_option maxHeartbeats 4000000 in
set_option maxRecDepth 100000 in
theorem met_get (l : Launch) (G : Gw) (M : Mp) (sz : Nat) (L E cap : Nat) (mc : Int32) (xs : List Nat) (hc : cap < 2 ^ 31) (hx9 : xs.length ≤ cap) (hL : M L = some (ob 8 [.int mc, .ref E, .int (nI xs.length)])) (hE : M E = some (aO G cap (lsO xs))) (k y : Nat) (hk : k < xs.length) (hy : xs[k]? = some y) : Cp l yJ2_get cJ2_get 2 (some (.object "java/lang/Object")) 2 [.ref L, .int (nI k)] G M sz (some (.ref y)) := by
  refine Met.ofW (cc := cJ2_get) (maxL := 2) (ret := (some (.object "java/lang/Object"))) (by decide) rfl ?_
  intro p e s m args below meth c s₁ B hml hv
  obtain ⟨rfl, hT, hR, hsz⟩ := hv
  have hx := B.exec
  have hb := B.bytes
  have hr := B.returns
  have hts := atoms_spec (ws := ws_ yJ2_get cJ2_get 2 (some (.object "java/lang/Object"))) B.pre
  have hts : ∀ w ∈ lw_all, w.before _ s = true := fun w h => hts w (List.mem_cons_of_mem _ h)
  have hown : s.vm.findClass RJ2 = some m.cls := findClass_of_methodNamed B.named
  have hlocks := B.notSynchronized
  have hS : va_S (Af G) s.heap s.heap [] := va_S.rf
  have hl := lv_entry ([.ref L, .int (nI k)]) (n := 2) (Nat.le_of_ble_eq_true rfl)
  rw [lg_entry_eq]
  generalize (lg_sl ([.ref L, .int (nI k)]) ++ List.replicate (2 - (lg_sl ([.ref L, .int (nI k)])).length) Slot.unset).toArray = ls at hl ⊢
  have hl : lv_has ls 2 [(0, .ref L), (1, .int (nI k))] := hl
  refine lv_iload_n hx hb dJ2_get_0 rfl (lv_at hl 1 rfl) ?_
  refine lv_aload_n hx hb dJ2_get_1 rfl (lv_at hl 0 rfl) ?_
  refine va_get (D := G.1) (ci := 8) (v := .int (nI xs.length)) (C := RJ2) (T := TJ2) (N := 3) hx hb hts in_J2 hown hT.1 (hR.one hL) 0 rfl rfl 2 (by decide) (hts _ q414) (fun _ h9 => h9) rfl dJ2_get_2 ?_
  refine g_pure (va_runS (As := [.int (nI k), .int (nI xs.length)]) (rest := []) ⟨hx, hb, hml, hown, hts⟩ (met_oci l G M _ k xs.length hk (by omega)) (va_cwS 2 hts (lw_S q578 q579 q69 q580) rfl rfl rfl (by decide +kernel) ⟨Nat.le_of_ble_eq_true rfl, Nat.le_of_ble_eq_true rfl⟩) (preS hT hR hS) rfl rfl hl.1 rfl (lv_room (Nat.le_of_ble_eq_true rfl)) dJ2_get_5 ⟨Nat.le_of_ble_eq_true rfl, Nat.le_of_ble_eq_true rfl⟩) ?_
  refine W.eq (g2 := F0 m 8 ls [.int (nI k)]) rfl ?_
  refine lv_pop hx hb dJ2_get_8 rfl ?_
  refine lv_aload_n hx hb dJ2_get_9 rfl (lv_at hl 0 rfl) ?_
  refine lv_iload_n hx hb dJ2_get_10 rfl (lv_at hl 1 rfl) ?_
  refine g_pure (va_runV (As := [.int (nI k)]) (rest := []) ⟨hx, hb, hml, hown, hts⟩ (met_elem l G M _ L E cap mc xs hc hx9 hL hE k y hk hy) (cwV 1 hts (lw_V q584 q585 q586 q40 q587) rfl rfl rfl (by decide +kernel) ⟨Nat.le_of_ble_eq_true rfl, Nat.le_of_ble_eq_true rfl⟩) (preV hT hR hS hL rfl rfl) rfl rfl hl.1 rfl (lv_room (Nat.le_of_ble_eq_true rfl)) dJ2_get_11 ⟨Nat.le_of_ble_eq_true rfl, Nat.le_of_ble_eq_true rfl⟩) ?_
  refine W.eq (g2 := F0 m 14 ls [.ref y]) rfl ?_
  exact W.aret hx hb hr (Or.inl ⟨_, rfl⟩) (Or.inr ⟨_, rfl⟩) (fun t ht _ => ⟨rfl, ht⟩) t_nil dJ2_get_14
set_option maxHeartbeats 4000000 in
set_option maxRecDepth 100000 in
theorem met_acinit (l : Launch) (G : Gw) (M : Mp) (sz : Nat) (L : Nat) : Cp l yJ0_init cJ0_init 1 none 1 [.ref L] G M sz (none) := by
  refine Met.ofW (cc := cJ0_init) (maxL := 1) (ret := none) (by decide) rfl ?_
  intro p e s m args below meth c s₁ B hml hv
  obtain ⟨rfl, hT, hR, hsz⟩ := hv
  have hx := B.exec
  have hb := B.bytes
  have hr := B.returns
  have hts := atoms_spec (ws := ws_ yJ0_init cJ0_init 1 none) B.pre
  have hts : ∀ w ∈ lw_all, w.before _ s = true := fun w h => hts w (List.mem_cons_of_mem _ h)
  have hown : s.vm.findClass RJ0 = some m.cls := findClass_of_methodNamed B.named
  have hlocks := B.notSynchronized
  have hin : meth.name = "<init>" := (name_of_methodNamed B.named B.method).1
  have hS : va_S (Af G) s.heap s.heap [] := va_S.rf
  have hl := lv_entry ([.ref L]) (n := 1) (Nat.le_of_ble_eq_true rfl)
  rw [lg_entry_eq]
  generalize (lg_sl ([.ref L]) ++ List.replicate (1 - (lg_sl ([.ref L])).length) Slot.unset).toArray = ls at hl ⊢
  have hl : lv_has ls 1 [(0, .ref L)] := hl
  refine lv_aload_n hx hb dJ0_init_0 rfl (lv_at hl 0 rfl) ?_
  refine W.objInit hx hb hown (hts _ q93) (hts _ q78) (hts _ q79) rfl (by rw [hml]; exact hl.1) rfl dJ0_init_1 (Nat.le_of_ble_eq_true rfl) (Nat.le_of_ble_eq_true rfl) ?_
  refine W.eq (g2 := F0 m 4 ls []) rfl ?_
  exact W.vret hx hb hr (fun t ht _ => ⟨rfl, ht⟩) t_nil dJ0_init_4
set_option maxHeartbeats 4000000 in
set_option maxRecDepth 100000 in
theorem met_alinit (l : Launch) (G : Gw) (M : Mp) (sz : Nat) (L : Nat) (hL : M L = some (ob 8 [.int 0, .null, .int 0])) : Ct l yJ1_init cJ1_init 1 none 2 0 0 [.ref L] G M sz (fun v M1 z => v = none ∧ M1 = M ∧ z = sz) := by
  refine Met.ofW (cc := cJ1_init) (maxL := 1) (ret := none) (by decide) rfl ?_
  intro p e s m args below meth c s₁ B hml hv
  obtain ⟨rfl, hT, hR, hsz⟩ := hv
  have hx := B.exec
  have hb := B.bytes
  have hr := B.returns
  have hts := atoms_spec (ws := ws_ yJ1_init cJ1_init 1 none) B.pre
  have hts : ∀ w ∈ lw_all, w.before _ s = true := fun w h => hts w (List.mem_cons_of_mem _ h)
  have hown : s.vm.findClass RJ1 = some m.cls := findClass_of_methodNamed B.named
  have hlocks := B.notSynchronized
  have hin : meth.name = "<init>" := (name_of_methodNamed B.named B.method).1
  have hS : va_S (Af G) s.heap s.heap [] := va_S.rf
  have hl := lv_entry ([.ref L]) (n := 1) (Nat.le_of_ble_eq_true rfl)
  rw [lg_entry_eq]
  generalize (lg_sl ([.ref L]) ++ List.replicate (1 - (lg_sl ([.ref L])).length) Slot.unset).toArray = ls at hl ⊢
  have hl : lv_has ls 1 [(0, .ref L)] := hl
  refine lv_aload_n hx hb dJ1_init_0 rfl (lv_at hl 0 rfl) ?_
  refine g_pure (va_runI (As := []) (rest := []) ⟨hx, hb, hml, hown, hts⟩ (met_acinit l G M _ L) (cwI 0 hts (lw_meth q92) rfl rfl rfl (hts _ q38) (hts _ q90) (hts _ q91) rfl (by decide +kernel) ⟨Nat.le_of_ble_eq_true rfl, Nat.le_of_ble_eq_true rfl⟩) (preS hT hR hS) rfl rfl hl.1 rfl (lv_room (Nat.le_of_ble_eq_true rfl)) dJ1_init_1 ⟨Nat.le_of_ble_eq_true rfl, Nat.le_of_ble_eq_true rfl⟩) ?_
  refine W.eq (g2 := F0 m 4 ls []) rfl ?_
  refine lv_aload_n hx hb dJ1_init_4 rfl (lv_at hl 0 rfl) ?_
  refine lv_iconst (v := 0) hx hb dJ1_init_5 (by decide) ?_
  refine r_put (ci := 8) (v := .int 0) (ty := .int) (C := RJ2) (T := TJ2) (N := 3) hx hb hts in_J2 tyJ2 tyJ2_ok nmJ2 hown hT hR hS hL rfl 0 (by decide) (hts _ q415) (fun _ h9 => h9) rfl (by decide +kernel) rfl rfl (Nat.le_of_ble_eq_true rfl) dJ1_init_6 (fun H locs hz hR hS => ?_)
  have hsz : H.size = sz := hz.trans hsz
  have hR : Rp G (mu M L (ob 8 [.int 0, .null, .int 0])) H := hR
  exact W.vret hx hb hr (q_ret (⟨rfl, mu_self hL, hsz⟩) hR hS) hS.2.2 dJ1_init_9
set_option maxHeartbeats 4000000 in
set_option maxRecDepth 100000 in
theorem met_linit4 (l : Launch) (G : Gw) (M : Mp) (sz : Nat) (L : Nat) (hL : M L = some (ob 8 [.int 0, .null, .int 0])) : Ct l yJ2_init cJ2_init 2 none 3 1 4 [.ref L, .int 4] G M sz (fun v M1 z => v = none ∧ M1 = mu (mu M sz (aO G 4 (lsO []))) L (ob 8 [.int 0, .ref sz, .int 0]) ∧ z = sz + 1) := by
  refine Met.ofW (cc := cJ2_init) (maxL := 2) (ret := none) (by decide) rfl ?_
  intro p e s m args below meth c s₁ B hml hv
  obtain ⟨rfl, hT, hR, hsz⟩ := hv
  have hx := B.exec
  have hb := B.bytes
  have hr := B.returns
  have hts := atoms_spec (ws := ws_ yJ2_init cJ2_init 2 none) B.pre
  have hts : ∀ w ∈ lw_all, w.before _ s = true := fun w h => hts w (List.mem_cons_of_mem _ h)
  have hown : s.vm.findClass RJ2 = some m.cls := findClass_of_methodNamed B.named
  have hlocks := B.notSynchronized
  have hin : meth.name = "<init>" := (name_of_methodNamed B.named B.method).1
  have hS : va_S (Af G) s.heap s.heap [] := va_S.rf
  have hl := lv_entry ([.ref L, .int 4]) (n := 2) (Nat.le_of_ble_eq_true rfl)
  rw [lg_entry_eq]
  generalize (lg_sl ([.ref L, .int 4]) ++ List.replicate (2 - (lg_sl ([.ref L, .int 4])).length) Slot.unset).toArray = ls at hl ⊢
  have hl : lv_has ls 2 [(0, .ref L), (1, .int 4)] := hl
  refine lv_aload_n hx hb dJ2_init_0 rfl (lv_at hl 0 rfl) ?_
  refine g_call (va_runI (As := []) (rest := []) ⟨hx, hb, hml, hown, hts⟩ (met_alinit l G M _ L hL) (cwI 0 hts (lw_meth q89) rfl rfl rfl (hts _ q39) (hts _ q87) (hts _ q88) rfl (by decide +kernel) ⟨Nat.le_of_ble_eq_true rfl, Nat.le_of_ble_eq_true rfl⟩) (preS hT hR hS) rfl rfl hl.1 rfl (lv_room (Nat.le_of_ble_eq_true rfl)) dJ2_init_1 ⟨Nat.le_of_ble_eq_true rfl, Nat.le_of_ble_eq_true rfl⟩) hS (fun v M1 H locs hq hR hz hS => ?_)
  obtain ⟨rfl, hM1, hsz1⟩ := hq
  rw [hM1] at hR
  have hsz := hsz1.trans hsz
  refine W.eq (g2 := F0 m 4 ls []) rfl ?_
  refine lv_iload_n hx hb dJ2_init_4 rfl (lv_at hl 1 rfl) ?_
  refine lv_if_le (tgt := 19) hx hb dJ2_init_5 (by decide) (fun c_1 => ?_) (fun c_1 => ?_)
  · skip
    exact absurd c_1 (by decide)
  · skip
    refine lv_aload_n hx hb dJ2_init_8 rfl (lv_at hl 0 rfl) ?_
    refine lv_iload_n hx hb dJ2_init_9 rfl (lv_at hl 1 rfl) ?_
    refine r_newq hx hb hown (hts _ q94) (hT.nw q95 rfl) 5 hT rfl hR hS (N' := 4) (by decide) (by decide) (by decide) (by exact Nat.le_of_ble_eq_true rfl) (by exact Nat.le_of_ble_eq_true rfl) dJ2_init_10 (fun q_2 H hq_2 hz hq_2n hR hS => ?_)
    have n_4 : L ≠ q_2 := ne_none hq_2n hL
    have k_3 : (mu M q_2 (aO G 4 (fun _ => none))) L = some (ob 8 [.int 0, .null, .int 0]) := muL n_4 hL
    have hR : Rp G (mu M q_2 (aO G 4 (fun _ => none))) H := hR
    have hq_2e : q_2 = sz := hq_2.trans hsz
    have hsz : H.size = sz + 1 := by rw [hz, hq_2e]
    refine W.widen (k := 1) (n := 4) (Nat.le_of_ble_eq_true rfl) (Nat.le_of_ble_eq_true rfl) ?_
    refine r_put (ci := 8) (v := .ref q_2) (ty := .array (.object "java/lang/Object")) (C := RJ2) (T := TJ2) (N := 3) hx hb hts in_J2 tyJ2 tyJ2_ok nmJ2 hown hT hR hS k_3 rfl 1 (by decide) (hts _ q411) (fun _ h9 => h9) rfl (by decide +kernel) rfl rfl (Nat.le_of_ble_eq_true rfl) dJ2_init_13 (fun H locs hz hR hS => ?_)
    have hsz : H.size = sz + 1 := hz.trans hsz
    have k_5 : (mu (mu M q_2 (aO G 4 (fun _ => none))) L (ob 8 [.int 0, .ref q_2, .int 0])) q_2 = some (aO G 4 (fun _ => none)) := muL (Ne.symm n_4) (mu_eq _ _ _)
    have hR : Rp G (mu (mu M q_2 (aO G 4 (fun _ => none))) L (ob 8 [.int 0, .ref q_2, .int 0])) H := hR
    refine lv_goto (tgt := 60) hx hb dJ2_init_16 (by decide) ?_
    refine W.widen (k := 1) (n := 4) (Nat.le_of_ble_eq_true rfl) (Nat.le_of_ble_eq_true rfl) ?_
    exact W.vret hx hb hr (q_ret (⟨rfl, by rw [← hq_2e]; rfl, hsz⟩) hR hS) hS.2.2 dJ2_init_60
set_option maxHeartbeats 4000000 in
set_option maxRecDepth 100000 in
theorem met_linit6 (l : Launch) (G : Gw) (M : Mp) (sz : Nat) (L : Nat) (hL : M L = some (ob 8 [.int 0, .null, .int 0])) : Ct l yJ2_init cJ2_init 2 none 3 1 6 [.ref L, .int 6] G M sz (fun v M1 z => v = none ∧ M1 = mu (mu M sz (aO G 6 (lsO []))) L (ob 8 [.int 0, .ref sz, .int 0]) ∧ z = sz + 1) := by
  refine Met.ofW (cc := cJ2_init) (maxL := 2) (ret := none) (by decide) rfl ?_
  intro p e s m args below meth c s₁ B hml hv
  obtain ⟨rfl, hT, hR, hsz⟩ := hv
  have hx := B.exec
  have hb := B.bytes
  have hr := B.returns
  have hts := atoms_spec (ws := ws_ yJ2_init cJ2_init 2 none) B.pre
  have hts : ∀ w ∈ lw_all, w.before _ s = true := fun w h => hts w (List.mem_cons_of_mem _ h)
  have hown : s.vm.findClass RJ2 = some m.cls := findClass_of_methodNamed B.named
  have hlocks := B.notSynchronized
  have hin : meth.name = "<init>" := (name_of_methodNamed B.named B.method).1
  have hS : va_S (Af G) s.heap s.heap [] := va_S.rf
  have hl := lv_entry ([.ref L, .int 6]) (n := 2) (Nat.le_of_ble_eq_true rfl)
  rw [lg_entry_eq]
  generalize (lg_sl ([.ref L, .int 6]) ++ List.replicate (2 - (lg_sl ([.ref L, .int 6])).length) Slot.unset).toArray = ls at hl ⊢
  have hl : lv_has ls 2 [(0, .ref L), (1, .int 6)] := hl
  refine lv_aload_n hx hb dJ2_init_0 rfl (lv_at hl 0 rfl) ?_
  refine g_call (va_runI (As := []) (rest := []) ⟨hx, hb, hml, hown, hts⟩ (met_alinit l G M _ L hL) (cwI 0 hts (lw_meth q89) rfl rfl rfl (hts _ q39) (hts _ q87) (hts _ q88) rfl (by decide +kernel) ⟨Nat.le_of_ble_eq_true rfl, Nat.le_of_ble_eq_true rfl⟩) (preS hT hR hS) rfl rfl hl.1 rfl (lv_room (Nat.le_of_ble_eq_true rfl)) dJ2_init_1 ⟨Nat.le_of_ble_eq_true rfl, Nat.le_of_ble_eq_true rfl⟩) hS (fun v M1 H locs hq hR hz hS => ?_)
  obtain ⟨rfl, hM1, hsz1⟩ := hq
  rw [hM1] at hR
  have hsz := hsz1.trans hsz
  refine W.eq (g2 := F0 m 4 ls []) rfl ?_
  refine lv_iload_n hx hb dJ2_init_4 rfl (lv_at hl 1 rfl) ?_
  refine lv_if_le (tgt := 19) hx hb dJ2_init_5 (by decide) (fun c_1 => ?_) (fun c_1 => ?_)
  · skip
    exact absurd c_1 (by decide)
  · skip
    refine lv_aload_n hx hb dJ2_init_8 rfl (lv_at hl 0 rfl) ?_
    refine lv_iload_n hx hb dJ2_init_9 rfl (lv_at hl 1 rfl) ?_
    refine r_newq hx hb hown (hts _ q94) (hT.nw q95 rfl) 5 hT rfl hR hS (N' := 6) (by decide) (by decide) (by decide) (by exact Nat.le_of_ble_eq_true rfl) (by exact Nat.le_of_ble_eq_true rfl) dJ2_init_10 (fun q_2 H hq_2 hz hq_2n hR hS => ?_)
    have n_4 : L ≠ q_2 := ne_none hq_2n hL
    have k_3 : (mu M q_2 (aO G 6 (fun _ => none))) L = some (ob 8 [.int 0, .null, .int 0]) := muL n_4 hL
    have hR : Rp G (mu M q_2 (aO G 6 (fun _ => none))) H := hR
    have hq_2e : q_2 = sz := hq_2.trans hsz
    have hsz : H.size = sz + 1 := by rw [hz, hq_2e]
    refine W.widen (k := 1) (n := 6) (Nat.le_of_ble_eq_true rfl) (Nat.le_of_ble_eq_true rfl) ?_
    refine r_put (ci := 8) (v := .ref q_2) (ty := .array (.object "java/lang/Object")) (C := RJ2) (T := TJ2) (N := 3) hx hb hts in_J2 tyJ2 tyJ2_ok nmJ2 hown hT hR hS k_3 rfl 1 (by decide) (hts _ q411) (fun _ h9 => h9) rfl (by decide +kernel) rfl rfl (Nat.le_of_ble_eq_true rfl) dJ2_init_13 (fun H locs hz hR hS => ?_)
    have hsz : H.size = sz + 1 := hz.trans hsz
    have k_5 : (mu (mu M q_2 (aO G 6 (fun _ => none))) L (ob 8 [.int 0, .ref q_2, .int 0])) q_2 = some (aO G 6 (fun _ => none)) := muL (Ne.symm n_4) (mu_eq _ _ _)
    have hR : Rp G (mu (mu M q_2 (aO G 6 (fun _ => none))) L (ob 8 [.int 0, .ref q_2, .int 0])) H := hR
    refine lv_goto (tgt := 60) hx hb dJ2_init_16 (by decide) ?_
    refine W.widen (k := 1) (n := 6) (Nat.le_of_ble_eq_true rfl) (Nat.le_of_ble_eq_true rfl) ?_
    exact W.vret hx hb hr (q_ret (⟨rfl, by rw [← hq_2e]; rfl, hsz⟩) hR hS) hS.2.2 dJ2_init_60
set_option maxHeartbeats 4000000 in
set_option maxRecDepth 100000 in
theorem met_add2 (l : Launch) (G : Gw) (M : Mp) (sz : Nat) (L E cap : Nat) (mc : Int32) (xs : List Nat) (hc : cap < 2 ^ 31) (hx9 : xs.length ≤ cap) (hL : M L = some (ob 8 [.int mc, .ref E, .int (nI xs.length)])) (hE : M E = some (aO G cap (lsO xs))) (v : Nat) (hv : isObj M v) (hlt : xs.length < cap) : Ct l yJ2_add_2 cJ2_add_2 4 none 1 0 0 [.ref L, .ref v, .ref E, .int (nI xs.length)] G M sz (fun r M1 z => r = none ∧ M1 = mu (mu M E (aO G cap (lsO (xs ++ [v])))) L (ob 8 [.int (mc), .ref E, .int (nI (xs ++ [v]).length)]) ∧ z = sz) := by
  refine Met.ofW (cc := cJ2_add_2) (maxL := 4) (ret := none) (by decide) rfl ?_
  intro p e s m args below meth c s₁ B hml hv
  obtain ⟨rfl, hT, hR, hsz⟩ := hv
  have hx := B.exec
  have hb := B.bytes
  have hr := B.returns
  have hts := atoms_spec (ws := ws_ yJ2_add_2 cJ2_add_2 4 none) B.pre
  have hts : ∀ w ∈ lw_all, w.before _ s = true := fun w h => hts w (List.mem_cons_of_mem _ h)
  have hown : s.vm.findClass RJ2 = some m.cls := findClass_of_methodNamed B.named
  have hlocks := B.notSynchronized
  have hS : va_S (Af G) s.heap s.heap [] := va_S.rf
  have hl := lv_entry ([.ref L, .ref v, .ref E, .int (nI xs.length)]) (n := 4) (Nat.le_of_ble_eq_true rfl)
  rw [lg_entry_eq]
  generalize (lg_sl ([.ref L, .ref v, .ref E, .int (nI xs.length)]) ++ List.replicate (4 - (lg_sl ([.ref L, .ref v, .ref E, .int (nI xs.length)])).length) Slot.unset).toArray = ls at hl ⊢
  have hl : lv_has ls 4 [(0, .ref L), (1, .ref v), (2, .ref E), (3, .int (nI xs.length))] := hl
  refine lv_iload_n hx hb dJ2_add_2_0 rfl (lv_at hl 3 rfl) ?_
  refine lv_aload_n hx hb dJ2_add_2_1 rfl (lv_at hl 2 rfl) ?_
  refine va_alen (v := nI cap) hx hb hT.1 (hR.one hE) 0 5 rfl rfl rfl dJ2_add_2_2 ?_
  refine lv_icmp_ne (tgt := 11) hx hb dJ2_add_2_3 (by decide) (fun c_1 => ?_) (fun c_1 => ?_)
  · skip
    refine lv_aload_n hx hb dJ2_add_2_11 rfl (lv_at hl 2 rfl) ?_
    refine lv_iload_n hx hb dJ2_add_2_12 rfl (lv_at hl 3 rfl) ?_
    refine lv_aload_n hx hb dJ2_add_2_13 rfl (lv_at hl 1 rfl) ?_
    refine r_aastj hx hb hT hR hS 5 rfl hE (hT.anyO hR hv) (j := xs.length) rfl hlt (by omega) dJ2_add_2_14 (fun H locs hz hR hS => ?_)
    have hsz : H.size = sz := hz.trans hsz
    have k_2 : (mu M E (aO G cap (va_up (lsO xs) xs.length (some v)))) L = some (ob 8 [.int mc, .ref E, .int (nI xs.length)]) := muL (ne_tag hL hE rfl) hL
    have hR : Rp G (mu M E (aO G cap (va_up (lsO xs) xs.length (some v)))) H := hR
    refine lv_aload_n hx hb dJ2_add_2_15 rfl (lv_at hl 0 rfl) ?_
    refine lv_iload_n hx hb dJ2_add_2_16 rfl (lv_at hl 3 rfl) ?_
    refine lv_iconst (v := 1) hx hb dJ2_add_2_17 (by decide) ?_
    refine lv_iadd hx hb dJ2_add_2_18 ?_
    refine W.eq (g2 := F0 m 19 ls (.int (nI (xs ++ [v]).length) :: [.ref L])) (by rw [show nI xs.length + 1 = nI (xs ++ [v]).length by rw [nI_1, List.length_append]; rfl]) ?_
    refine r_put (ci := 8) (v := .int (nI (xs ++ [v]).length)) (ty := .int) (C := RJ2) (T := TJ2) (N := 3) hx hb hts in_J2 tyJ2 tyJ2_ok nmJ2 hown hT hR hS k_2 rfl 2 (by decide) (hts _ q414) (fun _ h9 => h9) rfl (by decide +kernel) rfl rfl (Nat.le_of_ble_eq_true rfl) dJ2_add_2_19 (fun H locs hz hR hS => ?_)
    have hsz : H.size = sz := hz.trans hsz
    have k_3 : (mu (mu M E (aO G cap (va_up (lsO xs) xs.length (some v)))) L (ob 8 [.int mc, .ref E, .int (nI (xs ++ [v]).length)])) E = some (aO G cap (va_up (lsO xs) xs.length (some v))) := muL (ne_tag (mu_eq _ _ _) k_2 rfl) (mu_eq _ _ _)
    have hR : Rp G (mu (mu M E (aO G cap (va_up (lsO xs) xs.length (some v)))) L (ob 8 [.int mc, .ref E, .int (nI (xs ++ [v]).length)])) H := hR
    exact W.vret hx hb hr (q_ret (⟨rfl, by rw [lsO_add], hsz⟩) hR hS) hS.2.2 dJ2_add_2_22
  · skip
    exact absurd ((nI_eq (by omega) (by omega)).mp c_1) (by omega)
set_option maxHeartbeats 4000000 in
set_option maxRecDepth 100000 in
theorem met_add (l : Launch) (G : Gw) (M : Mp) (sz : Nat) (L E cap : Nat) (mc : Int32) (xs : List Nat) (hc : cap < 2 ^ 31) (hx9 : xs.length ≤ cap) (hL : M L = some (ob 8 [.int mc, .ref E, .int (nI xs.length)])) (hE : M E = some (aO G cap (lsO xs))) (v : Nat) (hv : isObj M v) (hlt : xs.length < cap) : Ct l yJ2_add cJ2_add 2 (some .boolean) 2 0 0 [.ref L, .ref v] G M sz (fun r M1 z => r = some (.int 1) ∧ M1 = mu (mu M E (aO G cap (lsO (xs ++ [v])))) L (ob 8 [.int (mc + 1), .ref E, .int (nI (xs ++ [v]).length)]) ∧ z = sz) := by
  refine Met.ofW (cc := cJ2_add) (maxL := 2) (ret := (some .boolean)) (by decide) rfl ?_
  intro p e s m args below meth c s₁ B hml hv
  obtain ⟨rfl, hT, hR, hsz⟩ := hv
  have hx := B.exec
  have hb := B.bytes
  have hr := B.returns
  have hts := atoms_spec (ws := ws_ yJ2_add cJ2_add 2 (some .boolean)) B.pre
  have hts : ∀ w ∈ lw_all, w.before _ s = true := fun w h => hts w (List.mem_cons_of_mem _ h)
  have hown : s.vm.findClass RJ2 = some m.cls := findClass_of_methodNamed B.named
  have hlocks := B.notSynchronized
  have hS : va_S (Af G) s.heap s.heap [] := va_S.rf
  have hl := lv_entry ([.ref L, .ref v]) (n := 2) (Nat.le_of_ble_eq_true rfl)
  rw [lg_entry_eq]
  generalize (lg_sl ([.ref L, .ref v]) ++ List.replicate (2 - (lg_sl ([.ref L, .ref v])).length) Slot.unset).toArray = ls at hl ⊢
  have hl : lv_has ls 2 [(0, .ref L), (1, .ref v)] := hl
  refine lv_aload_n hx hb dJ2_add_0 rfl (lv_at hl 0 rfl) ?_
  refine lv_dup hx hb dJ2_add_1 rfl ?_
  refine va_get (D := G.1) (ci := 8) (v := .int mc) (C := RJ2) (T := TJ2) (N := 3) hx hb hts in_J2 hown hT.1 (hR.one hL) 0 rfl rfl 0 (by decide) (hts _ q418) (fun x h9 => u_same (hts _ q417) x h9) rfl dJ2_add_2 ?_
  refine lv_iconst (v := 1) hx hb dJ2_add_5 (by decide) ?_
  refine lv_iadd hx hb dJ2_add_6 ?_
  refine r_put (ci := 8) (v := .int (mc + 1)) (ty := .int) (C := RJ2) (T := TJ2) (N := 3) hx hb hts in_J2 tyJ2 tyJ2_ok nmJ2 hown hT hR hS hL rfl 0 (by decide) (hts _ q418) (fun x h9 => u_same (hts _ q417) x h9) rfl (by decide +kernel) rfl rfl (Nat.le_of_ble_eq_true rfl) dJ2_add_7 (fun H locs hz hR hS => ?_)
  have hsz : H.size = sz := hz.trans hsz
  have k_1 : (mu M L (ob 8 [.int (mc + 1), .ref E, .int (nI xs.length)])) E = some (aO G cap (lsO xs)) := muL (ne_tag hE hL rfl) hE
  have hR : Rp G (mu M L (ob 8 [.int (mc + 1), .ref E, .int (nI xs.length)])) H := hR
  refine lv_aload_n hx hb dJ2_add_10 rfl (lv_at hl 0 rfl) ?_
  refine lv_aload_n hx hb dJ2_add_11 rfl (lv_at hl 1 rfl) ?_
  refine lv_aload_n hx hb dJ2_add_12 rfl (lv_at hl 0 rfl) ?_
  refine va_get (D := G.1) (ci := 8) (v := .ref E) (C := RJ2) (T := TJ2) (N := 3) hx hb hts in_J2 hown hT.1 (hR.one (mu_eq _ _ _)) 0 rfl rfl 1 (by decide) (hts _ q411) (fun _ h9 => h9) rfl dJ2_add_13 ?_
  refine lv_aload_n hx hb dJ2_add_16 rfl (lv_at hl 0 rfl) ?_
  refine va_get (D := G.1) (ci := 8) (v := .int (nI xs.length)) (C := RJ2) (T := TJ2) (N := 3) hx hb hts in_J2 hown hT.1 (hR.one (mu_eq _ _ _)) 0 rfl rfl 2 (by decide) (hts _ q414) (fun _ h9 => h9) rfl dJ2_add_17 ?_
  refine g_call (va_runV (As := [.ref v, .ref E, .int (nI xs.length)]) (rest := []) ⟨hx, hb, hml, hown, hts⟩ (met_add2 l G (mu M L (ob 8 [.int (mc + 1), .ref E, .int (nI xs.length)])) _ L E cap (mc + 1) xs hc hx9 (mu_eq _ _ _) k_1 v (hv.up (by decide)) hlt) (cwV 3 hts (lw_V q814 q816 qs6 q40 q817) rfl rfl rfl (by decide +kernel) ⟨Nat.le_of_ble_eq_true rfl, Nat.le_of_ble_eq_true rfl⟩) (preV hT hR hS (mu_eq _ _ _) rfl rfl) rfl rfl hl.1 rfl (lv_room (Nat.le_of_ble_eq_true rfl)) dJ2_add_20 ⟨Nat.le_of_ble_eq_true rfl, Nat.le_of_ble_eq_true rfl⟩) hS (fun v M1 H locs hq hR hz hS => ?_)
  obtain ⟨rfl, rfl, hsz1⟩ := hq
  have hsz := hsz1.trans hsz
  refine W.eq (g2 := F0 m 23 ls []) rfl ?_
  refine lv_iconst (v := 1) hx hb dJ2_add_23 (by decide) ?_
  exact W.zret hx hb hr rfl (q_ret (⟨rfl, by rw [mu_comm _ _ _ (ne_tag hL hE rfl), mu_mu], hsz⟩) hR hS) hS.2.2 dJ2_add_24
set_option maxHeartbeats 4000000 in
set_option maxRecDepth 100000 in
theorem met_rca (l : Launch) (G : Gw) (M : Mp) (sz : Nat) (L E cap : Nat) (mc : Int32) (xs : List Nat) (hc : cap < 2 ^ 31) (hx9 : xs.length ≤ cap) (hL : M L = some (ob 8 [.int mc, .ref E, .int (nI xs.length)])) (hE : M E = some (aO G cap (lsO xs))) (k : Nat) (hk : k ≤ xs.length) : Cp l yJ2_rangeCheckForAdd cJ2_rangeCheckForAdd 2 none 0 [.ref L, .int (nI k)] G M sz (none) := by
  refine Met.ofW (cc := cJ2_rangeCheckForAdd) (maxL := 2) (ret := none) (by decide) rfl ?_
  intro p e s m args below meth c s₁ B hml hv
  obtain ⟨rfl, hT, hR, hsz⟩ := hv
  have hx := B.exec
  have hb := B.bytes
  have hr := B.returns
  have hts := atoms_spec (ws := ws_ yJ2_rangeCheckForAdd cJ2_rangeCheckForAdd 2 none) B.pre
  have hts : ∀ w ∈ lw_all, w.before _ s = true := fun w h => hts w (List.mem_cons_of_mem _ h)
  have hown : s.vm.findClass RJ2 = some m.cls := findClass_of_methodNamed B.named
  have hlocks := B.notSynchronized
  have hS : va_S (Af G) s.heap s.heap [] := va_S.rf
  have hl := lv_entry ([.ref L, .int (nI k)]) (n := 2) (Nat.le_of_ble_eq_true rfl)
  rw [lg_entry_eq]
  generalize (lg_sl ([.ref L, .int (nI k)]) ++ List.replicate (2 - (lg_sl ([.ref L, .int (nI k)])).length) Slot.unset).toArray = ls at hl ⊢
  have hl : lv_has ls 2 [(0, .ref L), (1, .int (nI k))] := hl
  refine lv_iload_n hx hb dJ2_rangeCheckForAdd_0 rfl (lv_at hl 1 rfl) ?_
  refine lv_aload_n hx hb dJ2_rangeCheckForAdd_1 rfl (lv_at hl 0 rfl) ?_
  refine va_get (D := G.1) (ci := 8) (v := .int (nI xs.length)) (C := RJ2) (T := TJ2) (N := 3) hx hb hts in_J2 hown hT.1 (hR.one hL) 0 rfl rfl 2 (by decide) (hts _ q414) (fun _ h9 => h9) rfl dJ2_rangeCheckForAdd_2 ?_
  refine lv_icmp_gt (tgt := 12) hx hb dJ2_rangeCheckForAdd_5 (by decide) (fun c_1 => ?_) (fun c_1 => ?_)
  · skip
    exact absurd c_1 (nI_nlt hk (by omega))
  · skip
    refine lv_iload_n hx hb dJ2_rangeCheckForAdd_8 rfl (lv_at hl 1 rfl) ?_
    refine lv_if_ge (tgt := 25) hx hb dJ2_rangeCheckForAdd_9 (by decide) (fun c_2 => ?_) (fun c_2 => ?_)
    · skip
      exact W.vret hx hb hr (fun t ht _ => ⟨rfl, ht⟩) t_nil dJ2_rangeCheckForAdd_25
    · skip
      exact absurd (nI_pos' (by omega)) c_2
set_option maxHeartbeats 4000000 in
set_option maxRecDepth 100000 in
theorem met_addi (l : Launch) (G : Gw) (M : Mp) (sz : Nat) (L E cap : Nat) (mc : Int32) (xs : List Nat) (hc : cap < 2 ^ 31) (hx9 : xs.length ≤ cap) (hL : M L = some (ob 8 [.int mc, .ref E, .int (nI xs.length)])) (hE : M E = some (aO G cap (lsO xs))) (v : Nat) (hv : isObj M v) (hlt : xs.length < cap) (hel : ∀ x ∈ xs, isObj M x) (k : Nat) (hk : k ≤ xs.length) : Ct l yJ2_add_3 cJ2_add_3 5 none 1 0 0 [.ref L, .int (nI k), .ref v] G M sz (fun r M1 _ => r = none ∧ M1 = mu (mu M E (aO G cap (lsO (xs.insertIdx k v)))) L (ob 8 [.int (mc + 1), .ref E, .int (nI (xs.insertIdx k v).length)])) := by
  refine Met.ofW (cc := cJ2_add_3) (maxL := 5) (ret := none) (by decide) rfl ?_
  intro p e s m args below meth c s₁ B hml hv
  obtain ⟨rfl, hT, hR, hsz⟩ := hv
  have hx := B.exec
  have hb := B.bytes
  have hr := B.returns
  have hts := atoms_spec (ws := ws_ yJ2_add_3 cJ2_add_3 5 none) B.pre
  have hts : ∀ w ∈ lw_all, w.before _ s = true := fun w h => hts w (List.mem_cons_of_mem _ h)
  have hown : s.vm.findClass RJ2 = some m.cls := findClass_of_methodNamed B.named
  have hlocks := B.notSynchronized
  have hS : va_S (Af G) s.heap s.heap [] := va_S.rf
  have hl := lv_entry ([.ref L, .int (nI k), .ref v]) (n := 5) (Nat.le_of_ble_eq_true rfl)
  rw [lg_entry_eq]
  generalize (lg_sl ([.ref L, .int (nI k), .ref v]) ++ List.replicate (5 - (lg_sl ([.ref L, .int (nI k), .ref v])).length) Slot.unset).toArray = ls at hl ⊢
  have hl : lv_has ls 5 [(0, .ref L), (1, .int (nI k)), (2, .ref v)] := hl
  refine lv_aload_n hx hb dJ2_add_3_0 rfl (lv_at hl 0 rfl) ?_
  refine lv_iload_n hx hb dJ2_add_3_1 rfl (lv_at hl 1 rfl) ?_
  refine g_pure (va_runV (As := [.int (nI k)]) (rest := []) ⟨hx, hb, hml, hown, hts⟩ (met_rca l G M _ L E cap mc xs hc hx9 hL hE k hk) (cwV 1 hts (lw_V q958 q960 qs14 q40 q961) rfl rfl rfl (by decide +kernel) ⟨Nat.le_of_ble_eq_true rfl, Nat.le_of_ble_eq_true rfl⟩) (preV hT hR hS hL rfl rfl) rfl rfl hl.1 rfl (lv_room (Nat.le_of_ble_eq_true rfl)) dJ2_add_3_2 ⟨Nat.le_of_ble_eq_true rfl, Nat.le_of_ble_eq_true rfl⟩) ?_
  refine W.eq (g2 := F0 m 5 ls []) rfl ?_
  refine lv_aload_n hx hb dJ2_add_3_5 rfl (lv_at hl 0 rfl) ?_
  refine lv_dup hx hb dJ2_add_3_6 rfl ?_
  refine va_get (D := G.1) (ci := 8) (v := .int mc) (C := RJ2) (T := TJ2) (N := 3) hx hb hts in_J2 hown hT.1 (hR.one hL) 0 rfl rfl 0 (by decide) (hts _ q418) (fun x h9 => u_same (hts _ q417) x h9) rfl dJ2_add_3_7 ?_
  refine lv_iconst (v := 1) hx hb dJ2_add_3_10 (by decide) ?_
  refine lv_iadd hx hb dJ2_add_3_11 ?_
  refine r_put (ci := 8) (v := .int (mc + 1)) (ty := .int) (C := RJ2) (T := TJ2) (N := 3) hx hb hts in_J2 tyJ2 tyJ2_ok nmJ2 hown hT hR hS hL rfl 0 (by decide) (hts _ q418) (fun x h9 => u_same (hts _ q417) x h9) rfl (by decide +kernel) rfl rfl (Nat.le_of_ble_eq_true rfl) dJ2_add_3_12 (fun H locs hz hR hS => ?_)
  have hsz : H.size = sz := hz.trans hsz
  have k_1 : (mu M L (ob 8 [.int (mc + 1), .ref E, .int (nI xs.length)])) E = some (aO G cap (lsO xs)) := muL (ne_tag hE hL rfl) hE
  have hR : Rp G (mu M L (ob 8 [.int (mc + 1), .ref E, .int (nI xs.length)])) H := hR
  refine lv_aload_n hx hb dJ2_add_3_15 rfl (lv_at hl 0 rfl) ?_
  refine va_get (D := G.1) (ci := 8) (v := .int (nI xs.length)) (C := RJ2) (T := TJ2) (N := 3) hx hb hts in_J2 hown hT.1 (hR.one (mu_eq _ _ _)) 0 rfl rfl 2 (by decide) (hts _ q414) (fun _ h9 => h9) rfl dJ2_add_3_16 ?_
  refine lv_dup hx hb dJ2_add_3_19 rfl ?_
  refine lv_istore_n (lv' := [(3, .int (nI xs.length)), (0, .ref L), (1, .int (nI k)), (2, .ref v)]) hx hb dJ2_add_3_20 rfl hl (by decide) rfl (fun ls hl => ?_)
  refine lv_aload_n hx hb dJ2_add_3_21 rfl (lv_at hl 1 rfl) ?_
  refine va_get (D := G.1) (ci := 8) (v := .ref E) (C := RJ2) (T := TJ2) (N := 3) hx hb hts in_J2 hown hT.1 (hR.one (mu_eq _ _ _)) 0 rfl rfl 1 (by decide) (hts _ q411) (fun _ h9 => h9) rfl dJ2_add_3_22 ?_
  refine lv_dup hx hb dJ2_add_3_25 rfl ?_
  refine lv_astore (lv' := [(4, .ref E), (3, .int (nI xs.length)), (0, .ref L), (1, .int (nI k)), (2, .ref v)]) hx hb dJ2_add_3_26 hl (by decide) rfl (fun ls hl => ?_)
  refine va_alen (v := nI cap) hx hb hT.1 (hR.one k_1) 0 5 rfl rfl rfl dJ2_add_3_28 ?_
  refine lv_icmp_ne (tgt := 38) hx hb dJ2_add_3_29 (by decide) (fun c_2 => ?_) (fun c_2 => ?_)
  · skip
    refine lv_aload hx hb dJ2_add_3_38 (lv_at hl 0 rfl) ?_
    refine lv_iload_n hx hb dJ2_add_3_40 rfl (lv_at hl 3 rfl) ?_
    refine lv_aload hx hb dJ2_add_3_41 (lv_at hl 0 rfl) ?_
    refine lv_iload_n hx hb dJ2_add_3_43 rfl (lv_at hl 3 rfl) ?_
    refine lv_iconst (v := 1) hx hb dJ2_add_3_44 (by decide) ?_
    refine lv_iadd hx hb dJ2_add_3_45 ?_
    refine W.eq (g2 := F0 m 46 ls (.int (nI (k + 1)) :: [.ref E, .int (nI k), .ref E])) (by rw [nI_1]) ?_
    refine lv_iload_n hx hb dJ2_add_3_46 rfl (lv_at hl 1 rfl) ?_
    refine lv_iload_n hx hb dJ2_add_3_47 rfl (lv_at hl 3 rfl) ?_
    refine lv_isub hx hb dJ2_add_3_48 ?_
    refine W.eq (g2 := F0 m 49 ls (.int (nI (xs.length - k)) :: [.int (nI (k + 1)), .ref E, .int (nI k), .ref E])) (by rw [pk_sub hk]) ?_
    have kE1 := k_1
    refine r_copy hx hb (by rw [hml]; exact hl.1.symm) hown (hts _ q749) (hts _ q218) (hts _ q217) (hts _ q52) hT hR hS k_1 (i0 := k) (j0 := (k + 1)) (n0 := (xs.length - k)) rfl rfl rfl (by omega) (by omega) hc (fun i hi y hy => hT.anyO hR ((hel y (List.mem_of_getElem? hy)).up (by decide))) (Nat.le_of_ble_eq_true rfl) (Nat.le_of_ble_eq_true rfl) dJ2_add_3_49 (fun H locs hR hS => ?_)
    have k_3 : (mu (mu M L (ob 8 [.int (mc + 1), .ref E, .int (nI xs.length)])) E (aO G cap (va_cpy (lsO xs) (lsO xs) k (k + 1) (xs.length - k)))) L = some (ob 8 [.int (mc + 1), .ref E, .int (nI xs.length)]) := muL (ne_tag (mu_eq _ _ _) k_1 rfl) (mu_eq _ _ _)
    have hR : Rp G (mu (mu M L (ob 8 [.int (mc + 1), .ref E, .int (nI xs.length)])) E (aO G cap (va_cpy (lsO xs) (lsO xs) k (k + 1) (xs.length - k)))) H := hR
    refine lv_aload hx hb dJ2_add_3_52 (lv_at hl 0 rfl) ?_
    refine lv_iload_n hx hb dJ2_add_3_54 rfl (lv_at hl 3 rfl) ?_
    refine lv_aload_n hx hb dJ2_add_3_55 rfl (lv_at hl 4 rfl) ?_
    refine r_aastj hx hb hT hR hS 5 rfl (mu_eq _ _ _) (hT.anyO hR ((hv.up (by decide)).upA kE1)) (j := k) rfl (by omega) (by omega) dJ2_add_3_56 (fun H locs hz hR hS => ?_)
    have k_4 : (mu (mu (mu M L (ob 8 [.int (mc + 1), .ref E, .int (nI xs.length)])) E (aO G cap (va_cpy (lsO xs) (lsO xs) k (k + 1) (xs.length - k)))) E (aO G cap (va_up (va_cpy (lsO xs) (lsO xs) k (k + 1) (xs.length - k)) k (some v)))) L = some (ob 8 [.int (mc + 1), .ref E, .int (nI xs.length)]) := muL (ne_tag k_3 (mu_eq _ _ _) rfl) k_3
    have hR : Rp G (mu (mu (mu M L (ob 8 [.int (mc + 1), .ref E, .int (nI xs.length)])) E (aO G cap (va_cpy (lsO xs) (lsO xs) k (k + 1) (xs.length - k)))) E (aO G cap (va_up (va_cpy (lsO xs) (lsO xs) k (k + 1) (xs.length - k)) k (some v)))) H := hR
    refine lv_aload_n hx hb dJ2_add_3_57 rfl (lv_at hl 2 rfl) ?_
    refine lv_iload_n hx hb dJ2_add_3_58 rfl (lv_at hl 1 rfl) ?_
    refine lv_iconst (v := 1) hx hb dJ2_add_3_59 (by decide) ?_
    refine lv_iadd hx hb dJ2_add_3_60 ?_
    refine W.eq (g2 := F0 m 61 ls (.int (nI (xs.insertIdx k v).length) :: [.ref L])) (by rw [show nI xs.length + 1 = nI (xs.insertIdx k v).length by rw [nI_1, List.length_insertIdx_of_le_length hk]]) ?_
    refine r_put (ci := 8) (v := .int (nI (xs.insertIdx k v).length)) (ty := .int) (C := RJ2) (T := TJ2) (N := 3) hx hb hts in_J2 tyJ2 tyJ2_ok nmJ2 hown hT hR hS k_4 rfl 2 (by decide) (hts _ q414) (fun _ h9 => h9) rfl (by decide +kernel) rfl rfl (Nat.le_of_ble_eq_true rfl) dJ2_add_3_61 (fun H locs hz hR hS => ?_)
    have k_5 : (mu (mu (mu (mu M L (ob 8 [.int (mc + 1), .ref E, .int (nI xs.length)])) E (aO G cap (va_cpy (lsO xs) (lsO xs) k (k + 1) (xs.length - k)))) E (aO G cap (va_up (va_cpy (lsO xs) (lsO xs) k (k + 1) (xs.length - k)) k (some v)))) L (ob 8 [.int (mc + 1), .ref E, .int (nI (xs.insertIdx k v).length)])) E = some (aO G cap (va_up (va_cpy (lsO xs) (lsO xs) k (k + 1) (xs.length - k)) k (some v))) := muL (ne_tag (mu_eq _ _ _) k_4 rfl) (mu_eq _ _ _)
    have hR : Rp G (mu (mu (mu (mu M L (ob 8 [.int (mc + 1), .ref E, .int (nI xs.length)])) E (aO G cap (va_cpy (lsO xs) (lsO xs) k (k + 1) (xs.length - k)))) E (aO G cap (va_up (va_cpy (lsO xs) (lsO xs) k (k + 1) (xs.length - k)) k (some v)))) L (ob 8 [.int (mc + 1), .ref E, .int (nI (xs.insertIdx k v).length)])) H := hR
    exact W.vret hx hb hr (q_ret (⟨rfl, by rw [lsO_ins xs k v hk, mu_mu, mu_comm _ _ _ (ne_tag hL hE rfl), mu_mu]⟩) hR hS) hS.2.2 dJ2_add_3_64
  · skip
    exact absurd ((nI_eq (by omega) (by omega)).mp c_2) (by omega)
set_option maxHeartbeats 4000000 in
set_option maxRecDepth 100000 in
theorem met_fastRemove (l : Launch) (G : Gw) (M : Mp) (sz : Nat) (L E cap : Nat) (mc : Int32) (xs : List Nat) (hc : cap < 2 ^ 31) (hx9 : xs.length ≤ cap) (hL : M L = some (ob 8 [.int mc, .ref E, .int (nI xs.length)])) (hE : M E = some (aO G cap (lsO xs))) (hel : ∀ x ∈ xs, isObj M x) (k : Nat) (hk : k < xs.length) : Ct l yJ2_fastRemove cJ2_fastRemove 4 none 1 0 0 [.ref L, .ref E, .int (nI k)] G M sz (fun r M1 _ => r = none ∧ M1 = mu (mu M E (aO G cap (lsO (xs.eraseIdx k)))) L (ob 8 [.int (mc + 1), .ref E, .int (nI (xs.eraseIdx k).length)])) := by
  refine Met.ofW (cc := cJ2_fastRemove) (maxL := 4) (ret := none) (by decide) rfl ?_
  intro p e s m args below meth c s₁ B hml hv
  obtain ⟨rfl, hT, hR, hsz⟩ := hv
  have hx := B.exec
  have hb := B.bytes
  have hr := B.returns
  have hts := atoms_spec (ws := ws_ yJ2_fastRemove cJ2_fastRemove 4 none) B.pre
  have hts : ∀ w ∈ lw_all, w.before _ s = true := fun w h => hts w (List.mem_cons_of_mem _ h)
  have hown : s.vm.findClass RJ2 = some m.cls := findClass_of_methodNamed B.named
  have hlocks := B.notSynchronized
  have hS : va_S (Af G) s.heap s.heap [] := va_S.rf
  have hl := lv_entry ([.ref L, .ref E, .int (nI k)]) (n := 4) (Nat.le_of_ble_eq_true rfl)
  rw [lg_entry_eq]
  generalize (lg_sl ([.ref L, .ref E, .int (nI k)]) ++ List.replicate (4 - (lg_sl ([.ref L, .ref E, .int (nI k)])).length) Slot.unset).toArray = ls at hl ⊢
  have hl : lv_has ls 4 [(0, .ref L), (1, .ref E), (2, .int (nI k))] := hl
  refine lv_aload_n hx hb dJ2_fastRemove_0 rfl (lv_at hl 0 rfl) ?_
  refine lv_dup hx hb dJ2_fastRemove_1 rfl ?_
  refine va_get (D := G.1) (ci := 8) (v := .int mc) (C := RJ2) (T := TJ2) (N := 3) hx hb hts in_J2 hown hT.1 (hR.one hL) 0 rfl rfl 0 (by decide) (hts _ q418) (fun x h9 => u_same (hts _ q417) x h9) rfl dJ2_fastRemove_2 ?_
  refine lv_iconst (v := 1) hx hb dJ2_fastRemove_5 (by decide) ?_
  refine lv_iadd hx hb dJ2_fastRemove_6 ?_
  refine r_put (ci := 8) (v := .int (mc + 1)) (ty := .int) (C := RJ2) (T := TJ2) (N := 3) hx hb hts in_J2 tyJ2 tyJ2_ok nmJ2 hown hT hR hS hL rfl 0 (by decide) (hts _ q418) (fun x h9 => u_same (hts _ q417) x h9) rfl (by decide +kernel) rfl rfl (Nat.le_of_ble_eq_true rfl) dJ2_fastRemove_7 (fun H locs hz hR hS => ?_)
  have hsz : H.size = sz := hz.trans hsz
  have k_1 : (mu M L (ob 8 [.int (mc + 1), .ref E, .int (nI xs.length)])) E = some (aO G cap (lsO xs)) := muL (ne_tag hE hL rfl) hE
  have hR : Rp G (mu M L (ob 8 [.int (mc + 1), .ref E, .int (nI xs.length)])) H := hR
  refine lv_aload_n hx hb dJ2_fastRemove_10 rfl (lv_at hl 0 rfl) ?_
  refine va_get (D := G.1) (ci := 8) (v := .int (nI xs.length)) (C := RJ2) (T := TJ2) (N := 3) hx hb hts in_J2 hown hT.1 (hR.one (mu_eq _ _ _)) 0 rfl rfl 2 (by decide) (hts _ q414) (fun _ h9 => h9) rfl dJ2_fastRemove_11 ?_
  refine lv_iconst (v := 1) hx hb dJ2_fastRemove_14 (by decide) ?_
  refine lv_isub hx hb dJ2_fastRemove_15 ?_
  refine W.eq (g2 := F0 m 16 ls (.int (nI (xs.length - 1)) :: [])) (by rw [show nI xs.length - 1 = nI (xs.length - 1) from pk_sub (b := 1) (by omega)]) ?_
  refine lv_dup hx hb dJ2_fastRemove_16 rfl ?_
  refine lv_istore_n (lv' := [(3, .int (nI (xs.length - 1))), (0, .ref L), (1, .ref E), (2, .int (nI k))]) hx hb dJ2_fastRemove_17 rfl hl (by decide) rfl (fun ls hl => ?_)
  refine lv_iload_n hx hb dJ2_fastRemove_18 rfl (lv_at hl 3 rfl) ?_
  refine lv_icmp_le (tgt := 34) hx hb dJ2_fastRemove_19 (by decide) (fun c_2 => ?_) (fun c_2 => ?_)
  · skip
    have hlt : ¬ k < xs.length - 1 := fun h => absurd c_2 (nI_ge h (by omega))
    refine lv_aload_n hx hb dJ2_fastRemove_34 rfl (lv_at hl 2 rfl) ?_
    refine lv_aload_n hx hb dJ2_fastRemove_35 rfl (lv_at hl 1 rfl) ?_
    refine lv_iload_n hx hb dJ2_fastRemove_36 rfl (lv_at hl 0 rfl) ?_
    refine lv_dup_x1 hx hb dJ2_fastRemove_37 rfl rfl ?_
    refine r_put (ci := 8) (v := .int (nI (xs.length - 1))) (ty := .int) (C := RJ2) (T := TJ2) (N := 3) hx hb hts in_J2 tyJ2 tyJ2_ok nmJ2 hown hT hR hS (mu_eq _ _ _) rfl 2 (by decide) (hts _ q414) (fun _ h9 => h9) rfl (by decide +kernel) rfl rfl (Nat.le_of_ble_eq_true rfl) dJ2_fastRemove_38 (fun H locs hz hR hS => ?_)
    have hsz : H.size = sz := hz.trans hsz
    have k_3 : (mu (mu M L (ob 8 [.int (mc + 1), .ref E, .int (nI xs.length)])) L (ob 8 [.int (mc + 1), .ref E, .int (nI (xs.length - 1))])) E = some (aO G cap (lsO xs)) := muL (ne_tag k_1 (mu_eq _ _ _) rfl) k_1
    have hR : Rp G (mu (mu M L (ob 8 [.int (mc + 1), .ref E, .int (nI xs.length)])) L (ob 8 [.int (mc + 1), .ref E, .int (nI (xs.length - 1))])) H := hR
    refine lv_null hx hb dJ2_fastRemove_41 ?_
    refine r_aastjN hx hb hT hR hS k_3 (j := (xs.length - 1)) rfl (by omega) (by omega) dJ2_fastRemove_42 (fun H locs hz hR hS => ?_)
    have hsz : H.size = sz := hz.trans hsz
    have k_4 : (mu (mu (mu M L (ob 8 [.int (mc + 1), .ref E, .int (nI xs.length)])) L (ob 8 [.int (mc + 1), .ref E, .int (nI (xs.length - 1))])) E (aO G cap (va_up (lsO xs) (xs.length - 1) none))) L = some (ob 8 [.int (mc + 1), .ref E, .int (nI (xs.length - 1))]) := muL (ne_tag (mu_eq _ _ _) k_3 rfl) (mu_eq _ _ _)
    have hR : Rp G (mu (mu (mu M L (ob 8 [.int (mc + 1), .ref E, .int (nI xs.length)])) L (ob 8 [.int (mc + 1), .ref E, .int (nI (xs.length - 1))])) E (aO G cap (va_up (lsO xs) (xs.length - 1) none))) H := hR
    exact W.vret hx hb hr (q_ret (⟨rfl, by rw [← lsO_era0 xs k hk hlt, List.length_eraseIdx_of_lt hk]; exact mu3 (ne_tag hL hE rfl)⟩) hR hS) hS.2.2 dJ2_fastRemove_43
  · skip
    have hlt : k < xs.length - 1 := by
      rcases Nat.lt_or_ge k (xs.length - 1) with h | h
      · exact h
      · exact absurd (nI_le h (by omega)) c_2
    refine lv_aload_n hx hb dJ2_fastRemove_22 rfl (lv_at hl 2 rfl) ?_
    refine lv_iload_n hx hb dJ2_fastRemove_23 rfl (lv_at hl 3 rfl) ?_
    refine lv_iconst (v := 1) hx hb dJ2_fastRemove_24 (by decide) ?_
    refine lv_iadd hx hb dJ2_fastRemove_25 ?_
    refine W.eq (g2 := F0 m 26 ls (.int (nI (k + 1)) :: [.ref E])) (by rw [nI_1]) ?_
    refine lv_aload_n hx hb dJ2_fastRemove_26 rfl (lv_at hl 2 rfl) ?_
    refine lv_iload_n hx hb dJ2_fastRemove_27 rfl (lv_at hl 3 rfl) ?_
    refine lv_iload_n hx hb dJ2_fastRemove_28 rfl (lv_at hl 0 rfl) ?_
    refine lv_iload_n hx hb dJ2_fastRemove_29 rfl (lv_at hl 3 rfl) ?_
    refine lv_isub hx hb dJ2_fastRemove_30 ?_
    refine W.eq (g2 := F0 m 31 ls (.int (nI (xs.length - 1 - k)) :: [.int (nI k), .ref E, .int (nI (k + 1)), .ref E])) (by rw [pk_sub (show k ≤ xs.length - 1 by omega)]) ?_
    refine r_copy hx hb (by rw [hml]; exact hl.1.symm) hown (hts _ q749) (hts _ q218) (hts _ q217) (hts _ q52) hT hR hS k_1 (i0 := (k + 1)) (j0 := k) (n0 := (xs.length - 1 - k)) rfl rfl rfl (by omega) (by omega) hc (fun i hi y hy => hT.anyO hR ((hel y (List.mem_of_getElem? hy)).up (by decide))) (Nat.le_of_ble_eq_true rfl) (Nat.le_of_ble_eq_true rfl) dJ2_fastRemove_31 (fun H locs hR hS => ?_)
    have k_5 : (mu (mu M L (ob 8 [.int (mc + 1), .ref E, .int (nI xs.length)])) E (aO G cap (va_cpy (lsO xs) (lsO xs) (k + 1) k (xs.length - 1 - k)))) L = some (ob 8 [.int (mc + 1), .ref E, .int (nI xs.length)]) := muL (ne_tag (mu_eq _ _ _) k_1 rfl) (mu_eq _ _ _)
    have hR : Rp G (mu (mu M L (ob 8 [.int (mc + 1), .ref E, .int (nI xs.length)])) E (aO G cap (va_cpy (lsO xs) (lsO xs) (k + 1) k (xs.length - 1 - k)))) H := hR
    refine lv_aload_n hx hb dJ2_fastRemove_34 rfl (lv_at hl 2 rfl) ?_
    refine lv_aload_n hx hb dJ2_fastRemove_35 rfl (lv_at hl 1 rfl) ?_
    refine lv_iload_n hx hb dJ2_fastRemove_36 rfl (lv_at hl 0 rfl) ?_
    refine lv_dup_x1 hx hb dJ2_fastRemove_37 rfl rfl ?_
    refine r_put (ci := 8) (v := .int (nI (xs.length - 1))) (ty := .int) (C := RJ2) (T := TJ2) (N := 3) hx hb hts in_J2 tyJ2 tyJ2_ok nmJ2 hown hT hR hS k_5 rfl 2 (by decide) (hts _ q414) (fun _ h9 => h9) rfl (by decide +kernel) rfl rfl (Nat.le_of_ble_eq_true rfl) dJ2_fastRemove_38 (fun H locs hz hR hS => ?_)
    have k_6 : (mu (mu (mu M L (ob 8 [.int (mc + 1), .ref E, .int (nI xs.length)])) E (aO G cap (va_cpy (lsO xs) (lsO xs) (k + 1) k (xs.length - 1 - k)))) L (ob 8 [.int (mc + 1), .ref E, .int (nI (xs.length - 1))])) E = some (aO G cap (va_cpy (lsO xs) (lsO xs) (k + 1) k (xs.length - 1 - k))) := muL (ne_tag (mu_eq _ _ _) k_5 rfl) (mu_eq _ _ _)
    have hR : Rp G (mu (mu (mu M L (ob 8 [.int (mc + 1), .ref E, .int (nI xs.length)])) E (aO G cap (va_cpy (lsO xs) (lsO xs) (k + 1) k (xs.length - 1 - k)))) L (ob 8 [.int (mc + 1), .ref E, .int (nI (xs.length - 1))])) H := hR
    refine lv_null hx hb dJ2_fastRemove_41 ?_
    refine r_aastjN hx hb hT hR hS k_6 (j := (xs.length - 1)) rfl (by omega) (by omega) dJ2_fastRemove_42 (fun H locs hz hR hS => ?_)
    have k_7 : (mu (mu (mu (mu M L (ob 8 [.int (mc + 1), .ref E, .int (nI xs.length)])) E (aO G cap (va_cpy (lsO xs) (lsO xs) (k + 1) k (xs.length - 1 - k)))) L (ob 8 [.int (mc + 1), .ref E, .int (nI (xs.length - 1))])) E (aO G cap (va_up (va_cpy (lsO xs) (lsO xs) (k + 1) k (xs.length - 1 - k)) (xs.length - 1) none))) L = some (ob 8 [.int (mc + 1), .ref E, .int (nI (xs.length - 1))]) := muL (ne_tag (mu_eq _ _ _) k_6 rfl) (mu_eq _ _ _)
    have hR : Rp G (mu (mu (mu (mu M L (ob 8 [.int (mc + 1), .ref E, .int (nI xs.length)])) E (aO G cap (va_cpy (lsO xs) (lsO xs) (k + 1) k (xs.length - 1 - k)))) L (ob 8 [.int (mc + 1), .ref E, .int (nI (xs.length - 1))])) E (aO G cap (va_up (va_cpy (lsO xs) (lsO xs) (k + 1) k (xs.length - 1 - k)) (xs.length - 1) none))) H := hR
    exact W.vret hx hb hr (q_ret (⟨rfl, by rw [← lsO_era xs k hk, List.length_eraseIdx_of_lt hk]; exact mu4 (ne_tag hL hE rfl)⟩) hR hS) hS.2.2 dJ2_fastRemove_43
