set_option maxHeartbeats 4000000 in
set_option maxRecDepth 100000 in
theorem tm_thrown (l : Launch) (G : Gw) (M : Mp) (sz : Nat) (T : Nat) (ta : Nat → Nat) (S : Tw) (Y : Mp) (hW : TR G T ta S Y M) : Cp l yX6_thrown cX6_thrown 1 (some .int) 0 [.ref T] G M sz (some (.int (gF S 32))) := by
  refine Met.ofW (cc := cX6_thrown) (maxL := 1) (ret := (some .int)) (by decide) rfl ?_
  intro p e s m args below meth c s₁ B hml hv
  obtain ⟨rfl, hT, hR, hsz⟩ := hv
  have hx := B.exec
  have hb := B.bytes
  have hr := B.returns
  have hts := atoms_spec (ws := ws_ yX6_thrown cX6_thrown 1 (some .int)) B.pre
  have hts : ∀ w ∈ lw_all, w.before _ s = true := fun w h => hts w (List.mem_cons_of_mem _ h)
  have hown : s.vm.findClass RX6 = some m.cls := findClass_of_methodNamed B.named
  have hlocks := B.notSynchronized
  have hS : va_S (Af G) s.heap s.heap [] := va_S.rf
  have hl := lv_entry ([.ref T]) (n := 1) (Nat.le_of_ble_eq_true rfl)
  rw [lg_entry_eq]
  generalize (lg_sl ([.ref T]) ++ List.replicate (1 - (lg_sl ([.ref T])).length) Slot.unset).toArray = ls at hl ⊢
  have hl : lv_has ls 1 [(0, .ref T)] := hl
  refine lv_aload_n hx hb dX6_thrown_0 rfl (lv_at hl 0 rfl) ?_
  refine va_get (D := G.1) (ci := 10) (v := .int (gF S 32)) (C := RX6) (T := TX6) (N := 33) hx hb hts in_X6 hown hT.1 (hR.one hW.1) 0 rfl rfl 32 (by decide) (hts _ q1064) (fun _ h9 => h9) rfl dX6_thrown_1 ?_
  exact W.iret hx hb hr (fun t ht _ => ⟨rfl, ht⟩) t_nil dX6_thrown_4
set_option maxHeartbeats 4000000 in
set_option maxRecDepth 100000 in
theorem tm_out (l : Launch) (G : Gw) (M : Mp) (sz : Nat) (T : Nat) (ta : Nat → Nat) (S : Tw) (Y : Mp) (hW : TR G T ta S Y M) (a b : Int32) : Cp l yX6_out cX6_out 3 (some .boolean) 0 [.ref T, .int a, .int b] G M sz (some (.int (bI (outP a b)))) := by
  refine Met.ofW (cc := cX6_out) (maxL := 3) (ret := (some .boolean)) (by decide) rfl ?_
  intro p e s m args below meth c s₁ B hml hv
  obtain ⟨rfl, hT, hR, hsz⟩ := hv
  have hx := B.exec
  have hb := B.bytes
  have hr := B.returns
  have hts := atoms_spec (ws := ws_ yX6_out cX6_out 3 (some .boolean)) B.pre
  have hts : ∀ w ∈ lw_all, w.before _ s = true := fun w h => hts w (List.mem_cons_of_mem _ h)
  have hown : s.vm.findClass RX6 = some m.cls := findClass_of_methodNamed B.named
  have hlocks := B.notSynchronized
  have hS : va_S (Af G) s.heap s.heap [] := va_S.rf
  have hl := lv_entry ([.ref T, .int a, .int b]) (n := 3) (Nat.le_of_ble_eq_true rfl)
  rw [lg_entry_eq]
  generalize (lg_sl ([.ref T, .int a, .int b]) ++ List.replicate (3 - (lg_sl ([.ref T, .int a, .int b])).length) Slot.unset).toArray = ls at hl ⊢
  have hl : lv_has ls 3 [(0, .ref T), (1, .int a), (2, .int b)] := hl
  refine lv_iload_n hx hb dX6_out_0 rfl (lv_at hl 1 rfl) ?_
  refine lv_if_lt (tgt := 9) hx hb dX6_out_1 (by decide) (fun c_1 => ?_) (fun c_1 => ?_)
  · skip
    refine lv_iconst (v := 1) hx hb dX6_out_9 (by decide) ?_
    refine lv_goto (tgt := 14) hx hb dX6_out_10 (by decide) ?_
    exact W.zret hx hb hr rfl (fun t ht _ => ⟨(by rw [bI_t (Or.inl c_1)]), ht⟩) t_nil dX6_out_14
  · skip
    refine lv_iload_n hx hb dX6_out_4 rfl (lv_at hl 1 rfl) ?_
    refine lv_iload_n hx hb dX6_out_5 rfl (lv_at hl 2 rfl) ?_
    refine lv_icmp_le (tgt := 13) hx hb dX6_out_6 (by decide) (fun c_2 => ?_) (fun c_2 => ?_)
    · skip
      refine lv_iconst (v := 0) hx hb dX6_out_13 (by decide) ?_
      exact W.zret hx hb hr rfl (fun t ht _ => ⟨(by rw [bI_f (fun h => h.elim c_1 (fun h => h c_2))]), ht⟩) t_nil dX6_out_14
    · skip
      refine lv_iconst (v := 1) hx hb dX6_out_9 (by decide) ?_
      refine lv_goto (tgt := 14) hx hb dX6_out_10 (by decide) ?_
      exact W.zret hx hb hr rfl (fun t ht _ => ⟨(by rw [bI_t (Or.inr c_2)]), ht⟩) t_nil dX6_out_14
set_option maxHeartbeats 4000000 in
set_option maxRecDepth 100000 in
theorem tm_place (l : Launch) (G : Gw) (M : Mp) (sz : Nat) (T : Nat) (ta : Nat → Nat) (S : Tw) (Y : Mp) (hW : TR G T ta S Y M) (a : Int32) (d1 d2 : UInt64) : Ct l yX6_place cX6_place 6 none 1 0 0 [.ref T, .int a, .double d1, .double d2] G M sz (fun v M1 _ => v = none ∧ TR G T ta (tPlace S a d1 d2) Y M1) := by
  refine Met.ofW (cc := cX6_place) (maxL := 6) (ret := none) (by decide) rfl ?_
  intro p e s m args below meth c s₁ B hml hv
  obtain ⟨rfl, hT, hR, hsz⟩ := hv
  have hx := B.exec
  have hb := B.bytes
  have hr := B.returns
  have hts := atoms_spec (ws := ws_ yX6_place cX6_place 6 none) B.pre
  have hts : ∀ w ∈ lw_all, w.before _ s = true := fun w h => hts w (List.mem_cons_of_mem _ h)
  have hown : s.vm.findClass RX6 = some m.cls := findClass_of_methodNamed B.named
  have hlocks := B.notSynchronized
  have hS : va_S (Af G) s.heap s.heap [] := va_S.rf
  have hl := lv_entry ([.ref T, .int a, .double d1, .double d2]) (n := 6) (Nat.le_of_ble_eq_true rfl)
  rw [lg_entry_eq]
  generalize (lg_sl ([.ref T, .int a, .double d1, .double d2]) ++ List.replicate (6 - (lg_sl ([.ref T, .int a, .double d1, .double d2])).length) Slot.unset).toArray = ls at hl ⊢
  have hl : lv_has ls 6 [(0, .ref T), (1, .int a), (2, .double d1), (4, .double d2)] := hl
  refine lv_aload_n hx hb dX6_place_0 rfl (lv_at hl 0 rfl) ?_
  refine lv_aload_n hx hb dX6_place_1 rfl (lv_at hl 0 rfl) ?_
  refine lv_iload_n hx hb dX6_place_2 rfl (lv_at hl 1 rfl) ?_
  refine lv_iconst (v := 5) hx hb dX6_place_3 (by decide) ?_
  refine g_pure (va_runV (As := [.int a, .int 5]) (rest := [.ref T]) ⟨hx, hb, hml, hown, hts⟩ (tm_out l G M _ T ta S Y hW a 5) (cwV 2 hts (lw_V q1141 q1143 qs19 q61 q1144) rfl rfl rfl (by decide +kernel) ⟨Nat.le_of_ble_eq_true rfl, Nat.le_of_ble_eq_true rfl⟩) (preV hT hR hS hW.1 rfl rfl) rfl rfl hl.1 rfl (lv_room (Nat.le_of_ble_eq_true rfl)) dX6_place_4 ⟨Nat.le_of_ble_eq_true rfl, Nat.le_of_ble_eq_true rfl⟩) ?_
  refine W.eq (g2 := F0 m 7 ls [.int (bI (outP a 5)), .ref T]) rfl ?_
  refine lv_if_ne (tgt := 40) hx hb dX6_place_7 (by decide) (fun c_1 => ?_) (fun c_1 => ?_)
  · skip
    have c_1 := b_n0 c_1
    refine lv_iconst (v := 1) hx hb dX6_place_40 (by decide) ?_
    refine lv_goto (tgt := 45) hx hb dX6_place_41 (by decide) ?_
    refine r_put (ci := 10) (v := .int 1) (ty := .int) (C := RX6) (T := TX6) (N := 33) hx hb hts in_X6 tyX6 tyX6_ok nmX6 hown hT hR hS hW.1 rfl 32 (by decide) (hts _ q1064) (fun _ h9 => h9) rfl (by decide +kernel) rfl rfl (Nat.le_of_ble_eq_true rfl) dX6_place_45 (fun H locs hz hR hS => ?_)
    obtain ⟨M, hR, hW⟩ : ∃ M1 : Mp, Rp G M1 H ∧ TR G T ta (sF S 32 1) Y M1 := ⟨_, hR, hW.setF 32 (by decide) (by decide) 1⟩
    refine lv_aload_n hx hb dX6_place_48 rfl (lv_at hl 0 rfl) ?_
    refine va_get (D := G.1) (ci := 10) (v := .int 1) (C := RX6) (T := TX6) (N := 33) hx hb hts in_X6 hown hT.1 (hR.one hW.1) 0 rfl rfl 32 (by decide) (hts _ q1064) (fun _ h9 => h9) rfl dX6_place_49 ?_
    refine lv_if_eq (tgt := 56) hx hb dX6_place_52 (by decide) (fun c_2 => ?_) (fun c_2 => ?_)
    · skip
      exact absurd c_2 (by decide)
    · skip
      exact W.vret hx hb hr (q_ret (⟨rfl, TR.eq ((if_pos c_1).trans (rfl)) hW⟩) hR hS) hS.2.2 dX6_place_55
  · skip
    have c_1 := b_0 c_1
    have ha : nb a 5 := outP_nb 5 (by decide) c_1
    have ha1 := ha.1
    have ha2 := ha.2
    refine lv_dload_n hx hb dX6_place_10 rfl (lv_at hl 2 rfl) ?_
    refine lv_dconst0 hx hb dX6_place_11 ?_
    refine lv_dcmp hx hb dX6_place_12 ?_
    refine lv_if_lt (tgt := 40) hx hb dX6_place_13 (by decide) (fun c_3 => ?_) (fun c_3 => ?_)
    · skip
      refine lv_iconst (v := 1) hx hb dX6_place_40 (by decide) ?_
      refine lv_goto (tgt := 45) hx hb dX6_place_41 (by decide) ?_
      refine r_put (ci := 10) (v := .int 1) (ty := .int) (C := RX6) (T := TX6) (N := 33) hx hb hts in_X6 tyX6 tyX6_ok nmX6 hown hT hR hS hW.1 rfl 32 (by decide) (hts _ q1064) (fun _ h9 => h9) rfl (by decide +kernel) rfl rfl (Nat.le_of_ble_eq_true rfl) dX6_place_45 (fun H locs hz hR hS => ?_)
      obtain ⟨M, hR, hW⟩ : ∃ M1 : Mp, Rp G M1 H ∧ TR G T ta (sF S 32 1) Y M1 := ⟨_, hR, hW.setF 32 (by decide) (by decide) 1⟩
      refine lv_aload_n hx hb dX6_place_48 rfl (lv_at hl 0 rfl) ?_
      refine va_get (D := G.1) (ci := 10) (v := .int 1) (C := RX6) (T := TX6) (N := 33) hx hb hts in_X6 hown hT.1 (hR.one hW.1) 0 rfl rfl 32 (by decide) (hts _ q1064) (fun _ h9 => h9) rfl dX6_place_49 ?_
      refine lv_if_eq (tgt := 56) hx hb dX6_place_52 (by decide) (fun c_4 => ?_) (fun c_4 => ?_)
      · skip
        exact absurd c_4 (by decide)
      · skip
        exact W.vret hx hb hr (q_ret (⟨rfl, TR.eq ((if_neg c_1).trans ((if_pos c_3).trans (rfl))) hW⟩) hR hS) hS.2.2 dX6_place_55
    · skip
      refine lv_dload_n hx hb dX6_place_16 rfl (lv_at hl 2 rfl) ?_
      refine lv_ldc2d (v := c80) hx hb hown (hts _ q1145) dX6_place_17 ?_
      refine lv_dcmp hx hb dX6_place_20 ?_
      refine lv_if_gt (tgt := 40) hx hb dX6_place_21 (by decide) (fun c_5 => ?_) (fun c_5 => ?_)
      · skip
        refine lv_iconst (v := 1) hx hb dX6_place_40 (by decide) ?_
        refine lv_goto (tgt := 45) hx hb dX6_place_41 (by decide) ?_
        refine r_put (ci := 10) (v := .int 1) (ty := .int) (C := RX6) (T := TX6) (N := 33) hx hb hts in_X6 tyX6 tyX6_ok nmX6 hown hT hR hS hW.1 rfl 32 (by decide) (hts _ q1064) (fun _ h9 => h9) rfl (by decide +kernel) rfl rfl (Nat.le_of_ble_eq_true rfl) dX6_place_45 (fun H locs hz hR hS => ?_)
        obtain ⟨M, hR, hW⟩ : ∃ M1 : Mp, Rp G M1 H ∧ TR G T ta (sF S 32 1) Y M1 := ⟨_, hR, hW.setF 32 (by decide) (by decide) 1⟩
        refine lv_aload_n hx hb dX6_place_48 rfl (lv_at hl 0 rfl) ?_
        refine va_get (D := G.1) (ci := 10) (v := .int 1) (C := RX6) (T := TX6) (N := 33) hx hb hts in_X6 hown hT.1 (hR.one hW.1) 0 rfl rfl 32 (by decide) (hts _ q1064) (fun _ h9 => h9) rfl dX6_place_49 ?_
        refine lv_if_eq (tgt := 56) hx hb dX6_place_52 (by decide) (fun c_6 => ?_) (fun c_6 => ?_)
        · skip
          exact absurd c_6 (by decide)
        · skip
          exact W.vret hx hb hr (q_ret (⟨rfl, TR.eq ((if_neg c_1).trans ((if_neg c_3).trans ((if_pos c_5).trans (rfl)))) hW⟩) hR hS) hS.2.2 dX6_place_55
      · skip
        refine lv_dload hx hb dX6_place_24 (lv_at hl 3 rfl) ?_
        refine lv_dconst0 hx hb dX6_place_26 ?_
        refine lv_dcmp hx hb dX6_place_27 ?_
        refine lv_if_lt (tgt := 40) hx hb dX6_place_28 (by decide) (fun c_7 => ?_) (fun c_7 => ?_)
        · skip
          refine lv_iconst (v := 1) hx hb dX6_place_40 (by decide) ?_
          refine lv_goto (tgt := 45) hx hb dX6_place_41 (by decide) ?_
          refine r_put (ci := 10) (v := .int 1) (ty := .int) (C := RX6) (T := TX6) (N := 33) hx hb hts in_X6 tyX6 tyX6_ok nmX6 hown hT hR hS hW.1 rfl 32 (by decide) (hts _ q1064) (fun _ h9 => h9) rfl (by decide +kernel) rfl rfl (Nat.le_of_ble_eq_true rfl) dX6_place_45 (fun H locs hz hR hS => ?_)
          obtain ⟨M, hR, hW⟩ : ∃ M1 : Mp, Rp G M1 H ∧ TR G T ta (sF S 32 1) Y M1 := ⟨_, hR, hW.setF 32 (by decide) (by decide) 1⟩
          refine lv_aload_n hx hb dX6_place_48 rfl (lv_at hl 0 rfl) ?_
          refine va_get (D := G.1) (ci := 10) (v := .int 1) (C := RX6) (T := TX6) (N := 33) hx hb hts in_X6 hown hT.1 (hR.one hW.1) 0 rfl rfl 32 (by decide) (hts _ q1064) (fun _ h9 => h9) rfl dX6_place_49 ?_
          refine lv_if_eq (tgt := 56) hx hb dX6_place_52 (by decide) (fun c_8 => ?_) (fun c_8 => ?_)
          · skip
            exact absurd c_8 (by decide)
          · skip
            exact W.vret hx hb hr (q_ret (⟨rfl, TR.eq ((if_neg c_1).trans ((if_neg c_3).trans ((if_neg c_5).trans ((if_pos c_7).trans (rfl))))) hW⟩) hR hS) hS.2.2 dX6_place_55
        · skip
          refine lv_dload hx hb dX6_place_31 (lv_at hl 3 rfl) ?_
          refine lv_ldc2d (v := c80) hx hb hown (hts _ q1145) dX6_place_33 ?_
          refine lv_dcmp hx hb dX6_place_36 ?_
          refine lv_if_le (tgt := 44) hx hb dX6_place_37 (by decide) (fun c_9 => ?_) (fun c_9 => ?_)
          · skip
            refine lv_iconst (v := 0) hx hb dX6_place_44 (by decide) ?_
            refine r_put (ci := 10) (v := .int 0) (ty := .int) (C := RX6) (T := TX6) (N := 33) hx hb hts in_X6 tyX6 tyX6_ok nmX6 hown hT hR hS hW.1 rfl 32 (by decide) (hts _ q1064) (fun _ h9 => h9) rfl (by decide +kernel) rfl rfl (Nat.le_of_ble_eq_true rfl) dX6_place_45 (fun H locs hz hR hS => ?_)
            obtain ⟨M, hR, hW⟩ : ∃ M1 : Mp, Rp G M1 H ∧ TR G T ta (sF S 32 0) Y M1 := ⟨_, hR, hW.setF 32 (by decide) (by decide) 0⟩
            refine lv_aload_n hx hb dX6_place_48 rfl (lv_at hl 0 rfl) ?_
            refine va_get (D := G.1) (ci := 10) (v := .int 0) (C := RX6) (T := TX6) (N := 33) hx hb hts in_X6 hown hT.1 (hR.one hW.1) 0 rfl rfl 32 (by decide) (hts _ q1064) (fun _ h9 => h9) rfl dX6_place_49 ?_
            refine lv_if_eq (tgt := 56) hx hb dX6_place_52 (by decide) (fun c_10 => ?_) (fun c_10 => ?_)
            · skip
              refine lv_aload_n hx hb dX6_place_56 rfl (lv_at hl 0 rfl) ?_
              refine va_get (D := G.1) (ci := 10) (v := .ref (ta 0)) (C := RX6) (T := TX6) (N := 33) hx hb hts in_X6 hown hT.1 (hR.one hW.1) 0 rfl rfl 0 (by decide) (hts _ q1032) (fun _ h9 => h9) rfl dX6_place_57 ?_
              refine lv_iload_n hx hb dX6_place_60 rfl (lv_at hl 1 rfl) ?_
              refine lv_dload_n hx hb dX6_place_61 rfl (lv_at hl 2 rfl) ?_
              refine r_dastj hx hb hT hR hS (hW.d 0 6 (by decide) rfl) (j := (ix a)) ha1 (by omega) (by decide) dX6_place_62 (fun H locs hz hR hS => ?_)
              obtain ⟨M, hR, hW⟩ : ∃ M1 : Mp, Rp G M1 H ∧ TR G T ta (sD (sF S 32 0) 0 (ix a) d1) Y M1 := ⟨_, hR, hW.setD 0 (by decide) (ix a) d1⟩
              refine lv_aload_n hx hb dX6_place_63 rfl (lv_at hl 0 rfl) ?_
              refine va_get (D := G.1) (ci := 10) (v := .ref (ta 1)) (C := RX6) (T := TX6) (N := 33) hx hb hts in_X6 hown hT.1 (hR.one hW.1) 0 rfl rfl 1 (by decide) (hts _ q1033) (fun _ h9 => h9) rfl dX6_place_64 ?_
              refine lv_iload_n hx hb dX6_place_67 rfl (lv_at hl 1 rfl) ?_
              refine lv_dload hx hb dX6_place_68 (lv_at hl 3 rfl) ?_
              refine r_dastj hx hb hT hR hS (hW.d 1 6 (by decide) rfl) (j := (ix a)) ha1 (by omega) (by decide) dX6_place_70 (fun H locs hz hR hS => ?_)
              obtain ⟨M, hR, hW⟩ : ∃ M1 : Mp, Rp G M1 H ∧ TR G T ta (sD (sD (sF S 32 0) 0 (ix a) d1) 1 (ix a) d2) Y M1 := ⟨_, hR, hW.setD 1 (by decide) (ix a) d2⟩
              exact W.vret hx hb hr (q_ret (⟨rfl, TR.eq ((if_neg c_1).trans ((if_neg c_3).trans ((if_neg c_5).trans ((if_neg c_7).trans ((if_pos c_9).trans (rfl)))))) hW⟩) hR hS) hS.2.2 dX6_place_71
            · skip
              exact absurd c_10 (by decide)
          · skip
            refine lv_iconst (v := 1) hx hb dX6_place_40 (by decide) ?_
            refine lv_goto (tgt := 45) hx hb dX6_place_41 (by decide) ?_
            refine r_put (ci := 10) (v := .int 1) (ty := .int) (C := RX6) (T := TX6) (N := 33) hx hb hts in_X6 tyX6 tyX6_ok nmX6 hown hT hR hS hW.1 rfl 32 (by decide) (hts _ q1064) (fun _ h9 => h9) rfl (by decide +kernel) rfl rfl (Nat.le_of_ble_eq_true rfl) dX6_place_45 (fun H locs hz hR hS => ?_)
            obtain ⟨M, hR, hW⟩ : ∃ M1 : Mp, Rp G M1 H ∧ TR G T ta (sF S 32 1) Y M1 := ⟨_, hR, hW.setF 32 (by decide) (by decide) 1⟩
            refine lv_aload_n hx hb dX6_place_48 rfl (lv_at hl 0 rfl) ?_
            refine va_get (D := G.1) (ci := 10) (v := .int 1) (C := RX6) (T := TX6) (N := 33) hx hb hts in_X6 hown hT.1 (hR.one hW.1) 0 rfl rfl 32 (by decide) (hts _ q1064) (fun _ h9 => h9) rfl dX6_place_49 ?_
            refine lv_if_eq (tgt := 56) hx hb dX6_place_52 (by decide) (fun c_11 => ?_) (fun c_11 => ?_)
            · skip
              exact absurd c_11 (by decide)
            · skip
              exact W.vret hx hb hr (q_ret (⟨rfl, TR.eq ((if_neg c_1).trans ((if_neg c_3).trans ((if_neg c_5).trans ((if_neg c_7).trans ((if_neg c_9).trans (rfl)))))) hW⟩) hR hS) hS.2.2 dX6_place_55
set_option maxHeartbeats 4000000 in
set_option maxRecDepth 100000 in
theorem tm_seek (l : Launch) (G : Gw) (M : Mp) (sz : Nat) (T : Nat) (ta : Nat → Nat) (S : Tw) (Y : Mp) (hW : TR G T ta S Y M) (j : Nat) (hj : j < 6) : Ct l yX6_seek cX6_seek 2 none 0 0 0 [.ref T, .int (nI j)] G M sz (fun v M1 _ => v = none ∧ TR G T ta (tSeek S j) Y M1) := by
  refine Met.ofW (cc := cX6_seek) (maxL := 2) (ret := none) (by decide) rfl ?_
  intro p e s m args below meth c s₁ B hml hv
  obtain ⟨rfl, hT, hR, hsz⟩ := hv
  have hx := B.exec
  have hb := B.bytes
  have hr := B.returns
  have hts := atoms_spec (ws := ws_ yX6_seek cX6_seek 2 none) B.pre
  have hts : ∀ w ∈ lw_all, w.before _ s = true := fun w h => hts w (List.mem_cons_of_mem _ h)
  have hown : s.vm.findClass RX6 = some m.cls := findClass_of_methodNamed B.named
  have hlocks := B.notSynchronized
  have hS : va_S (Af G) s.heap s.heap [] := va_S.rf
  have hl := lv_entry ([.ref T, .int (nI j)]) (n := 2) (Nat.le_of_ble_eq_true rfl)
  rw [lg_entry_eq]
  generalize (lg_sl ([.ref T, .int (nI j)]) ++ List.replicate (2 - (lg_sl ([.ref T, .int (nI j)])).length) Slot.unset).toArray = ls at hl ⊢
  have hl : lv_has ls 2 [(0, .ref T), (1, .int (nI j))] := hl
  refine lv_aload_n hx hb dX6_seek_0 rfl (lv_at hl 0 rfl) ?_
  refine va_get (D := G.1) (ci := 10) (v := .ref (ta 6)) (C := RX6) (T := TX6) (N := 33) hx hb hts in_X6 hown hT.1 (hR.one hW.1) 0 rfl rfl 6 (by decide) (hts _ q1038) (fun _ h9 => h9) rfl dX6_seek_1 ?_
  refine lv_iload_n hx hb dX6_seek_4 rfl (lv_at hl 1 rfl) ?_
  refine lv_iconst (v := 1) hx hb dX6_seek_5 (by decide) ?_
  refine r_iastj hx hb hT hR hS (hW.i 6 6 (by decide) (by decide) rfl) (j := j) rfl (by omega) (by decide) dX6_seek_6 (fun H locs hz hR hS => ?_)
  obtain ⟨M, hR, hW⟩ : ∃ M1 : Mp, Rp G M1 H ∧ TR G T ta (sI S 6 j 1) Y M1 := ⟨_, hR, hW.setI 6 (by decide) (by decide) j 1⟩
  refine lv_aload_n hx hb dX6_seek_7 rfl (lv_at hl 0 rfl) ?_
  refine va_get (D := G.1) (ci := 10) (v := .ref (ta 9)) (C := RX6) (T := TX6) (N := 33) hx hb hts in_X6 hown hT.1 (hR.one hW.1) 0 rfl rfl 9 (by decide) (hts _ q1041) (fun _ h9 => h9) rfl dX6_seek_8 ?_
  refine lv_iload_n hx hb dX6_seek_11 rfl (lv_at hl 1 rfl) ?_
  refine lv_iconst (v := 0) hx hb dX6_seek_12 (by decide) ?_
  refine r_iastj hx hb hT hR hS (hW.i 9 6 (by decide) (by decide) rfl) (j := j) rfl (by omega) (by decide) dX6_seek_13 (fun H locs hz hR hS => ?_)
  obtain ⟨M, hR, hW⟩ : ∃ M1 : Mp, Rp G M1 H ∧ TR G T ta (sI (sI S 6 j 1) 9 j 0) Y M1 := ⟨_, hR, hW.setI 9 (by decide) (by decide) j 0⟩
  refine lv_aload_n hx hb dX6_seek_14 rfl (lv_at hl 0 rfl) ?_
  refine va_get (D := G.1) (ci := 10) (v := .ref (ta 16)) (C := RX6) (T := TX6) (N := 33) hx hb hts in_X6 hown hT.1 (hR.one hW.1) 0 rfl rfl 16 (by decide) (hts _ q1048) (fun _ h9 => h9) rfl dX6_seek_15 ?_
  refine lv_iload_n hx hb dX6_seek_18 rfl (lv_at hl 1 rfl) ?_
  refine lv_iconst (v := 0) hx hb dX6_seek_19 (by decide) ?_
  refine r_iastj hx hb hT hR hS (hW.i 16 6 (by decide) (by decide) rfl) (j := j) rfl (by omega) (by decide) dX6_seek_20 (fun H locs hz hR hS => ?_)
  obtain ⟨M, hR, hW⟩ : ∃ M1 : Mp, Rp G M1 H ∧ TR G T ta (sI (sI (sI S 6 j 1) 9 j 0) 16 j 0) Y M1 := ⟨_, hR, hW.setI 16 (by decide) (by decide) j 0⟩
  exact W.vret hx hb hr (q_ret (⟨rfl, hW⟩) hR hS) hS.2.2 dX6_seek_21
set_option maxHeartbeats 4000000 in
set_option maxRecDepth 100000 in
theorem tm_power (l : Launch) (G : Gw) (M : Mp) (sz : Nat) (T : Nat) (ta : Nat → Nat) (S : Tw) (Y : Mp) (hW : TR G T ta S Y M) (a on : Int32) : Ct l yX6_power cX6_power 4 none 1 0 0 [.ref T, .int a, .int on] G M sz (fun v M1 _ => v = none ∧ TR G T ta (tPower S a on) Y M1) := by
  refine Met.ofW (cc := cX6_power) (maxL := 4) (ret := none) (by decide) rfl ?_
  intro p e s m args below meth c s₁ B hml hv
  obtain ⟨rfl, hT, hR, hsz⟩ := hv
  have hx := B.exec
  have hb := B.bytes
  have hr := B.returns
  have hts := atoms_spec (ws := ws_ yX6_power cX6_power 4 none) B.pre
  have hts : ∀ w ∈ lw_all, w.before _ s = true := fun w h => hts w (List.mem_cons_of_mem _ h)
  have hown : s.vm.findClass RX6 = some m.cls := findClass_of_methodNamed B.named
  have hlocks := B.notSynchronized
  have hS : va_S (Af G) s.heap s.heap [] := va_S.rf
  have hl := lv_entry ([.ref T, .int a, .int on]) (n := 4) (Nat.le_of_ble_eq_true rfl)
  rw [lg_entry_eq]
  generalize (lg_sl ([.ref T, .int a, .int on]) ++ List.replicate (4 - (lg_sl ([.ref T, .int a, .int on])).length) Slot.unset).toArray = ls at hl ⊢
  have hl : lv_has ls 4 [(0, .ref T), (1, .int a), (2, .int on)] := hl
  refine lv_aload_n hx hb dX6_power_0 rfl (lv_at hl 0 rfl) ?_
  refine lv_aload_n hx hb dX6_power_1 rfl (lv_at hl 0 rfl) ?_
  refine lv_iload_n hx hb dX6_power_2 rfl (lv_at hl 1 rfl) ?_
  refine lv_iconst (v := 5) hx hb dX6_power_3 (by decide) ?_
  refine g_pure (va_runV (As := [.int a, .int 5]) (rest := [.ref T]) ⟨hx, hb, hml, hown, hts⟩ (tm_out l G M _ T ta S Y hW a 5) (cwV 2 hts (lw_V q1141 q1143 qs19 q61 q1144) rfl rfl rfl (by decide +kernel) ⟨Nat.le_of_ble_eq_true rfl, Nat.le_of_ble_eq_true rfl⟩) (preV hT hR hS hW.1 rfl rfl) rfl rfl hl.1 rfl (lv_room (Nat.le_of_ble_eq_true rfl)) dX6_power_4 ⟨Nat.le_of_ble_eq_true rfl, Nat.le_of_ble_eq_true rfl⟩) ?_
  refine W.eq (g2 := F0 m 7 ls [.int (bI (outP a 5)), .ref T]) rfl ?_
  refine lv_if_eq (tgt := 14) hx hb dX6_power_7 (by decide) (fun c_1 => ?_) (fun c_1 => ?_)
  · skip
    have c_1 := b_0 c_1
    have ha : nb a 5 := outP_nb 5 (by decide) c_1
    have ha1 := ha.1
    have ha2 := ha.2
    refine lv_iload_n hx hb dX6_power_14 rfl (lv_at hl 2 rfl) ?_
    refine lv_aload_n hx hb dX6_power_15 rfl (lv_at hl 0 rfl) ?_
    refine va_get (D := G.1) (ci := 10) (v := .ref (ta 6)) (C := RX6) (T := TX6) (N := 33) hx hb hts in_X6 hown hT.1 (hR.one hW.1) 0 rfl rfl 6 (by decide) (hts _ q1038) (fun _ h9 => h9) rfl dX6_power_16 ?_
    refine lv_iload_n hx hb dX6_power_19 rfl (lv_at hl 1 rfl) ?_
    refine r_iald hx hb hT hR (hW.i 6 6 (by decide) (by decide) rfl) (j := (ix a)) ha1 (by omega) (by decide) dX6_power_20 ?_
    refine W.eq (g2 := F0 m 21 ls (.int (gI S 6 (ix a)) :: [.int on, .ref T])) rfl ?_
    refine lv_if_le (tgt := 28) hx hb dX6_power_21 (by decide) (fun c_2 => ?_) (fun c_2 => ?_)
    · skip
      refine lv_iconst (v := 0) hx hb dX6_power_28 (by decide) ?_
      refine lv_icmp_ne (tgt := 36) hx hb dX6_power_29 (by decide) (fun c_3 => ?_) (fun c_3 => ?_)
      · skip
        refine lv_iconst (v := 0) hx hb dX6_power_36 (by decide) ?_
        refine r_put (ci := 10) (v := .int 0) (ty := .int) (C := RX6) (T := TX6) (N := 33) hx hb hts in_X6 tyX6 tyX6_ok nmX6 hown hT hR hS hW.1 rfl 32 (by decide) (hts _ q1064) (fun _ h9 => h9) rfl (by decide +kernel) rfl rfl (Nat.le_of_ble_eq_true rfl) dX6_power_37 (fun H locs hz hR hS => ?_)
        obtain ⟨M, hR, hW⟩ : ∃ M1 : Mp, Rp G M1 H ∧ TR G T ta (sF S 32 0) Y M1 := ⟨_, hR, hW.setF 32 (by decide) (by decide) 0⟩
        refine lv_aload_n hx hb dX6_power_40 rfl (lv_at hl 0 rfl) ?_
        refine va_get (D := G.1) (ci := 10) (v := .int 0) (C := RX6) (T := TX6) (N := 33) hx hb hts in_X6 hown hT.1 (hR.one hW.1) 0 rfl rfl 32 (by decide) (hts _ q1064) (fun _ h9 => h9) rfl dX6_power_41 ?_
        refine lv_if_eq (tgt := 48) hx hb dX6_power_44 (by decide) (fun c_4 => ?_) (fun c_4 => ?_)
        · skip
          refine lv_iload_n hx hb dX6_power_48 rfl (lv_at hl 2 rfl) ?_
          refine lv_if_ne (tgt := 67) hx hb dX6_power_49 (by decide) (fun c_5 => ?_) (fun c_5 => ?_)
          · skip
            refine lv_aload_n hx hb dX6_power_67 rfl (lv_at hl 0 rfl) ?_
            refine lv_iload_n hx hb dX6_power_68 rfl (lv_at hl 1 rfl) ?_
            refine W.eq (g2 := F0 m 69 ls [.int (nI (ix a)), .ref T]) (congrArg (fun z9 => F0 m 69 ls [.int z9, .ref T]) (ha1)) ?_
            refine g_call (va_runV (As := [.int (nI (ix a))]) (rest := []) ⟨hx, hb, hml, hown, hts⟩ (tm_seek l G M _ T ta (sF S 32 0) Y hW (ix a) (by omega)) (cwV 1 hts (lw_V q1150 q1152 qs20 q61 q1153) rfl rfl rfl (by decide +kernel) ⟨Nat.le_of_ble_eq_true rfl, Nat.le_of_ble_eq_true rfl⟩) (preV hT hR hS hW.1 rfl rfl) rfl rfl hl.1 rfl (lv_room (Nat.le_of_ble_eq_true rfl)) dX6_power_69 ⟨Nat.le_of_ble_eq_true rfl, Nat.le_of_ble_eq_true rfl⟩) hS (fun v M H locs hq hR hz hS => ?_)
            obtain ⟨rfl, hW⟩ := hq
            refine W.eq (g2 := F0 m 72 ls []) rfl ?_
            refine lv_aload_n hx hb dX6_power_72 rfl (lv_at hl 0 rfl) ?_
            refine va_get (D := G.1) (ci := 10) (v := .ref (ta 2)) (C := RX6) (T := TX6) (N := 33) hx hb hts in_X6 hown hT.1 (hR.one hW.1) 0 rfl rfl 2 (by decide) (hts _ q1034) (fun _ h9 => h9) rfl dX6_power_73 ?_
            refine lv_iload_n hx hb dX6_power_76 rfl (lv_at hl 1 rfl) ?_
            refine lv_dconst0 hx hb dX6_power_77 ?_
            refine r_dastj hx hb hT hR hS (hW.d 2 6 (by decide) rfl) (j := (ix a)) ha1 (by omega) (by decide) dX6_power_78 (fun H locs hz hR hS => ?_)
            obtain ⟨M, hR, hW⟩ : ∃ M1 : Mp, Rp G M1 H ∧ TR G T ta (sD (tSeek (sF S 32 0) (ix a)) 2 (ix a) FP.dconst0) Y M1 := ⟨_, hR, hW.setD 2 (by decide) (ix a) FP.dconst0⟩
            refine lv_aload_n hx hb dX6_power_79 rfl (lv_at hl 0 rfl) ?_
            refine va_get (D := G.1) (ci := 10) (v := .ref (ta 3)) (C := RX6) (T := TX6) (N := 33) hx hb hts in_X6 hown hT.1 (hR.one hW.1) 0 rfl rfl 3 (by decide) (hts _ q1035) (fun _ h9 => h9) rfl dX6_power_80 ?_
            refine lv_iload_n hx hb dX6_power_83 rfl (lv_at hl 1 rfl) ?_
            refine lv_dconst0 hx hb dX6_power_84 ?_
            refine r_dastj hx hb hT hR hS (hW.d 3 6 (by decide) rfl) (j := (ix a)) ha1 (by omega) (by decide) dX6_power_85 (fun H locs hz hR hS => ?_)
            obtain ⟨M, hR, hW⟩ : ∃ M1 : Mp, Rp G M1 H ∧ TR G T ta (sD (sD (tSeek (sF S 32 0) (ix a)) 2 (ix a) FP.dconst0) 3 (ix a) FP.dconst0) Y M1 := ⟨_, hR, hW.setD 3 (by decide) (ix a) FP.dconst0⟩
            refine lv_aload_n hx hb dX6_power_86 rfl (lv_at hl 0 rfl) ?_
            refine va_get (D := G.1) (ci := 10) (v := .ref (ta 7)) (C := RX6) (T := TX6) (N := 33) hx hb hts in_X6 hown hT.1 (hR.one hW.1) 0 rfl rfl 7 (by decide) (hts _ q1039) (fun _ h9 => h9) rfl dX6_power_87 ?_
            refine lv_iload_n hx hb dX6_power_90 rfl (lv_at hl 1 rfl) ?_
            refine lv_iload_n hx hb dX6_power_91 rfl (lv_at hl 1 rfl) ?_
            refine lv_iconst (v := 1) hx hb dX6_power_92 (by decide) ?_
            refine lv_iadd hx hb dX6_power_93 ?_
            refine r_iastj hx hb hT hR hS (hW.i 7 6 (by decide) (by decide) rfl) (j := (ix a)) ha1 (by omega) (by decide) dX6_power_94 (fun H locs hz hR hS => ?_)
            obtain ⟨M, hR, hW⟩ : ∃ M1 : Mp, Rp G M1 H ∧ TR G T ta (sI (sD (sD (tSeek (sF S 32 0) (ix a)) 2 (ix a) FP.dconst0) 3 (ix a) FP.dconst0) 7 (ix a) (a + 1)) Y M1 := ⟨_, hR, hW.setI 7 (by decide) (by decide) (ix a) (a + 1)⟩
            refine lv_iconst (v := 2) hx hb dX6_power_95 (by decide) ?_
            refine lv_iload_n hx hb dX6_power_96 rfl (lv_at hl 1 rfl) ?_
            refine lv_imul hx hb dX6_power_97 ?_
            refine W.eq (g2 := F0 m 98 ls (.int (nI (2 * (ix a))) :: [])) (congrArg (fun z => F0 m 98 ls (.int z :: [])) (mulN rfl ha1)) ?_
            refine lv_istore_n (lv' := [(3, .int (nI (2 * (ix a)))), (0, .ref T), (1, .int a), (2, .int on)]) hx hb dX6_power_98 rfl hl (by decide) rfl (fun ls hl => ?_)
            refine lv_iload_n hx hb dX6_power_99 rfl (lv_at hl 0 rfl) ?_
            refine lv_iconst (v := 2) hx hb dX6_power_100 (by decide) ?_
            refine lv_iload_n hx hb dX6_power_101 rfl (lv_at hl 2 rfl) ?_
            refine lv_imul hx hb dX6_power_102 ?_
            refine W.eq (g2 := F0 m 103 ls (.int (nI (2 * (ix a))) :: [.int (nI (2 * (ix a)))])) (congrArg (fun z => F0 m 103 ls (.int z :: [.int (nI (2 * (ix a)))])) (mulN rfl ha1)) ?_
            refine lv_iconst (v := 2) hx hb dX6_power_103 (by decide) ?_
            refine lv_iadd hx hb dX6_power_104 ?_
            refine W.eq (g2 := F0 m 105 ls (.int (nI (2 * (ix a) + 2)) :: [.int (nI (2 * (ix a)))])) (congrArg (fun z => F0 m 105 ls (.int z :: [.int (nI (2 * (ix a)))])) (addN rfl rfl)) ?_
            refine lv_icmp_ge (tgt := 128) hx hb dX6_power_105 (by decide) (fun c_6 => ?_) (fun c_6 => ?_)
            · skip
              exact absurd ((leN rfl rfl (by omega) (by omega)).mp c_6) (by omega)
            · skip
              refine lv_aload_n hx hb dX6_power_108 rfl (lv_at hl 1 rfl) ?_
              refine va_get (D := G.1) (ci := 10) (v := .ref (ta 5)) (C := RX6) (T := TX6) (N := 33) hx hb hts in_X6 hown hT.1 (hR.one hW.1) 0 rfl rfl 5 (by decide) (hts _ q1037) (fun _ h9 => h9) rfl dX6_power_109 ?_
              refine lv_iload_n hx hb dX6_power_112 rfl (lv_at hl 0 rfl) ?_
              refine lv_dconst0 hx hb dX6_power_113 ?_
              refine r_dastj hx hb hT hR hS (hW.d 5 12 (by decide) rfl) (j := (2 * (ix a))) rfl (by omega) (by decide) dX6_power_114 (fun H locs hz hR hS => ?_)
              obtain ⟨M, hR, hW⟩ : ∃ M1 : Mp, Rp G M1 H ∧ TR G T ta (sD (sI (sD (sD (tSeek (sF S 32 0) (ix a)) 2 (ix a) FP.dconst0) 3 (ix a) FP.dconst0) 7 (ix a) (a + 1)) 5 (2 * (ix a)) FP.dconst0) Y M1 := ⟨_, hR, hW.setD 5 (by decide) (2 * (ix a)) FP.dconst0⟩
              refine lv_aload_n hx hb dX6_power_115 rfl (lv_at hl 1 rfl) ?_
              refine va_get (D := G.1) (ci := 10) (v := .ref (ta 13)) (C := RX6) (T := TX6) (N := 33) hx hb hts in_X6 hown hT.1 (hR.one hW.1) 0 rfl rfl 13 (by decide) (hts _ q1045) (fun _ h9 => h9) rfl dX6_power_116 ?_
              refine lv_iload_n hx hb dX6_power_119 rfl (lv_at hl 0 rfl) ?_
              refine lv_iconst (v := 0) hx hb dX6_power_120 (by decide) ?_
              refine r_iastj hx hb hT hR hS (hW.i 13 12 (by decide) (by decide) rfl) (j := (2 * (ix a))) rfl (by omega) (by decide) dX6_power_121 (fun H locs hz hR hS => ?_)
              obtain ⟨M, hR, hW⟩ : ∃ M1 : Mp, Rp G M1 H ∧ TR G T ta (sI (sD (sI (sD (sD (tSeek (sF S 32 0) (ix a)) 2 (ix a) FP.dconst0) 3 (ix a) FP.dconst0) 7 (ix a) (a + 1)) 5 (2 * (ix a)) FP.dconst0) 13 (2 * (ix a)) 0) Y M1 := ⟨_, hR, hW.setI 13 (by decide) (by decide) (2 * (ix a)) 0⟩
              refine lv_iinc (v := nI (2 * (ix a) + 1)) (lv' := [(3, .int (nI (2 * (ix a) + 1))), (0, .ref T), (1, .int a), (2, .int on)]) hx hb dX6_power_122 hl (k := 0) rfl (addN rfl rfl) (by decide) rfl (fun ls hl => ?_)
              refine lv_goto (tgt := 99) hx hb dX6_power_125 (by decide) ?_
              refine lv_iload_n hx hb dX6_power_99 rfl (lv_at hl 0 rfl) ?_
              refine lv_iconst (v := 2) hx hb dX6_power_100 (by decide) ?_
              refine lv_iload_n hx hb dX6_power_101 rfl (lv_at hl 2 rfl) ?_
              refine lv_imul hx hb dX6_power_102 ?_
              refine W.eq (g2 := F0 m 103 ls (.int (nI (2 * (ix a))) :: [.int (nI (2 * (ix a) + 1))])) (congrArg (fun z => F0 m 103 ls (.int z :: [.int (nI (2 * (ix a) + 1))])) (mulN rfl ha1)) ?_
              refine lv_iconst (v := 2) hx hb dX6_power_103 (by decide) ?_
              refine lv_iadd hx hb dX6_power_104 ?_
              refine W.eq (g2 := F0 m 105 ls (.int (nI (2 * (ix a) + 2)) :: [.int (nI (2 * (ix a) + 1))])) (congrArg (fun z => F0 m 105 ls (.int z :: [.int (nI (2 * (ix a) + 1))])) (addN rfl rfl)) ?_
              refine lv_icmp_ge (tgt := 128) hx hb dX6_power_105 (by decide) (fun c_7 => ?_) (fun c_7 => ?_)
              · skip
                exact absurd ((leN rfl rfl (by omega) (by omega)).mp c_7) (by omega)
              · skip
                refine lv_aload_n hx hb dX6_power_108 rfl (lv_at hl 1 rfl) ?_
                refine va_get (D := G.1) (ci := 10) (v := .ref (ta 5)) (C := RX6) (T := TX6) (N := 33) hx hb hts in_X6 hown hT.1 (hR.one hW.1) 0 rfl rfl 5 (by decide) (hts _ q1037) (fun _ h9 => h9) rfl dX6_power_109 ?_
                refine lv_iload_n hx hb dX6_power_112 rfl (lv_at hl 0 rfl) ?_
                refine lv_dconst0 hx hb dX6_power_113 ?_
                refine r_dastj hx hb hT hR hS (hW.d 5 12 (by decide) rfl) (j := (2 * (ix a) + 1)) rfl (by omega) (by decide) dX6_power_114 (fun H locs hz hR hS => ?_)
                obtain ⟨M, hR, hW⟩ : ∃ M1 : Mp, Rp G M1 H ∧ TR G T ta (sD (sI (sD (sI (sD (sD (tSeek (sF S 32 0) (ix a)) 2 (ix a) FP.dconst0) 3 (ix a) FP.dconst0) 7 (ix a) (a + 1)) 5 (2 * (ix a)) FP.dconst0) 13 (2 * (ix a)) 0) 5 (2 * (ix a) + 1) FP.dconst0) Y M1 := ⟨_, hR, hW.setD 5 (by decide) (2 * (ix a) + 1) FP.dconst0⟩
                refine lv_aload_n hx hb dX6_power_115 rfl (lv_at hl 1 rfl) ?_
                refine va_get (D := G.1) (ci := 10) (v := .ref (ta 13)) (C := RX6) (T := TX6) (N := 33) hx hb hts in_X6 hown hT.1 (hR.one hW.1) 0 rfl rfl 13 (by decide) (hts _ q1045) (fun _ h9 => h9) rfl dX6_power_116 ?_
                refine lv_iload_n hx hb dX6_power_119 rfl (lv_at hl 0 rfl) ?_
                refine lv_iconst (v := 0) hx hb dX6_power_120 (by decide) ?_
                refine r_iastj hx hb hT hR hS (hW.i 13 12 (by decide) (by decide) rfl) (j := (2 * (ix a) + 1)) rfl (by omega) (by decide) dX6_power_121 (fun H locs hz hR hS => ?_)
                obtain ⟨M, hR, hW⟩ : ∃ M1 : Mp, Rp G M1 H ∧ TR G T ta (sI (sD (sI (sD (sI (sD (sD (tSeek (sF S 32 0) (ix a)) 2 (ix a) FP.dconst0) 3 (ix a) FP.dconst0) 7 (ix a) (a + 1)) 5 (2 * (ix a)) FP.dconst0) 13 (2 * (ix a)) 0) 5 (2 * (ix a) + 1) FP.dconst0) 13 (2 * (ix a) + 1) 0) Y M1 := ⟨_, hR, hW.setI 13 (by decide) (by decide) (2 * (ix a) + 1) 0⟩
                refine lv_iinc (v := nI (2 * (ix a) + 1 + 1)) (lv' := [(3, .int (nI (2 * (ix a) + 1 + 1))), (0, .ref T), (1, .int a), (2, .int on)]) hx hb dX6_power_122 hl (k := 0) rfl (addN rfl rfl) (by decide) rfl (fun ls hl => ?_)
                refine lv_goto (tgt := 99) hx hb dX6_power_125 (by decide) ?_
                refine lv_iload_n hx hb dX6_power_99 rfl (lv_at hl 0 rfl) ?_
                refine lv_iconst (v := 2) hx hb dX6_power_100 (by decide) ?_
                refine lv_iload_n hx hb dX6_power_101 rfl (lv_at hl 2 rfl) ?_
                refine lv_imul hx hb dX6_power_102 ?_
                refine W.eq (g2 := F0 m 103 ls (.int (nI (2 * (ix a))) :: [.int (nI (2 * (ix a) + 1 + 1))])) (congrArg (fun z => F0 m 103 ls (.int z :: [.int (nI (2 * (ix a) + 1 + 1))])) (mulN rfl ha1)) ?_
                refine lv_iconst (v := 2) hx hb dX6_power_103 (by decide) ?_
                refine lv_iadd hx hb dX6_power_104 ?_
                refine W.eq (g2 := F0 m 105 ls (.int (nI (2 * (ix a) + 2)) :: [.int (nI (2 * (ix a) + 1 + 1))])) (congrArg (fun z => F0 m 105 ls (.int z :: [.int (nI (2 * (ix a) + 1 + 1))])) (addN rfl rfl)) ?_
                refine lv_icmp_ge (tgt := 128) hx hb dX6_power_105 (by decide) (fun c_8 => ?_) (fun c_8 => ?_)
                · skip
                  exact W.vret hx hb hr (q_ret (⟨rfl, TR.eq ((if_neg c_1).trans ((if_pos c_2).trans ((if_neg c_3).trans (rfl)))) hW⟩) hR hS) hS.2.2 dX6_power_128
                · skip
                  exact absurd ((leN rfl rfl (by omega) (by omega)).mpr (by omega)) c_8
          · skip
            first | exact absurd c_5 c_3 | exact absurd c_3 c_5
        · skip
          exact absurd c_4 (by decide)
      · skip
        refine lv_iconst (v := 2) hx hb dX6_power_32 (by decide) ?_
        refine lv_goto (tgt := 37) hx hb dX6_power_33 (by decide) ?_
        refine r_put (ci := 10) (v := .int 2) (ty := .int) (C := RX6) (T := TX6) (N := 33) hx hb hts in_X6 tyX6 tyX6_ok nmX6 hown hT hR hS hW.1 rfl 32 (by decide) (hts _ q1064) (fun _ h9 => h9) rfl (by decide +kernel) rfl rfl (Nat.le_of_ble_eq_true rfl) dX6_power_37 (fun H locs hz hR hS => ?_)
        obtain ⟨M, hR, hW⟩ : ∃ M1 : Mp, Rp G M1 H ∧ TR G T ta (sF S 32 2) Y M1 := ⟨_, hR, hW.setF 32 (by decide) (by decide) 2⟩
        refine lv_aload_n hx hb dX6_power_40 rfl (lv_at hl 0 rfl) ?_
        refine va_get (D := G.1) (ci := 10) (v := .int 2) (C := RX6) (T := TX6) (N := 33) hx hb hts in_X6 hown hT.1 (hR.one hW.1) 0 rfl rfl 32 (by decide) (hts _ q1064) (fun _ h9 => h9) rfl dX6_power_41 ?_
        refine lv_if_eq (tgt := 48) hx hb dX6_power_44 (by decide) (fun c_9 => ?_) (fun c_9 => ?_)
        · skip
          exact absurd c_9 (by decide)
        · skip
          exact W.vret hx hb hr (q_ret (⟨rfl, TR.eq ((if_neg c_1).trans ((if_pos c_2).trans ((if_pos c_3).trans (rfl)))) hW⟩) hR hS) hS.2.2 dX6_power_47
    · skip
      refine lv_iconst (v := 1) hx hb dX6_power_24 (by decide) ?_
      refine lv_goto (tgt := 29) hx hb dX6_power_25 (by decide) ?_
      refine lv_icmp_ne (tgt := 36) hx hb dX6_power_29 (by decide) (fun c_10 => ?_) (fun c_10 => ?_)
      · skip
        refine lv_iconst (v := 0) hx hb dX6_power_36 (by decide) ?_
        refine r_put (ci := 10) (v := .int 0) (ty := .int) (C := RX6) (T := TX6) (N := 33) hx hb hts in_X6 tyX6 tyX6_ok nmX6 hown hT hR hS hW.1 rfl 32 (by decide) (hts _ q1064) (fun _ h9 => h9) rfl (by decide +kernel) rfl rfl (Nat.le_of_ble_eq_true rfl) dX6_power_37 (fun H locs hz hR hS => ?_)
        obtain ⟨M, hR, hW⟩ : ∃ M1 : Mp, Rp G M1 H ∧ TR G T ta (sF S 32 0) Y M1 := ⟨_, hR, hW.setF 32 (by decide) (by decide) 0⟩
        refine lv_aload_n hx hb dX6_power_40 rfl (lv_at hl 0 rfl) ?_
        refine va_get (D := G.1) (ci := 10) (v := .int 0) (C := RX6) (T := TX6) (N := 33) hx hb hts in_X6 hown hT.1 (hR.one hW.1) 0 rfl rfl 32 (by decide) (hts _ q1064) (fun _ h9 => h9) rfl dX6_power_41 ?_
        refine lv_if_eq (tgt := 48) hx hb dX6_power_44 (by decide) (fun c_11 => ?_) (fun c_11 => ?_)
        · skip
          refine lv_iload_n hx hb dX6_power_48 rfl (lv_at hl 2 rfl) ?_
          refine lv_if_ne (tgt := 67) hx hb dX6_power_49 (by decide) (fun c_12 => ?_) (fun c_12 => ?_)
          · skip
            refine lv_aload_n hx hb dX6_power_67 rfl (lv_at hl 0 rfl) ?_
            refine lv_iload_n hx hb dX6_power_68 rfl (lv_at hl 1 rfl) ?_
            refine W.eq (g2 := F0 m 69 ls [.int (nI (ix a)), .ref T]) (congrArg (fun z9 => F0 m 69 ls [.int z9, .ref T]) (ha1)) ?_
            refine g_call (va_runV (As := [.int (nI (ix a))]) (rest := []) ⟨hx, hb, hml, hown, hts⟩ (tm_seek l G M _ T ta (sF S 32 0) Y hW (ix a) (by omega)) (cwV 1 hts (lw_V q1150 q1152 qs20 q61 q1153) rfl rfl rfl (by decide +kernel) ⟨Nat.le_of_ble_eq_true rfl, Nat.le_of_ble_eq_true rfl⟩) (preV hT hR hS hW.1 rfl rfl) rfl rfl hl.1 rfl (lv_room (Nat.le_of_ble_eq_true rfl)) dX6_power_69 ⟨Nat.le_of_ble_eq_true rfl, Nat.le_of_ble_eq_true rfl⟩) hS (fun v M H locs hq hR hz hS => ?_)
            obtain ⟨rfl, hW⟩ := hq
            refine W.eq (g2 := F0 m 72 ls []) rfl ?_
            refine lv_aload_n hx hb dX6_power_72 rfl (lv_at hl 0 rfl) ?_
            refine va_get (D := G.1) (ci := 10) (v := .ref (ta 2)) (C := RX6) (T := TX6) (N := 33) hx hb hts in_X6 hown hT.1 (hR.one hW.1) 0 rfl rfl 2 (by decide) (hts _ q1034) (fun _ h9 => h9) rfl dX6_power_73 ?_
            refine lv_iload_n hx hb dX6_power_76 rfl (lv_at hl 1 rfl) ?_
            refine lv_dconst0 hx hb dX6_power_77 ?_
            refine r_dastj hx hb hT hR hS (hW.d 2 6 (by decide) rfl) (j := (ix a)) ha1 (by omega) (by decide) dX6_power_78 (fun H locs hz hR hS => ?_)
            obtain ⟨M, hR, hW⟩ : ∃ M1 : Mp, Rp G M1 H ∧ TR G T ta (sD (tSeek (sF S 32 0) (ix a)) 2 (ix a) FP.dconst0) Y M1 := ⟨_, hR, hW.setD 2 (by decide) (ix a) FP.dconst0⟩
            refine lv_aload_n hx hb dX6_power_79 rfl (lv_at hl 0 rfl) ?_
            refine va_get (D := G.1) (ci := 10) (v := .ref (ta 3)) (C := RX6) (T := TX6) (N := 33) hx hb hts in_X6 hown hT.1 (hR.one hW.1) 0 rfl rfl 3 (by decide) (hts _ q1035) (fun _ h9 => h9) rfl dX6_power_80 ?_
            refine lv_iload_n hx hb dX6_power_83 rfl (lv_at hl 1 rfl) ?_
            refine lv_dconst0 hx hb dX6_power_84 ?_
            refine r_dastj hx hb hT hR hS (hW.d 3 6 (by decide) rfl) (j := (ix a)) ha1 (by omega) (by decide) dX6_power_85 (fun H locs hz hR hS => ?_)
            obtain ⟨M, hR, hW⟩ : ∃ M1 : Mp, Rp G M1 H ∧ TR G T ta (sD (sD (tSeek (sF S 32 0) (ix a)) 2 (ix a) FP.dconst0) 3 (ix a) FP.dconst0) Y M1 := ⟨_, hR, hW.setD 3 (by decide) (ix a) FP.dconst0⟩
            refine lv_aload_n hx hb dX6_power_86 rfl (lv_at hl 0 rfl) ?_
            refine va_get (D := G.1) (ci := 10) (v := .ref (ta 7)) (C := RX6) (T := TX6) (N := 33) hx hb hts in_X6 hown hT.1 (hR.one hW.1) 0 rfl rfl 7 (by decide) (hts _ q1039) (fun _ h9 => h9) rfl dX6_power_87 ?_
            refine lv_iload_n hx hb dX6_power_90 rfl (lv_at hl 1 rfl) ?_
            refine lv_iload_n hx hb dX6_power_91 rfl (lv_at hl 1 rfl) ?_
            refine lv_iconst (v := 1) hx hb dX6_power_92 (by decide) ?_
            refine lv_iadd hx hb dX6_power_93 ?_
            refine r_iastj hx hb hT hR hS (hW.i 7 6 (by decide) (by decide) rfl) (j := (ix a)) ha1 (by omega) (by decide) dX6_power_94 (fun H locs hz hR hS => ?_)
            obtain ⟨M, hR, hW⟩ : ∃ M1 : Mp, Rp G M1 H ∧ TR G T ta (sI (sD (sD (tSeek (sF S 32 0) (ix a)) 2 (ix a) FP.dconst0) 3 (ix a) FP.dconst0) 7 (ix a) (a + 1)) Y M1 := ⟨_, hR, hW.setI 7 (by decide) (by decide) (ix a) (a + 1)⟩
            refine lv_iconst (v := 2) hx hb dX6_power_95 (by decide) ?_
            refine lv_iload_n hx hb dX6_power_96 rfl (lv_at hl 1 rfl) ?_
            refine lv_imul hx hb dX6_power_97 ?_
            refine W.eq (g2 := F0 m 98 ls (.int (nI (2 * (ix a))) :: [])) (congrArg (fun z => F0 m 98 ls (.int z :: [])) (mulN rfl ha1)) ?_
            refine lv_istore_n (lv' := [(3, .int (nI (2 * (ix a)))), (0, .ref T), (1, .int a), (2, .int on)]) hx hb dX6_power_98 rfl hl (by decide) rfl (fun ls hl => ?_)
            refine lv_iload_n hx hb dX6_power_99 rfl (lv_at hl 0 rfl) ?_
            refine lv_iconst (v := 2) hx hb dX6_power_100 (by decide) ?_
            refine lv_iload_n hx hb dX6_power_101 rfl (lv_at hl 2 rfl) ?_
            refine lv_imul hx hb dX6_power_102 ?_
            refine W.eq (g2 := F0 m 103 ls (.int (nI (2 * (ix a))) :: [.int (nI (2 * (ix a)))])) (congrArg (fun z => F0 m 103 ls (.int z :: [.int (nI (2 * (ix a)))])) (mulN rfl ha1)) ?_
            refine lv_iconst (v := 2) hx hb dX6_power_103 (by decide) ?_
            refine lv_iadd hx hb dX6_power_104 ?_
            refine W.eq (g2 := F0 m 105 ls (.int (nI (2 * (ix a) + 2)) :: [.int (nI (2 * (ix a)))])) (congrArg (fun z => F0 m 105 ls (.int z :: [.int (nI (2 * (ix a)))])) (addN rfl rfl)) ?_
            refine lv_icmp_ge (tgt := 128) hx hb dX6_power_105 (by decide) (fun c_13 => ?_) (fun c_13 => ?_)
            · skip
              exact absurd ((leN rfl rfl (by omega) (by omega)).mp c_13) (by omega)
            · skip
              refine lv_aload_n hx hb dX6_power_108 rfl (lv_at hl 1 rfl) ?_
              refine va_get (D := G.1) (ci := 10) (v := .ref (ta 5)) (C := RX6) (T := TX6) (N := 33) hx hb hts in_X6 hown hT.1 (hR.one hW.1) 0 rfl rfl 5 (by decide) (hts _ q1037) (fun _ h9 => h9) rfl dX6_power_109 ?_
              refine lv_iload_n hx hb dX6_power_112 rfl (lv_at hl 0 rfl) ?_
              refine lv_dconst0 hx hb dX6_power_113 ?_
              refine r_dastj hx hb hT hR hS (hW.d 5 12 (by decide) rfl) (j := (2 * (ix a))) rfl (by omega) (by decide) dX6_power_114 (fun H locs hz hR hS => ?_)
              obtain ⟨M, hR, hW⟩ : ∃ M1 : Mp, Rp G M1 H ∧ TR G T ta (sD (sI (sD (sD (tSeek (sF S 32 0) (ix a)) 2 (ix a) FP.dconst0) 3 (ix a) FP.dconst0) 7 (ix a) (a + 1)) 5 (2 * (ix a)) FP.dconst0) Y M1 := ⟨_, hR, hW.setD 5 (by decide) (2 * (ix a)) FP.dconst0⟩
              refine lv_aload_n hx hb dX6_power_115 rfl (lv_at hl 1 rfl) ?_
              refine va_get (D := G.1) (ci := 10) (v := .ref (ta 13)) (C := RX6) (T := TX6) (N := 33) hx hb hts in_X6 hown hT.1 (hR.one hW.1) 0 rfl rfl 13 (by decide) (hts _ q1045) (fun _ h9 => h9) rfl dX6_power_116 ?_
              refine lv_iload_n hx hb dX6_power_119 rfl (lv_at hl 0 rfl) ?_
              refine lv_iconst (v := 0) hx hb dX6_power_120 (by decide) ?_
              refine r_iastj hx hb hT hR hS (hW.i 13 12 (by decide) (by decide) rfl) (j := (2 * (ix a))) rfl (by omega) (by decide) dX6_power_121 (fun H locs hz hR hS => ?_)
              obtain ⟨M, hR, hW⟩ : ∃ M1 : Mp, Rp G M1 H ∧ TR G T ta (sI (sD (sI (sD (sD (tSeek (sF S 32 0) (ix a)) 2 (ix a) FP.dconst0) 3 (ix a) FP.dconst0) 7 (ix a) (a + 1)) 5 (2 * (ix a)) FP.dconst0) 13 (2 * (ix a)) 0) Y M1 := ⟨_, hR, hW.setI 13 (by decide) (by decide) (2 * (ix a)) 0⟩
              refine lv_iinc (v := nI (2 * (ix a) + 1)) (lv' := [(3, .int (nI (2 * (ix a) + 1))), (0, .ref T), (1, .int a), (2, .int on)]) hx hb dX6_power_122 hl (k := 0) rfl (addN rfl rfl) (by decide) rfl (fun ls hl => ?_)
              refine lv_goto (tgt := 99) hx hb dX6_power_125 (by decide) ?_
              refine lv_iload_n hx hb dX6_power_99 rfl (lv_at hl 0 rfl) ?_
              refine lv_iconst (v := 2) hx hb dX6_power_100 (by decide) ?_
              refine lv_iload_n hx hb dX6_power_101 rfl (lv_at hl 2 rfl) ?_
              refine lv_imul hx hb dX6_power_102 ?_
              refine W.eq (g2 := F0 m 103 ls (.int (nI (2 * (ix a))) :: [.int (nI (2 * (ix a) + 1))])) (congrArg (fun z => F0 m 103 ls (.int z :: [.int (nI (2 * (ix a) + 1))])) (mulN rfl ha1)) ?_
              refine lv_iconst (v := 2) hx hb dX6_power_103 (by decide) ?_
              refine lv_iadd hx hb dX6_power_104 ?_
              refine W.eq (g2 := F0 m 105 ls (.int (nI (2 * (ix a) + 2)) :: [.int (nI (2 * (ix a) + 1))])) (congrArg (fun z => F0 m 105 ls (.int z :: [.int (nI (2 * (ix a) + 1))])) (addN rfl rfl)) ?_
              refine lv_icmp_ge (tgt := 128) hx hb dX6_power_105 (by decide) (fun c_14 => ?_) (fun c_14 => ?_)
              · skip
                exact absurd ((leN rfl rfl (by omega) (by omega)).mp c_14) (by omega)
              · skip
                refine lv_aload_n hx hb dX6_power_108 rfl (lv_at hl 1 rfl) ?_
                refine va_get (D := G.1) (ci := 10) (v := .ref (ta 5)) (C := RX6) (T := TX6) (N := 33) hx hb hts in_X6 hown hT.1 (hR.one hW.1) 0 rfl rfl 5 (by decide) (hts _ q1037) (fun _ h9 => h9) rfl dX6_power_109 ?_
                refine lv_iload_n hx hb dX6_power_112 rfl (lv_at hl 0 rfl) ?_
                refine lv_dconst0 hx hb dX6_power_113 ?_
                refine r_dastj hx hb hT hR hS (hW.d 5 12 (by decide) rfl) (j := (2 * (ix a) + 1)) rfl (by omega) (by decide) dX6_power_114 (fun H locs hz hR hS => ?_)
                obtain ⟨M, hR, hW⟩ : ∃ M1 : Mp, Rp G M1 H ∧ TR G T ta (sD (sI (sD (sI (sD (sD (tSeek (sF S 32 0) (ix a)) 2 (ix a) FP.dconst0) 3 (ix a) FP.dconst0) 7 (ix a) (a + 1)) 5 (2 * (ix a)) FP.dconst0) 13 (2 * (ix a)) 0) 5 (2 * (ix a) + 1) FP.dconst0) Y M1 := ⟨_, hR, hW.setD 5 (by decide) (2 * (ix a) + 1) FP.dconst0⟩
                refine lv_aload_n hx hb dX6_power_115 rfl (lv_at hl 1 rfl) ?_
                refine va_get (D := G.1) (ci := 10) (v := .ref (ta 13)) (C := RX6) (T := TX6) (N := 33) hx hb hts in_X6 hown hT.1 (hR.one hW.1) 0 rfl rfl 13 (by decide) (hts _ q1045) (fun _ h9 => h9) rfl dX6_power_116 ?_
                refine lv_iload_n hx hb dX6_power_119 rfl (lv_at hl 0 rfl) ?_
                refine lv_iconst (v := 0) hx hb dX6_power_120 (by decide) ?_
                refine r_iastj hx hb hT hR hS (hW.i 13 12 (by decide) (by decide) rfl) (j := (2 * (ix a) + 1)) rfl (by omega) (by decide) dX6_power_121 (fun H locs hz hR hS => ?_)
                obtain ⟨M, hR, hW⟩ : ∃ M1 : Mp, Rp G M1 H ∧ TR G T ta (sI (sD (sI (sD (sI (sD (sD (tSeek (sF S 32 0) (ix a)) 2 (ix a) FP.dconst0) 3 (ix a) FP.dconst0) 7 (ix a) (a + 1)) 5 (2 * (ix a)) FP.dconst0) 13 (2 * (ix a)) 0) 5 (2 * (ix a) + 1) FP.dconst0) 13 (2 * (ix a) + 1) 0) Y M1 := ⟨_, hR, hW.setI 13 (by decide) (by decide) (2 * (ix a) + 1) 0⟩
                refine lv_iinc (v := nI (2 * (ix a) + 1 + 1)) (lv' := [(3, .int (nI (2 * (ix a) + 1 + 1))), (0, .ref T), (1, .int a), (2, .int on)]) hx hb dX6_power_122 hl (k := 0) rfl (addN rfl rfl) (by decide) rfl (fun ls hl => ?_)
                refine lv_goto (tgt := 99) hx hb dX6_power_125 (by decide) ?_
                refine lv_iload_n hx hb dX6_power_99 rfl (lv_at hl 0 rfl) ?_
                refine lv_iconst (v := 2) hx hb dX6_power_100 (by decide) ?_
                refine lv_iload_n hx hb dX6_power_101 rfl (lv_at hl 2 rfl) ?_
                refine lv_imul hx hb dX6_power_102 ?_
                refine W.eq (g2 := F0 m 103 ls (.int (nI (2 * (ix a))) :: [.int (nI (2 * (ix a) + 1 + 1))])) (congrArg (fun z => F0 m 103 ls (.int z :: [.int (nI (2 * (ix a) + 1 + 1))])) (mulN rfl ha1)) ?_
                refine lv_iconst (v := 2) hx hb dX6_power_103 (by decide) ?_
                refine lv_iadd hx hb dX6_power_104 ?_
                refine W.eq (g2 := F0 m 105 ls (.int (nI (2 * (ix a) + 2)) :: [.int (nI (2 * (ix a) + 1 + 1))])) (congrArg (fun z => F0 m 105 ls (.int z :: [.int (nI (2 * (ix a) + 1 + 1))])) (addN rfl rfl)) ?_
                refine lv_icmp_ge (tgt := 128) hx hb dX6_power_105 (by decide) (fun c_15 => ?_) (fun c_15 => ?_)
                · skip
                  exact W.vret hx hb hr (q_ret (⟨rfl, TR.eq ((if_neg c_1).trans ((if_neg c_2).trans ((if_neg c_10).trans ((if_neg c_12).trans (rfl))))) hW⟩) hR hS) hS.2.2 dX6_power_128
                · skip
                  exact absurd ((leN rfl rfl (by omega) (by omega)).mpr (by omega)) c_15
          · skip
            refine lv_aload_n hx hb dX6_power_52 rfl (lv_at hl 0 rfl) ?_
            refine va_get (D := G.1) (ci := 10) (v := .ref (ta 6)) (C := RX6) (T := TX6) (N := 33) hx hb hts in_X6 hown hT.1 (hR.one hW.1) 0 rfl rfl 6 (by decide) (hts _ q1038) (fun _ h9 => h9) rfl dX6_power_53 ?_
            refine lv_iload_n hx hb dX6_power_56 rfl (lv_at hl 1 rfl) ?_
            refine lv_iconst (v := 0) hx hb dX6_power_57 (by decide) ?_
            refine r_iastj hx hb hT hR hS (hW.i 6 6 (by decide) (by decide) rfl) (j := (ix a)) ha1 (by omega) (by decide) dX6_power_58 (fun H locs hz hR hS => ?_)
            obtain ⟨M, hR, hW⟩ : ∃ M1 : Mp, Rp G M1 H ∧ TR G T ta (sI (sF S 32 0) 6 (ix a) 0) Y M1 := ⟨_, hR, hW.setI 6 (by decide) (by decide) (ix a) 0⟩
            refine lv_aload_n hx hb dX6_power_59 rfl (lv_at hl 0 rfl) ?_
            refine va_get (D := G.1) (ci := 10) (v := .ref (ta 16)) (C := RX6) (T := TX6) (N := 33) hx hb hts in_X6 hown hT.1 (hR.one hW.1) 0 rfl rfl 16 (by decide) (hts _ q1048) (fun _ h9 => h9) rfl dX6_power_60 ?_
            refine lv_iload_n hx hb dX6_power_63 rfl (lv_at hl 1 rfl) ?_
            refine lv_iconst (v := 0) hx hb dX6_power_64 (by decide) ?_
            refine r_iastj hx hb hT hR hS (hW.i 16 6 (by decide) (by decide) rfl) (j := (ix a)) ha1 (by omega) (by decide) dX6_power_65 (fun H locs hz hR hS => ?_)
            obtain ⟨M, hR, hW⟩ : ∃ M1 : Mp, Rp G M1 H ∧ TR G T ta (sI (sI (sF S 32 0) 6 (ix a) 0) 16 (ix a) 0) Y M1 := ⟨_, hR, hW.setI 16 (by decide) (by decide) (ix a) 0⟩
            exact W.vret hx hb hr (q_ret (⟨rfl, TR.eq ((if_neg c_1).trans ((if_neg c_2).trans ((if_neg c_10).trans ((if_pos c_12).trans (rfl))))) hW⟩) hR hS) hS.2.2 dX6_power_66
        · skip
          exact absurd c_11 (by decide)
      · skip
        refine lv_iconst (v := 2) hx hb dX6_power_32 (by decide) ?_
        refine lv_goto (tgt := 37) hx hb dX6_power_33 (by decide) ?_
        refine r_put (ci := 10) (v := .int 2) (ty := .int) (C := RX6) (T := TX6) (N := 33) hx hb hts in_X6 tyX6 tyX6_ok nmX6 hown hT hR hS hW.1 rfl 32 (by decide) (hts _ q1064) (fun _ h9 => h9) rfl (by decide +kernel) rfl rfl (Nat.le_of_ble_eq_true rfl) dX6_power_37 (fun H locs hz hR hS => ?_)
        obtain ⟨M, hR, hW⟩ : ∃ M1 : Mp, Rp G M1 H ∧ TR G T ta (sF S 32 2) Y M1 := ⟨_, hR, hW.setF 32 (by decide) (by decide) 2⟩
        refine lv_aload_n hx hb dX6_power_40 rfl (lv_at hl 0 rfl) ?_
        refine va_get (D := G.1) (ci := 10) (v := .int 2) (C := RX6) (T := TX6) (N := 33) hx hb hts in_X6 hown hT.1 (hR.one hW.1) 0 rfl rfl 32 (by decide) (hts _ q1064) (fun _ h9 => h9) rfl dX6_power_41 ?_
        refine lv_if_eq (tgt := 48) hx hb dX6_power_44 (by decide) (fun c_16 => ?_) (fun c_16 => ?_)
        · skip
          exact absurd c_16 (by decide)
        · skip
          exact W.vret hx hb hr (q_ret (⟨rfl, TR.eq ((if_neg c_1).trans ((if_neg c_2).trans ((if_pos c_10).trans (rfl)))) hW⟩) hR hS) hS.2.2 dX6_power_47
  · skip
    have c_1 := b_n0 c_1
    refine lv_iconst (v := 1) hx hb dX6_power_10 (by decide) ?_
    refine lv_goto (tgt := 37) hx hb dX6_power_11 (by decide) ?_
    refine r_put (ci := 10) (v := .int 1) (ty := .int) (C := RX6) (T := TX6) (N := 33) hx hb hts in_X6 tyX6 tyX6_ok nmX6 hown hT hR hS hW.1 rfl 32 (by decide) (hts _ q1064) (fun _ h9 => h9) rfl (by decide +kernel) rfl rfl (Nat.le_of_ble_eq_true rfl) dX6_power_37 (fun H locs hz hR hS => ?_)
    obtain ⟨M, hR, hW⟩ : ∃ M1 : Mp, Rp G M1 H ∧ TR G T ta (sF S 32 1) Y M1 := ⟨_, hR, hW.setF 32 (by decide) (by decide) 1⟩
    refine lv_aload_n hx hb dX6_power_40 rfl (lv_at hl 0 rfl) ?_
    refine va_get (D := G.1) (ci := 10) (v := .int 1) (C := RX6) (T := TX6) (N := 33) hx hb hts in_X6 hown hT.1 (hR.one hW.1) 0 rfl rfl 32 (by decide) (hts _ q1064) (fun _ h9 => h9) rfl dX6_power_41 ?_
    refine lv_if_eq (tgt := 48) hx hb dX6_power_44 (by decide) (fun c_17 => ?_) (fun c_17 => ?_)
    · skip
      exact absurd c_17 (by decide)
    · skip
      exact W.vret hx hb hr (q_ret (⟨rfl, TR.eq ((if_pos c_1).trans (rfl)) hW⟩) hR hS) hS.2.2 dX6_power_47
set_option maxHeartbeats 4000000 in
set_option maxRecDepth 100000 in
theorem tm_flow (l : Launch) (G : Gw) (M : Mp) (sz : Nat) (T : Nat) (ta : Nat → Nat) (S : Tw) (Y : Mp) (hW : TR G T ta S Y M) (a f pr : Int32) (r1 : UInt64) : Ct l yX6_flow cX6_flow 6 none 1 0 0 [.ref T, .int a, .int f, .int pr, .double r1] G M sz (fun v M1 _ => v = none ∧ TR G T ta (tFlow S a f pr r1) Y M1) := by
  refine Met.ofW (cc := cX6_flow) (maxL := 6) (ret := none) (by decide) rfl ?_
  intro p e s m args below meth c s₁ B hml hv
  obtain ⟨rfl, hT, hR, hsz⟩ := hv
  have hx := B.exec
  have hb := B.bytes
  have hr := B.returns
  have hts := atoms_spec (ws := ws_ yX6_flow cX6_flow 6 none) B.pre
  have hts : ∀ w ∈ lw_all, w.before _ s = true := fun w h => hts w (List.mem_cons_of_mem _ h)
  have hown : s.vm.findClass RX6 = some m.cls := findClass_of_methodNamed B.named
  have hlocks := B.notSynchronized
  have hS : va_S (Af G) s.heap s.heap [] := va_S.rf
  have hl := lv_entry ([.ref T, .int a, .int f, .int pr, .double r1]) (n := 6) (Nat.le_of_ble_eq_true rfl)
  rw [lg_entry_eq]
  generalize (lg_sl ([.ref T, .int a, .int f, .int pr, .double r1]) ++ List.replicate (6 - (lg_sl ([.ref T, .int a, .int f, .int pr, .double r1])).length) Slot.unset).toArray = ls at hl ⊢
  have hl : lv_has ls 6 [(0, .ref T), (1, .int a), (2, .int f), (3, .int pr), (4, .double r1)] := hl
  refine lv_aload_n hx hb dX6_flow_0 rfl (lv_at hl 0 rfl) ?_
  refine lv_aload_n hx hb dX6_flow_1 rfl (lv_at hl 0 rfl) ?_
  refine lv_iload_n hx hb dX6_flow_2 rfl (lv_at hl 1 rfl) ?_
  refine lv_iconst (v := 5) hx hb dX6_flow_3 (by decide) ?_
  refine g_pure (va_runV (As := [.int a, .int 5]) (rest := [.ref T]) ⟨hx, hb, hml, hown, hts⟩ (tm_out l G M _ T ta S Y hW a 5) (cwV 2 hts (lw_V q1141 q1143 qs19 q61 q1144) rfl rfl rfl (by decide +kernel) ⟨Nat.le_of_ble_eq_true rfl, Nat.le_of_ble_eq_true rfl⟩) (preV hT hR hS hW.1 rfl rfl) rfl rfl hl.1 rfl (lv_room (Nat.le_of_ble_eq_true rfl)) dX6_flow_4 ⟨Nat.le_of_ble_eq_true rfl, Nat.le_of_ble_eq_true rfl⟩) ?_
  refine W.eq (g2 := F0 m 7 ls [.int (bI (outP a 5)), .ref T]) rfl ?_
  refine lv_if_ne (tgt := 44) hx hb dX6_flow_7 (by decide) (fun c_1 => ?_) (fun c_1 => ?_)
  · skip
    have c_1 := b_n0 c_1
    refine lv_iconst (v := 1) hx hb dX6_flow_44 (by decide) ?_
    refine lv_goto (tgt := 49) hx hb dX6_flow_45 (by decide) ?_
    refine r_put (ci := 10) (v := .int 1) (ty := .int) (C := RX6) (T := TX6) (N := 33) hx hb hts in_X6 tyX6 tyX6_ok nmX6 hown hT hR hS hW.1 rfl 32 (by decide) (hts _ q1064) (fun _ h9 => h9) rfl (by decide +kernel) rfl rfl (Nat.le_of_ble_eq_true rfl) dX6_flow_49 (fun H locs hz hR hS => ?_)
    obtain ⟨M, hR, hW⟩ : ∃ M1 : Mp, Rp G M1 H ∧ TR G T ta (sF S 32 1) Y M1 := ⟨_, hR, hW.setF 32 (by decide) (by decide) 1⟩
    refine lv_aload_n hx hb dX6_flow_52 rfl (lv_at hl 0 rfl) ?_
    refine va_get (D := G.1) (ci := 10) (v := .int 1) (C := RX6) (T := TX6) (N := 33) hx hb hts in_X6 hown hT.1 (hR.one hW.1) 0 rfl rfl 32 (by decide) (hts _ q1064) (fun _ h9 => h9) rfl dX6_flow_53 ?_
    refine lv_if_eq (tgt := 60) hx hb dX6_flow_56 (by decide) (fun c_2 => ?_) (fun c_2 => ?_)
    · skip
      exact absurd c_2 (by decide)
    · skip
      exact W.vret hx hb hr (q_ret (⟨rfl, TR.eq ((if_pos c_1).trans (rfl)) hW⟩) hR hS) hS.2.2 dX6_flow_59
  · skip
    have c_1 := b_0 c_1
    have ha : nb a 5 := outP_nb 5 (by decide) c_1
    have ha1 := ha.1
    have ha2 := ha.2
    refine lv_aload_n hx hb dX6_flow_10 rfl (lv_at hl 0 rfl) ?_
    refine lv_iload_n hx hb dX6_flow_11 rfl (lv_at hl 2 rfl) ?_
    refine lv_iconst (v := 1) hx hb dX6_flow_12 (by decide) ?_
    refine g_pure (va_runV (As := [.int f, .int 1]) (rest := [.ref T]) ⟨hx, hb, hml, hown, hts⟩ (tm_out l G M _ T ta S Y hW f 1) (cwV 2 hts (lw_V q1141 q1143 qs19 q61 q1144) rfl rfl rfl (by decide +kernel) ⟨Nat.le_of_ble_eq_true rfl, Nat.le_of_ble_eq_true rfl⟩) (preV hT hR hS hW.1 rfl rfl) rfl rfl hl.1 rfl (lv_room (Nat.le_of_ble_eq_true rfl)) dX6_flow_13 ⟨Nat.le_of_ble_eq_true rfl, Nat.le_of_ble_eq_true rfl⟩) ?_
    refine W.eq (g2 := F0 m 16 ls [.int (bI (outP f 1)), .ref T]) rfl ?_
    refine lv_if_ne (tgt := 44) hx hb dX6_flow_16 (by decide) (fun c_3 => ?_) (fun c_3 => ?_)
    · skip
      have c_3 := b_n0 c_3
      refine lv_iconst (v := 1) hx hb dX6_flow_44 (by decide) ?_
      refine lv_goto (tgt := 49) hx hb dX6_flow_45 (by decide) ?_
      refine r_put (ci := 10) (v := .int 1) (ty := .int) (C := RX6) (T := TX6) (N := 33) hx hb hts in_X6 tyX6 tyX6_ok nmX6 hown hT hR hS hW.1 rfl 32 (by decide) (hts _ q1064) (fun _ h9 => h9) rfl (by decide +kernel) rfl rfl (Nat.le_of_ble_eq_true rfl) dX6_flow_49 (fun H locs hz hR hS => ?_)
      obtain ⟨M, hR, hW⟩ : ∃ M1 : Mp, Rp G M1 H ∧ TR G T ta (sF S 32 1) Y M1 := ⟨_, hR, hW.setF 32 (by decide) (by decide) 1⟩
      refine lv_aload_n hx hb dX6_flow_52 rfl (lv_at hl 0 rfl) ?_
      refine va_get (D := G.1) (ci := 10) (v := .int 1) (C := RX6) (T := TX6) (N := 33) hx hb hts in_X6 hown hT.1 (hR.one hW.1) 0 rfl rfl 32 (by decide) (hts _ q1064) (fun _ h9 => h9) rfl dX6_flow_53 ?_
      refine lv_if_eq (tgt := 60) hx hb dX6_flow_56 (by decide) (fun c_4 => ?_) (fun c_4 => ?_)
      · skip
        exact absurd c_4 (by decide)
      · skip
        exact W.vret hx hb hr (q_ret (⟨rfl, TR.eq ((if_neg c_1).trans ((if_pos c_3).trans (rfl))) hW⟩) hR hS) hS.2.2 dX6_flow_59
    · skip
      have c_3 := b_0 c_3
      have hf : nb f 1 := outP_nb 1 (by decide) c_3
      have hf1 := hf.1
      have hf2 := hf.2
      refine lv_aload_n hx hb dX6_flow_19 rfl (lv_at hl 0 rfl) ?_
      refine lv_iload_n hx hb dX6_flow_20 rfl (lv_at hl 3 rfl) ?_
      refine lv_iconst (v := 3) hx hb dX6_flow_21 (by decide) ?_
      refine g_pure (va_runV (As := [.int pr, .int 3]) (rest := [.ref T]) ⟨hx, hb, hml, hown, hts⟩ (tm_out l G M _ T ta S Y hW pr 3) (cwV 2 hts (lw_V q1141 q1143 qs19 q61 q1144) rfl rfl rfl (by decide +kernel) ⟨Nat.le_of_ble_eq_true rfl, Nat.le_of_ble_eq_true rfl⟩) (preV hT hR hS hW.1 rfl rfl) rfl rfl hl.1 rfl (lv_room (Nat.le_of_ble_eq_true rfl)) dX6_flow_22 ⟨Nat.le_of_ble_eq_true rfl, Nat.le_of_ble_eq_true rfl⟩) ?_
      refine W.eq (g2 := F0 m 25 ls [.int (bI (outP pr 3)), .ref T]) rfl ?_
      refine lv_if_ne (tgt := 44) hx hb dX6_flow_25 (by decide) (fun c_5 => ?_) (fun c_5 => ?_)
      · skip
        have c_5 := b_n0 c_5
        refine lv_iconst (v := 1) hx hb dX6_flow_44 (by decide) ?_
        refine lv_goto (tgt := 49) hx hb dX6_flow_45 (by decide) ?_
        refine r_put (ci := 10) (v := .int 1) (ty := .int) (C := RX6) (T := TX6) (N := 33) hx hb hts in_X6 tyX6 tyX6_ok nmX6 hown hT hR hS hW.1 rfl 32 (by decide) (hts _ q1064) (fun _ h9 => h9) rfl (by decide +kernel) rfl rfl (Nat.le_of_ble_eq_true rfl) dX6_flow_49 (fun H locs hz hR hS => ?_)
        obtain ⟨M, hR, hW⟩ : ∃ M1 : Mp, Rp G M1 H ∧ TR G T ta (sF S 32 1) Y M1 := ⟨_, hR, hW.setF 32 (by decide) (by decide) 1⟩
        refine lv_aload_n hx hb dX6_flow_52 rfl (lv_at hl 0 rfl) ?_
        refine va_get (D := G.1) (ci := 10) (v := .int 1) (C := RX6) (T := TX6) (N := 33) hx hb hts in_X6 hown hT.1 (hR.one hW.1) 0 rfl rfl 32 (by decide) (hts _ q1064) (fun _ h9 => h9) rfl dX6_flow_53 ?_
        refine lv_if_eq (tgt := 60) hx hb dX6_flow_56 (by decide) (fun c_6 => ?_) (fun c_6 => ?_)
        · skip
          exact absurd c_6 (by decide)
        · skip
          exact W.vret hx hb hr (q_ret (⟨rfl, TR.eq ((if_neg c_1).trans ((if_neg c_3).trans ((if_pos c_5).trans (rfl)))) hW⟩) hR hS) hS.2.2 dX6_flow_59
      · skip
        have c_5 := b_0 c_5
        refine lv_dload hx hb dX6_flow_28 (lv_at hl 4 rfl) ?_
        refine lv_dconst0 hx hb dX6_flow_30 ?_
        refine lv_dcmp hx hb dX6_flow_31 ?_
        refine lv_if_lt (tgt := 44) hx hb dX6_flow_32 (by decide) (fun c_7 => ?_) (fun c_7 => ?_)
        · skip
          refine lv_iconst (v := 1) hx hb dX6_flow_44 (by decide) ?_
          refine lv_goto (tgt := 49) hx hb dX6_flow_45 (by decide) ?_
          refine r_put (ci := 10) (v := .int 1) (ty := .int) (C := RX6) (T := TX6) (N := 33) hx hb hts in_X6 tyX6 tyX6_ok nmX6 hown hT hR hS hW.1 rfl 32 (by decide) (hts _ q1064) (fun _ h9 => h9) rfl (by decide +kernel) rfl rfl (Nat.le_of_ble_eq_true rfl) dX6_flow_49 (fun H locs hz hR hS => ?_)
          obtain ⟨M, hR, hW⟩ : ∃ M1 : Mp, Rp G M1 H ∧ TR G T ta (sF S 32 1) Y M1 := ⟨_, hR, hW.setF 32 (by decide) (by decide) 1⟩
          refine lv_aload_n hx hb dX6_flow_52 rfl (lv_at hl 0 rfl) ?_
          refine va_get (D := G.1) (ci := 10) (v := .int 1) (C := RX6) (T := TX6) (N := 33) hx hb hts in_X6 hown hT.1 (hR.one hW.1) 0 rfl rfl 32 (by decide) (hts _ q1064) (fun _ h9 => h9) rfl dX6_flow_53 ?_
          refine lv_if_eq (tgt := 60) hx hb dX6_flow_56 (by decide) (fun c_8 => ?_) (fun c_8 => ?_)
          · skip
            exact absurd c_8 (by decide)
          · skip
            exact W.vret hx hb hr (q_ret (⟨rfl, TR.eq ((if_neg c_1).trans ((if_neg c_3).trans ((if_neg c_5).trans ((if_pos c_7).trans (rfl))))) hW⟩) hR hS) hS.2.2 dX6_flow_59
        · skip
          refine lv_dload hx hb dX6_flow_35 (lv_at hl 4 rfl) ?_
          refine lv_ldc2d (v := c8) hx hb hown (hts _ q1158) dX6_flow_37 ?_
          refine lv_dcmp hx hb dX6_flow_40 ?_
          refine lv_if_le (tgt := 48) hx hb dX6_flow_41 (by decide) (fun c_9 => ?_) (fun c_9 => ?_)
          · skip
            refine lv_iconst (v := 0) hx hb dX6_flow_48 (by decide) ?_
            refine r_put (ci := 10) (v := .int 0) (ty := .int) (C := RX6) (T := TX6) (N := 33) hx hb hts in_X6 tyX6 tyX6_ok nmX6 hown hT hR hS hW.1 rfl 32 (by decide) (hts _ q1064) (fun _ h9 => h9) rfl (by decide +kernel) rfl rfl (Nat.le_of_ble_eq_true rfl) dX6_flow_49 (fun H locs hz hR hS => ?_)
            obtain ⟨M, hR, hW⟩ : ∃ M1 : Mp, Rp G M1 H ∧ TR G T ta (sF S 32 0) Y M1 := ⟨_, hR, hW.setF 32 (by decide) (by decide) 0⟩
            refine lv_aload_n hx hb dX6_flow_52 rfl (lv_at hl 0 rfl) ?_
            refine va_get (D := G.1) (ci := 10) (v := .int 0) (C := RX6) (T := TX6) (N := 33) hx hb hts in_X6 hown hT.1 (hR.one hW.1) 0 rfl rfl 32 (by decide) (hts _ q1064) (fun _ h9 => h9) rfl dX6_flow_53 ?_
            refine lv_if_eq (tgt := 60) hx hb dX6_flow_56 (by decide) (fun c_10 => ?_) (fun c_10 => ?_)
            · skip
              refine lv_aload_n hx hb dX6_flow_60 rfl (lv_at hl 0 rfl) ?_
              refine va_get (D := G.1) (ci := 10) (v := .ref (ta 12)) (C := RX6) (T := TX6) (N := 33) hx hb hts in_X6 hown hT.1 (hR.one hW.1) 0 rfl rfl 12 (by decide) (hts _ q1044) (fun _ h9 => h9) rfl dX6_flow_61 ?_
              refine lv_iconst (v := 2) hx hb dX6_flow_64 (by decide) ?_
              refine lv_iload_n hx hb dX6_flow_65 rfl (lv_at hl 1 rfl) ?_
              refine lv_imul hx hb dX6_flow_66 ?_
              refine W.eq (g2 := F0 m 67 ls (.int (nI (2 * (ix a))) :: [.ref (ta 12)])) (congrArg (fun z => F0 m 67 ls (.int z :: [.ref (ta 12)])) (mulN rfl ha1)) ?_
              refine lv_iload_n hx hb dX6_flow_67 rfl (lv_at hl 2 rfl) ?_
              refine lv_iadd hx hb dX6_flow_68 ?_
              refine W.eq (g2 := F0 m 69 ls (.int (nI (2 * (ix a) + (ix f))) :: [.ref (ta 12)])) (congrArg (fun z => F0 m 69 ls (.int z :: [.ref (ta 12)])) (addN rfl hf1)) ?_
              refine lv_iload_n hx hb dX6_flow_69 rfl (lv_at hl 3 rfl) ?_
              refine r_iastj hx hb hT hR hS (hW.i 12 12 (by decide) (by decide) rfl) (j := (2 * (ix a) + (ix f))) rfl (by omega) (by decide) dX6_flow_70 (fun H locs hz hR hS => ?_)
              obtain ⟨M, hR, hW⟩ : ∃ M1 : Mp, Rp G M1 H ∧ TR G T ta (sI (sF S 32 0) 12 (2 * (ix a) + (ix f)) pr) Y M1 := ⟨_, hR, hW.setI 12 (by decide) (by decide) (2 * (ix a) + (ix f)) pr⟩
              refine lv_aload_n hx hb dX6_flow_71 rfl (lv_at hl 0 rfl) ?_
              refine va_get (D := G.1) (ci := 10) (v := .ref (ta 4)) (C := RX6) (T := TX6) (N := 33) hx hb hts in_X6 hown hT.1 (hR.one hW.1) 0 rfl rfl 4 (by decide) (hts _ q1036) (fun _ h9 => h9) rfl dX6_flow_72 ?_
              refine lv_iconst (v := 2) hx hb dX6_flow_75 (by decide) ?_
              refine lv_iload_n hx hb dX6_flow_76 rfl (lv_at hl 1 rfl) ?_
              refine lv_imul hx hb dX6_flow_77 ?_
              refine W.eq (g2 := F0 m 78 ls (.int (nI (2 * (ix a))) :: [.ref (ta 4)])) (congrArg (fun z => F0 m 78 ls (.int z :: [.ref (ta 4)])) (mulN rfl ha1)) ?_
              refine lv_iload_n hx hb dX6_flow_78 rfl (lv_at hl 2 rfl) ?_
              refine lv_iadd hx hb dX6_flow_79 ?_
              refine W.eq (g2 := F0 m 80 ls (.int (nI (2 * (ix a) + (ix f))) :: [.ref (ta 4)])) (congrArg (fun z => F0 m 80 ls (.int z :: [.ref (ta 4)])) (addN rfl hf1)) ?_
              refine lv_dload hx hb dX6_flow_80 (lv_at hl 4 rfl) ?_
              refine r_dastj hx hb hT hR hS (hW.d 4 12 (by decide) rfl) (j := (2 * (ix a) + (ix f))) rfl (by omega) (by decide) dX6_flow_82 (fun H locs hz hR hS => ?_)
              obtain ⟨M, hR, hW⟩ : ∃ M1 : Mp, Rp G M1 H ∧ TR G T ta (sD (sI (sF S 32 0) 12 (2 * (ix a) + (ix f)) pr) 4 (2 * (ix a) + (ix f)) r1) Y M1 := ⟨_, hR, hW.setD 4 (by decide) (2 * (ix a) + (ix f)) r1⟩
              exact W.vret hx hb hr (q_ret (⟨rfl, TR.eq ((if_neg c_1).trans ((if_neg c_3).trans ((if_neg c_5).trans ((if_neg c_7).trans ((if_pos c_9).trans (rfl)))))) hW⟩) hR hS) hS.2.2 dX6_flow_83
            · skip
              exact absurd c_10 (by decide)
          · skip
            refine lv_iconst (v := 1) hx hb dX6_flow_44 (by decide) ?_
            refine lv_goto (tgt := 49) hx hb dX6_flow_45 (by decide) ?_
            refine r_put (ci := 10) (v := .int 1) (ty := .int) (C := RX6) (T := TX6) (N := 33) hx hb hts in_X6 tyX6 tyX6_ok nmX6 hown hT hR hS hW.1 rfl 32 (by decide) (hts _ q1064) (fun _ h9 => h9) rfl (by decide +kernel) rfl rfl (Nat.le_of_ble_eq_true rfl) dX6_flow_49 (fun H locs hz hR hS => ?_)
            obtain ⟨M, hR, hW⟩ : ∃ M1 : Mp, Rp G M1 H ∧ TR G T ta (sF S 32 1) Y M1 := ⟨_, hR, hW.setF 32 (by decide) (by decide) 1⟩
            refine lv_aload_n hx hb dX6_flow_52 rfl (lv_at hl 0 rfl) ?_
            refine va_get (D := G.1) (ci := 10) (v := .int 1) (C := RX6) (T := TX6) (N := 33) hx hb hts in_X6 hown hT.1 (hR.one hW.1) 0 rfl rfl 32 (by decide) (hts _ q1064) (fun _ h9 => h9) rfl dX6_flow_53 ?_
            refine lv_if_eq (tgt := 60) hx hb dX6_flow_56 (by decide) (fun c_11 => ?_) (fun c_11 => ?_)
            · skip
              exact absurd c_11 (by decide)
            · skip
              exact W.vret hx hb hr (q_ret (⟨rfl, TR.eq ((if_neg c_1).trans ((if_neg c_3).trans ((if_neg c_5).trans ((if_neg c_7).trans ((if_neg c_9).trans (rfl)))))) hW⟩) hR hS) hS.2.2 dX6_flow_59
set_option maxHeartbeats 4000000 in
set_option maxRecDepth 100000 in
theorem tm_packet (l : Launch) (G : Gw) (M : Mp) (sz : Nat) (T : Nat) (ta : Nat → Nat) (S : Tw) (Y : Mp) (hW : TR G T ta S Y M) (a f z v1 : Int32) (hpk : ∀ k, k < 12 → nb (gI S 13 k) 4) : Ct l yX6_packet cX6_packet 6 (some .int) 1 0 0 [.ref T, .int a, .int f, .int z, .int v1] G M sz (fun v M1 _ => v = some (.int (tPacket S a f z v1).2) ∧ TR G T ta ((tPacket S a f z v1).1) Y M1) := by
  refine Met.ofW (cc := cX6_packet) (maxL := 6) (ret := (some .int)) (by decide) rfl ?_
  intro p e s m args below meth c s₁ B hml hv
  obtain ⟨rfl, hT, hR, hsz⟩ := hv
  have hx := B.exec
  have hb := B.bytes
  have hr := B.returns
  have hts := atoms_spec (ws := ws_ yX6_packet cX6_packet 6 (some .int)) B.pre
  have hts : ∀ w ∈ lw_all, w.before _ s = true := fun w h => hts w (List.mem_cons_of_mem _ h)
  have hown : s.vm.findClass RX6 = some m.cls := findClass_of_methodNamed B.named
  have hlocks := B.notSynchronized
  have hS : va_S (Af G) s.heap s.heap [] := va_S.rf
  have hl := lv_entry ([.ref T, .int a, .int f, .int z, .int v1]) (n := 6) (Nat.le_of_ble_eq_true rfl)
  rw [lg_entry_eq]
  generalize (lg_sl ([.ref T, .int a, .int f, .int z, .int v1]) ++ List.replicate (6 - (lg_sl ([.ref T, .int a, .int f, .int z, .int v1])).length) Slot.unset).toArray = ls at hl ⊢
  have hl : lv_has ls 6 [(0, .ref T), (1, .int a), (2, .int f), (3, .int z), (4, .int v1)] := hl
  refine lv_aload_n hx hb dX6_packet_0 rfl (lv_at hl 0 rfl) ?_
  refine lv_aload_n hx hb dX6_packet_1 rfl (lv_at hl 0 rfl) ?_
  refine lv_iload_n hx hb dX6_packet_2 rfl (lv_at hl 1 rfl) ?_
  refine lv_iconst (v := 5) hx hb dX6_packet_3 (by decide) ?_
  refine g_pure (va_runV (As := [.int a, .int 5]) (rest := [.ref T]) ⟨hx, hb, hml, hown, hts⟩ (tm_out l G M _ T ta S Y hW a 5) (cwV 2 hts (lw_V q1141 q1143 qs19 q61 q1144) rfl rfl rfl (by decide +kernel) ⟨Nat.le_of_ble_eq_true rfl, Nat.le_of_ble_eq_true rfl⟩) (preV hT hR hS hW.1 rfl rfl) rfl rfl hl.1 rfl (lv_room (Nat.le_of_ble_eq_true rfl)) dX6_packet_4 ⟨Nat.le_of_ble_eq_true rfl, Nat.le_of_ble_eq_true rfl⟩) ?_
  refine W.eq (g2 := F0 m 7 ls [.int (bI (outP a 5)), .ref T]) rfl ?_
  refine lv_if_ne (tgt := 29) hx hb dX6_packet_7 (by decide) (fun c_1 => ?_) (fun c_1 => ?_)
  · skip
    have c_1 := b_n0 c_1
    refine lv_iconst (v := 1) hx hb dX6_packet_29 (by decide) ?_
    refine lv_goto (tgt := 65) hx hb dX6_packet_30 (by decide) ?_
    refine r_put (ci := 10) (v := .int 1) (ty := .int) (C := RX6) (T := TX6) (N := 33) hx hb hts in_X6 tyX6 tyX6_ok nmX6 hown hT hR hS hW.1 rfl 32 (by decide) (hts _ q1064) (fun _ h9 => h9) rfl (by decide +kernel) rfl rfl (Nat.le_of_ble_eq_true rfl) dX6_packet_65 (fun H locs hz hR hS => ?_)
    obtain ⟨M, hR, hW⟩ : ∃ M1 : Mp, Rp G M1 H ∧ TR G T ta (sF S 32 1) Y M1 := ⟨_, hR, hW.setF 32 (by decide) (by decide) 1⟩
    refine lv_aload_n hx hb dX6_packet_68 rfl (lv_at hl 0 rfl) ?_
    refine va_get (D := G.1) (ci := 10) (v := .int 1) (C := RX6) (T := TX6) (N := 33) hx hb hts in_X6 hown hT.1 (hR.one hW.1) 0 rfl rfl 32 (by decide) (hts _ q1064) (fun _ h9 => h9) rfl dX6_packet_69 ?_
    refine lv_if_eq (tgt := 77) hx hb dX6_packet_72 (by decide) (fun c_2 => ?_) (fun c_2 => ?_)
    · skip
      exact absurd c_2 (by decide)
    · skip
      refine lv_iconst (v := 0) hx hb dX6_packet_75 (by decide) ?_
      exact W.iret hx hb hr (q_ret (⟨congrArg (fun z9 : Tw × Int32 => some (Value.int z9.2)) ((if_pos c_1).trans (rfl) : tPacket S a f z v1 = ((sF S 32 1), 0)).symm, TR.eq (congrArg Prod.fst ((if_pos c_1).trans (rfl) : tPacket S a f z v1 = ((sF S 32 1), 0))) hW⟩) hR hS) hS.2.2 dX6_packet_76
  · skip
    have c_1 := b_0 c_1
    have ha : nb a 5 := outP_nb 5 (by decide) c_1
    have ha1 := ha.1
    have ha2 := ha.2
    refine lv_aload_n hx hb dX6_packet_10 rfl (lv_at hl 0 rfl) ?_
    refine lv_iload_n hx hb dX6_packet_11 rfl (lv_at hl 2 rfl) ?_
    refine lv_iconst (v := 1) hx hb dX6_packet_12 (by decide) ?_
    refine g_pure (va_runV (As := [.int f, .int 1]) (rest := [.ref T]) ⟨hx, hb, hml, hown, hts⟩ (tm_out l G M _ T ta S Y hW f 1) (cwV 2 hts (lw_V q1141 q1143 qs19 q61 q1144) rfl rfl rfl (by decide +kernel) ⟨Nat.le_of_ble_eq_true rfl, Nat.le_of_ble_eq_true rfl⟩) (preV hT hR hS hW.1 rfl rfl) rfl rfl hl.1 rfl (lv_room (Nat.le_of_ble_eq_true rfl)) dX6_packet_13 ⟨Nat.le_of_ble_eq_true rfl, Nat.le_of_ble_eq_true rfl⟩) ?_
    refine W.eq (g2 := F0 m 16 ls [.int (bI (outP f 1)), .ref T]) rfl ?_
    refine lv_if_ne (tgt := 29) hx hb dX6_packet_16 (by decide) (fun c_3 => ?_) (fun c_3 => ?_)
    · skip
      have c_3 := b_n0 c_3
      refine lv_iconst (v := 1) hx hb dX6_packet_29 (by decide) ?_
      refine lv_goto (tgt := 65) hx hb dX6_packet_30 (by decide) ?_
      refine r_put (ci := 10) (v := .int 1) (ty := .int) (C := RX6) (T := TX6) (N := 33) hx hb hts in_X6 tyX6 tyX6_ok nmX6 hown hT hR hS hW.1 rfl 32 (by decide) (hts _ q1064) (fun _ h9 => h9) rfl (by decide +kernel) rfl rfl (Nat.le_of_ble_eq_true rfl) dX6_packet_65 (fun H locs hz hR hS => ?_)
      obtain ⟨M, hR, hW⟩ : ∃ M1 : Mp, Rp G M1 H ∧ TR G T ta (sF S 32 1) Y M1 := ⟨_, hR, hW.setF 32 (by decide) (by decide) 1⟩
      refine lv_aload_n hx hb dX6_packet_68 rfl (lv_at hl 0 rfl) ?_
      refine va_get (D := G.1) (ci := 10) (v := .int 1) (C := RX6) (T := TX6) (N := 33) hx hb hts in_X6 hown hT.1 (hR.one hW.1) 0 rfl rfl 32 (by decide) (hts _ q1064) (fun _ h9 => h9) rfl dX6_packet_69 ?_
      refine lv_if_eq (tgt := 77) hx hb dX6_packet_72 (by decide) (fun c_4 => ?_) (fun c_4 => ?_)
      · skip
        exact absurd c_4 (by decide)
      · skip
        refine lv_iconst (v := 0) hx hb dX6_packet_75 (by decide) ?_
        exact W.iret hx hb hr (q_ret (⟨congrArg (fun z9 : Tw × Int32 => some (Value.int z9.2)) ((if_neg c_1).trans ((if_pos c_3).trans (rfl)) : tPacket S a f z v1 = ((sF S 32 1), 0)).symm, TR.eq (congrArg Prod.fst ((if_neg c_1).trans ((if_pos c_3).trans (rfl)) : tPacket S a f z v1 = ((sF S 32 1), 0))) hW⟩) hR hS) hS.2.2 dX6_packet_76
    · skip
      have c_3 := b_0 c_3
      have hf : nb f 1 := outP_nb 1 (by decide) c_3
      have hf1 := hf.1
      have hf2 := hf.2
      refine lv_iload_n hx hb dX6_packet_19 rfl (lv_at hl 3 rfl) ?_
      refine lv_iconst (v := 1) hx hb dX6_packet_20 (by decide) ?_
      refine lv_icmp_lt (tgt := 29) hx hb dX6_packet_21 (by decide) (fun c_5 => ?_) (fun c_5 => ?_)
      · skip
        refine lv_iconst (v := 1) hx hb dX6_packet_29 (by decide) ?_
        refine lv_goto (tgt := 65) hx hb dX6_packet_30 (by decide) ?_
        refine r_put (ci := 10) (v := .int 1) (ty := .int) (C := RX6) (T := TX6) (N := 33) hx hb hts in_X6 tyX6 tyX6_ok nmX6 hown hT hR hS hW.1 rfl 32 (by decide) (hts _ q1064) (fun _ h9 => h9) rfl (by decide +kernel) rfl rfl (Nat.le_of_ble_eq_true rfl) dX6_packet_65 (fun H locs hz hR hS => ?_)
        obtain ⟨M, hR, hW⟩ : ∃ M1 : Mp, Rp G M1 H ∧ TR G T ta (sF S 32 1) Y M1 := ⟨_, hR, hW.setF 32 (by decide) (by decide) 1⟩
        refine lv_aload_n hx hb dX6_packet_68 rfl (lv_at hl 0 rfl) ?_
        refine va_get (D := G.1) (ci := 10) (v := .int 1) (C := RX6) (T := TX6) (N := 33) hx hb hts in_X6 hown hT.1 (hR.one hW.1) 0 rfl rfl 32 (by decide) (hts _ q1064) (fun _ h9 => h9) rfl dX6_packet_69 ?_
        refine lv_if_eq (tgt := 77) hx hb dX6_packet_72 (by decide) (fun c_6 => ?_) (fun c_6 => ?_)
        · skip
          exact absurd c_6 (by decide)
        · skip
          refine lv_iconst (v := 0) hx hb dX6_packet_75 (by decide) ?_
          exact W.iret hx hb hr (q_ret (⟨congrArg (fun z9 : Tw × Int32 => some (Value.int z9.2)) ((if_neg c_1).trans ((if_neg c_3).trans ((if_pos c_5).trans (rfl))) : tPacket S a f z v1 = ((sF S 32 1), 0)).symm, TR.eq (congrArg Prod.fst ((if_neg c_1).trans ((if_neg c_3).trans ((if_pos c_5).trans (rfl))) : tPacket S a f z v1 = ((sF S 32 1), 0))) hW⟩) hR hS) hS.2.2 dX6_packet_76
      · skip
        refine lv_iload_n hx hb dX6_packet_24 rfl (lv_at hl 3 rfl) ?_
        refine lv_iconst (v := 4) hx hb dX6_packet_25 (by decide) ?_
        refine lv_icmp_le (tgt := 33) hx hb dX6_packet_26 (by decide) (fun c_7 => ?_) (fun c_7 => ?_)
        · skip
          refine lv_aload_n hx hb dX6_packet_33 rfl (lv_at hl 0 rfl) ?_
          refine va_get (D := G.1) (ci := 10) (v := .ref (ta 6)) (C := RX6) (T := TX6) (N := 33) hx hb hts in_X6 hown hT.1 (hR.one hW.1) 0 rfl rfl 6 (by decide) (hts _ q1038) (fun _ h9 => h9) rfl dX6_packet_34 ?_
          refine lv_iload_n hx hb dX6_packet_37 rfl (lv_at hl 1 rfl) ?_
          refine r_iald hx hb hT hR (hW.i 6 6 (by decide) (by decide) rfl) (j := (ix a)) ha1 (by omega) (by decide) dX6_packet_38 ?_
          refine W.eq (g2 := F0 m 39 ls (.int (gI S 6 (ix a)) :: [.ref T])) rfl ?_
          refine lv_if_ne (tgt := 46) hx hb dX6_packet_39 (by decide) (fun c_8 => ?_) (fun c_8 => ?_)
          · skip
            refine lv_aload_n hx hb dX6_packet_46 rfl (lv_at hl 0 rfl) ?_
            refine va_get (D := G.1) (ci := 10) (v := .ref (ta 13)) (C := RX6) (T := TX6) (N := 33) hx hb hts in_X6 hown hT.1 (hR.one hW.1) 0 rfl rfl 13 (by decide) (hts _ q1045) (fun _ h9 => h9) rfl dX6_packet_47 ?_
            refine lv_iconst (v := 2) hx hb dX6_packet_50 (by decide) ?_
            refine lv_iload_n hx hb dX6_packet_51 rfl (lv_at hl 1 rfl) ?_
            refine lv_imul hx hb dX6_packet_52 ?_
            refine W.eq (g2 := F0 m 53 ls (.int (nI (2 * (ix a))) :: [.ref (ta 13), .ref T])) (congrArg (fun z => F0 m 53 ls (.int z :: [.ref (ta 13), .ref T])) (mulN rfl ha1)) ?_
            refine lv_iload_n hx hb dX6_packet_53 rfl (lv_at hl 2 rfl) ?_
            refine lv_iadd hx hb dX6_packet_54 ?_
            refine W.eq (g2 := F0 m 55 ls (.int (nI (2 * (ix a) + (ix f))) :: [.ref (ta 13), .ref T])) (congrArg (fun z => F0 m 55 ls (.int z :: [.ref (ta 13), .ref T])) (addN rfl hf1)) ?_
            refine r_iald hx hb hT hR (hW.i 13 12 (by decide) (by decide) rfl) (j := (2 * (ix a) + (ix f))) rfl (by omega) (by decide) dX6_packet_55 ?_
            refine W.eq (g2 := F0 m 56 ls (.int (gI S 13 (2 * (ix a) + (ix f))) :: [.ref T])) rfl ?_
            refine lv_iconst (v := 4) hx hb dX6_packet_56 (by decide) ?_
            refine lv_icmp_ne (tgt := 64) hx hb dX6_packet_57 (by decide) (fun c_9 => ?_) (fun c_9 => ?_)
            · skip
              have hp := hpk (2 * ix a + ix f) (by omega)
              have hp1 := hp.1
              have hp2 := hp.2
              have hp3 : ix (gI S 13 (2 * (ix a) + (ix f))) ≠ 4 := fun h => c_9 (hp1.trans (congrArg nI h))
              refine lv_iconst (v := 0) hx hb dX6_packet_64 (by decide) ?_
              refine r_put (ci := 10) (v := .int 0) (ty := .int) (C := RX6) (T := TX6) (N := 33) hx hb hts in_X6 tyX6 tyX6_ok nmX6 hown hT hR hS hW.1 rfl 32 (by decide) (hts _ q1064) (fun _ h9 => h9) rfl (by decide +kernel) rfl rfl (Nat.le_of_ble_eq_true rfl) dX6_packet_65 (fun H locs hz hR hS => ?_)
              obtain ⟨M, hR, hW⟩ : ∃ M1 : Mp, Rp G M1 H ∧ TR G T ta (sF S 32 0) Y M1 := ⟨_, hR, hW.setF 32 (by decide) (by decide) 0⟩
              refine lv_aload_n hx hb dX6_packet_68 rfl (lv_at hl 0 rfl) ?_
              refine va_get (D := G.1) (ci := 10) (v := .int 0) (C := RX6) (T := TX6) (N := 33) hx hb hts in_X6 hown hT.1 (hR.one hW.1) 0 rfl rfl 32 (by decide) (hts _ q1064) (fun _ h9 => h9) rfl dX6_packet_69 ?_
              refine lv_if_eq (tgt := 77) hx hb dX6_packet_72 (by decide) (fun c_10 => ?_) (fun c_10 => ?_)
              · skip
                refine lv_iconst (v := 2) hx hb dX6_packet_77 (by decide) ?_
                refine lv_iload_n hx hb dX6_packet_78 rfl (lv_at hl 1 rfl) ?_
                refine lv_imul hx hb dX6_packet_79 ?_
                refine W.eq (g2 := F0 m 80 ls (.int (nI (2 * (ix a))) :: [])) (congrArg (fun z => F0 m 80 ls (.int z :: [])) (mulN rfl ha1)) ?_
                refine lv_iload_n hx hb dX6_packet_80 rfl (lv_at hl 2 rfl) ?_
                refine lv_iadd hx hb dX6_packet_81 ?_
                refine W.eq (g2 := F0 m 82 ls (.int (nI (2 * (ix a) + (ix f))) :: [])) (congrArg (fun z => F0 m 82 ls (.int z :: [])) (addN rfl hf1)) ?_
                refine lv_istore (lv' := [(5, .int (nI (2 * (ix a) + (ix f)))), (0, .ref T), (1, .int a), (2, .int f), (3, .int z), (4, .int v1)]) hx hb dX6_packet_82 hl (by decide) rfl (fun ls hl => ?_)
                refine lv_aload_n hx hb dX6_packet_84 rfl (lv_at hl 1 rfl) ?_
                refine va_get (D := G.1) (ci := 10) (v := .ref (ta 14)) (C := RX6) (T := TX6) (N := 33) hx hb hts in_X6 hown hT.1 (hR.one hW.1) 0 rfl rfl 14 (by decide) (hts _ q1046) (fun _ h9 => h9) rfl dX6_packet_85 ?_
                refine lv_iload hx hb dX6_packet_88 (lv_at hl 0 rfl) ?_
                refine lv_iconst (v := 4) hx hb dX6_packet_90 (by decide) ?_
                refine lv_imul hx hb dX6_packet_91 ?_
                refine W.eq (g2 := F0 m 92 ls (.int (nI ((2 * (ix a) + (ix f)) * 4)) :: [.ref (ta 14)])) (congrArg (fun z => F0 m 92 ls (.int z :: [.ref (ta 14)])) (mulN rfl rfl)) ?_
                refine lv_aload_n hx hb dX6_packet_92 rfl (lv_at hl 1 rfl) ?_
                refine va_get (D := G.1) (ci := 10) (v := .ref (ta 13)) (C := RX6) (T := TX6) (N := 33) hx hb hts in_X6 hown hT.1 (hR.one hW.1) 0 rfl rfl 13 (by decide) (hts _ q1045) (fun _ h9 => h9) rfl dX6_packet_93 ?_
                refine lv_iload hx hb dX6_packet_96 (lv_at hl 0 rfl) ?_
                refine r_iald hx hb hT hR (hW.i 13 12 (by decide) (by decide) rfl) (j := (2 * (ix a) + (ix f))) rfl (by omega) (by decide) dX6_packet_98 ?_
                refine W.eq (g2 := F0 m 99 ls (.int (gI S 13 (2 * (ix a) + (ix f))) :: [.int (nI ((2 * (ix a) + (ix f)) * 4)), .ref (ta 14)])) rfl ?_
                refine lv_iadd hx hb dX6_packet_99 ?_
                refine W.eq (g2 := F0 m 100 ls (.int (nI ((2 * (ix a) + (ix f)) * 4 + (ix (gI S 13 (2 * (ix a) + (ix f)))))) :: [.ref (ta 14)])) (congrArg (fun z => F0 m 100 ls (.int z :: [.ref (ta 14)])) (addN rfl hp1)) ?_
                refine lv_iload_n hx hb dX6_packet_100 rfl (lv_at hl 4 rfl) ?_
                refine r_iastj hx hb hT hR hS (hW.i 14 48 (by decide) (by decide) rfl) (j := ((2 * (ix a) + (ix f)) * 4 + (ix (gI S 13 (2 * (ix a) + (ix f)))))) rfl (by omega) (by decide) dX6_packet_101 (fun H locs hz hR hS => ?_)
                obtain ⟨M, hR, hW⟩ : ∃ M1 : Mp, Rp G M1 H ∧ TR G T ta (sI (sF S 32 0) 14 ((2 * (ix a) + (ix f)) * 4 + (ix (gI S 13 (2 * (ix a) + (ix f))))) z) Y M1 := ⟨_, hR, hW.setI 14 (by decide) (by decide) ((2 * (ix a) + (ix f)) * 4 + (ix (gI S 13 (2 * (ix a) + (ix f))))) z⟩
                refine lv_aload_n hx hb dX6_packet_102 rfl (lv_at hl 1 rfl) ?_
                refine va_get (D := G.1) (ci := 10) (v := .ref (ta 15)) (C := RX6) (T := TX6) (N := 33) hx hb hts in_X6 hown hT.1 (hR.one hW.1) 0 rfl rfl 15 (by decide) (hts _ q1047) (fun _ h9 => h9) rfl dX6_packet_103 ?_
                refine lv_iload hx hb dX6_packet_106 (lv_at hl 0 rfl) ?_
                refine lv_iconst (v := 4) hx hb dX6_packet_108 (by decide) ?_
                refine lv_imul hx hb dX6_packet_109 ?_
                refine W.eq (g2 := F0 m 110 ls (.int (nI ((2 * (ix a) + (ix f)) * 4)) :: [.ref (ta 15)])) (congrArg (fun z => F0 m 110 ls (.int z :: [.ref (ta 15)])) (mulN rfl rfl)) ?_
                refine lv_aload_n hx hb dX6_packet_110 rfl (lv_at hl 1 rfl) ?_
                refine va_get (D := G.1) (ci := 10) (v := .ref (ta 13)) (C := RX6) (T := TX6) (N := 33) hx hb hts in_X6 hown hT.1 (hR.one hW.1) 0 rfl rfl 13 (by decide) (hts _ q1045) (fun _ h9 => h9) rfl dX6_packet_111 ?_
                refine lv_iload hx hb dX6_packet_114 (lv_at hl 0 rfl) ?_
                refine r_iald hx hb hT hR (hW.i 13 12 (by decide) (by decide) rfl) (j := (2 * (ix a) + (ix f))) rfl (by omega) (by decide) dX6_packet_116 ?_
                refine W.eq (g2 := F0 m 117 ls (.int (gI S 13 (2 * (ix a) + (ix f))) :: [.int (nI ((2 * (ix a) + (ix f)) * 4)), .ref (ta 15)])) rfl ?_
                refine lv_iadd hx hb dX6_packet_117 ?_
                refine W.eq (g2 := F0 m 118 ls (.int (nI ((2 * (ix a) + (ix f)) * 4 + (ix (gI S 13 (2 * (ix a) + (ix f)))))) :: [.ref (ta 15)])) (congrArg (fun z => F0 m 118 ls (.int z :: [.ref (ta 15)])) (addN rfl hp1)) ?_
                refine lv_iload hx hb dX6_packet_118 (lv_at hl 5 rfl) ?_
                refine r_iastj hx hb hT hR hS (hW.i 15 48 (by decide) (by decide) rfl) (j := ((2 * (ix a) + (ix f)) * 4 + (ix (gI S 13 (2 * (ix a) + (ix f)))))) rfl (by omega) (by decide) dX6_packet_120 (fun H locs hz hR hS => ?_)
                obtain ⟨M, hR, hW⟩ : ∃ M1 : Mp, Rp G M1 H ∧ TR G T ta (sI (sI (sF S 32 0) 14 ((2 * (ix a) + (ix f)) * 4 + (ix (gI S 13 (2 * (ix a) + (ix f))))) z) 15 ((2 * (ix a) + (ix f)) * 4 + (ix (gI S 13 (2 * (ix a) + (ix f))))) v1) Y M1 := ⟨_, hR, hW.setI 15 (by decide) (by decide) ((2 * (ix a) + (ix f)) * 4 + (ix (gI S 13 (2 * (ix a) + (ix f))))) v1⟩
                refine lv_aload_n hx hb dX6_packet_121 rfl (lv_at hl 1 rfl) ?_
                refine va_get (D := G.1) (ci := 10) (v := .ref (ta 13)) (C := RX6) (T := TX6) (N := 33) hx hb hts in_X6 hown hT.1 (hR.one hW.1) 0 rfl rfl 13 (by decide) (hts _ q1045) (fun _ h9 => h9) rfl dX6_packet_122 ?_
                refine lv_iload hx hb dX6_packet_125 (lv_at hl 0 rfl) ?_
                refine lv_dup2_11 hx hb dX6_packet_127 rfl rfl ?_
                refine r_iald hx hb hT hR (hW.i 13 12 (by decide) (by decide) rfl) (j := (2 * (ix a) + (ix f))) rfl (by omega) (by decide) dX6_packet_128 ?_
                refine W.eq (g2 := F0 m 129 ls (.int (gI S 13 (2 * (ix a) + (ix f))) :: [.int (nI (2 * (ix a) + (ix f))), .ref (ta 13)])) rfl ?_
                refine lv_iconst (v := 1) hx hb dX6_packet_129 (by decide) ?_
                refine lv_iadd hx hb dX6_packet_130 ?_
                refine r_iastj hx hb hT hR hS (hW.i 13 12 (by decide) (by decide) rfl) (j := (2 * (ix a) + (ix f))) rfl (by omega) (by decide) dX6_packet_131 (fun H locs hz hR hS => ?_)
                obtain ⟨M, hR, hW⟩ : ∃ M1 : Mp, Rp G M1 H ∧ TR G T ta (sI (sI (sI (sF S 32 0) 14 ((2 * (ix a) + (ix f)) * 4 + (ix (gI S 13 (2 * (ix a) + (ix f))))) z) 15 ((2 * (ix a) + (ix f)) * 4 + (ix (gI S 13 (2 * (ix a) + (ix f))))) v1) 13 (2 * (ix a) + (ix f)) ((gI S 13 (2 * (ix a) + (ix f))) + 1)) Y M1 := ⟨_, hR, hW.setI 13 (by decide) (by decide) (2 * (ix a) + (ix f)) ((gI S 13 (2 * (ix a) + (ix f))) + 1)⟩
                refine lv_aload_n hx hb dX6_packet_132 rfl (lv_at hl 1 rfl) ?_
                refine va_get (D := G.1) (ci := 10) (v := .ref (ta 13)) (C := RX6) (T := TX6) (N := 33) hx hb hts in_X6 hown hT.1 (hR.one hW.1) 0 rfl rfl 13 (by decide) (hts _ q1045) (fun _ h9 => h9) rfl dX6_packet_133 ?_
                refine lv_iload hx hb dX6_packet_136 (lv_at hl 0 rfl) ?_
                refine r_iald hx hb hT hR (hW.i 13 12 (by decide) (by decide) rfl) (j := (2 * (ix a) + (ix f))) rfl (by omega) (by decide) dX6_packet_138 ?_
                refine W.eq (g2 := F0 m 139 ls (.int ((gI S 13 (2 * (ix a) + (ix f))) + 1) :: [])) (by simp [gI, sI, gD, sD, sF, va_up, upd, vf_upd]) ?_
                exact W.iret hx hb hr (q_ret (⟨congrArg (fun z9 : Tw × Int32 => some (Value.int z9.2)) ((if_neg c_1).trans ((if_neg c_3).trans ((if_neg c_5).trans ((if_pos c_7).trans ((if_neg c_8).trans ((if_neg c_9).trans (rfl)))))) : tPacket S a f z v1 = ((sI (sI (sI (sF S 32 0) 14 ((2 * (ix a) + (ix f)) * 4 + (ix (gI S 13 (2 * (ix a) + (ix f))))) z) 15 ((2 * (ix a) + (ix f)) * 4 + (ix (gI S 13 (2 * (ix a) + (ix f))))) v1) 13 (2 * (ix a) + (ix f)) ((gI S 13 (2 * (ix a) + (ix f))) + 1)), (gI S 13 (2 * (ix a) + (ix f))) + 1)).symm, TR.eq (congrArg Prod.fst ((if_neg c_1).trans ((if_neg c_3).trans ((if_neg c_5).trans ((if_pos c_7).trans ((if_neg c_8).trans ((if_neg c_9).trans (rfl)))))) : tPacket S a f z v1 = ((sI (sI (sI (sF S 32 0) 14 ((2 * (ix a) + (ix f)) * 4 + (ix (gI S 13 (2 * (ix a) + (ix f))))) z) 15 ((2 * (ix a) + (ix f)) * 4 + (ix (gI S 13 (2 * (ix a) + (ix f))))) v1) 13 (2 * (ix a) + (ix f)) ((gI S 13 (2 * (ix a) + (ix f))) + 1)), (gI S 13 (2 * (ix a) + (ix f))) + 1))) hW⟩) hR hS) hS.2.2 dX6_packet_139
              · skip
                exact absurd c_10 (by decide)
            · skip
              refine lv_iconst (v := 3) hx hb dX6_packet_60 (by decide) ?_
              refine lv_goto (tgt := 65) hx hb dX6_packet_61 (by decide) ?_
              refine r_put (ci := 10) (v := .int 3) (ty := .int) (C := RX6) (T := TX6) (N := 33) hx hb hts in_X6 tyX6 tyX6_ok nmX6 hown hT hR hS hW.1 rfl 32 (by decide) (hts _ q1064) (fun _ h9 => h9) rfl (by decide +kernel) rfl rfl (Nat.le_of_ble_eq_true rfl) dX6_packet_65 (fun H locs hz hR hS => ?_)
              obtain ⟨M, hR, hW⟩ : ∃ M1 : Mp, Rp G M1 H ∧ TR G T ta (sF S 32 3) Y M1 := ⟨_, hR, hW.setF 32 (by decide) (by decide) 3⟩
              refine lv_aload_n hx hb dX6_packet_68 rfl (lv_at hl 0 rfl) ?_
              refine va_get (D := G.1) (ci := 10) (v := .int 3) (C := RX6) (T := TX6) (N := 33) hx hb hts in_X6 hown hT.1 (hR.one hW.1) 0 rfl rfl 32 (by decide) (hts _ q1064) (fun _ h9 => h9) rfl dX6_packet_69 ?_
              refine lv_if_eq (tgt := 77) hx hb dX6_packet_72 (by decide) (fun c_11 => ?_) (fun c_11 => ?_)
              · skip
                exact absurd c_11 (by decide)
              · skip
                refine lv_iconst (v := 0) hx hb dX6_packet_75 (by decide) ?_
                exact W.iret hx hb hr (q_ret (⟨congrArg (fun z9 : Tw × Int32 => some (Value.int z9.2)) ((if_neg c_1).trans ((if_neg c_3).trans ((if_neg c_5).trans ((if_pos c_7).trans ((if_neg c_8).trans ((if_pos c_9).trans (rfl)))))) : tPacket S a f z v1 = ((sF S 32 3), 0)).symm, TR.eq (congrArg Prod.fst ((if_neg c_1).trans ((if_neg c_3).trans ((if_neg c_5).trans ((if_pos c_7).trans ((if_neg c_8).trans ((if_pos c_9).trans (rfl)))))) : tPacket S a f z v1 = ((sF S 32 3), 0))) hW⟩) hR hS) hS.2.2 dX6_packet_76
          · skip
            refine lv_iconst (v := 2) hx hb dX6_packet_42 (by decide) ?_
            refine lv_goto (tgt := 65) hx hb dX6_packet_43 (by decide) ?_
            refine r_put (ci := 10) (v := .int 2) (ty := .int) (C := RX6) (T := TX6) (N := 33) hx hb hts in_X6 tyX6 tyX6_ok nmX6 hown hT hR hS hW.1 rfl 32 (by decide) (hts _ q1064) (fun _ h9 => h9) rfl (by decide +kernel) rfl rfl (Nat.le_of_ble_eq_true rfl) dX6_packet_65 (fun H locs hz hR hS => ?_)
            obtain ⟨M, hR, hW⟩ : ∃ M1 : Mp, Rp G M1 H ∧ TR G T ta (sF S 32 2) Y M1 := ⟨_, hR, hW.setF 32 (by decide) (by decide) 2⟩
            refine lv_aload_n hx hb dX6_packet_68 rfl (lv_at hl 0 rfl) ?_
            refine va_get (D := G.1) (ci := 10) (v := .int 2) (C := RX6) (T := TX6) (N := 33) hx hb hts in_X6 hown hT.1 (hR.one hW.1) 0 rfl rfl 32 (by decide) (hts _ q1064) (fun _ h9 => h9) rfl dX6_packet_69 ?_
            refine lv_if_eq (tgt := 77) hx hb dX6_packet_72 (by decide) (fun c_12 => ?_) (fun c_12 => ?_)
            · skip
              exact absurd c_12 (by decide)
            · skip
              refine lv_iconst (v := 0) hx hb dX6_packet_75 (by decide) ?_
              exact W.iret hx hb hr (q_ret (⟨congrArg (fun z9 : Tw × Int32 => some (Value.int z9.2)) ((if_neg c_1).trans ((if_neg c_3).trans ((if_neg c_5).trans ((if_pos c_7).trans ((if_pos c_8).trans (rfl))))) : tPacket S a f z v1 = ((sF S 32 2), 0)).symm, TR.eq (congrArg Prod.fst ((if_neg c_1).trans ((if_neg c_3).trans ((if_neg c_5).trans ((if_pos c_7).trans ((if_pos c_8).trans (rfl))))) : tPacket S a f z v1 = ((sF S 32 2), 0))) hW⟩) hR hS) hS.2.2 dX6_packet_76
        · skip
          refine lv_iconst (v := 1) hx hb dX6_packet_29 (by decide) ?_
          refine lv_goto (tgt := 65) hx hb dX6_packet_30 (by decide) ?_
          refine r_put (ci := 10) (v := .int 1) (ty := .int) (C := RX6) (T := TX6) (N := 33) hx hb hts in_X6 tyX6 tyX6_ok nmX6 hown hT hR hS hW.1 rfl 32 (by decide) (hts _ q1064) (fun _ h9 => h9) rfl (by decide +kernel) rfl rfl (Nat.le_of_ble_eq_true rfl) dX6_packet_65 (fun H locs hz hR hS => ?_)
          obtain ⟨M, hR, hW⟩ : ∃ M1 : Mp, Rp G M1 H ∧ TR G T ta (sF S 32 1) Y M1 := ⟨_, hR, hW.setF 32 (by decide) (by decide) 1⟩
          refine lv_aload_n hx hb dX6_packet_68 rfl (lv_at hl 0 rfl) ?_
          refine va_get (D := G.1) (ci := 10) (v := .int 1) (C := RX6) (T := TX6) (N := 33) hx hb hts in_X6 hown hT.1 (hR.one hW.1) 0 rfl rfl 32 (by decide) (hts _ q1064) (fun _ h9 => h9) rfl dX6_packet_69 ?_
          refine lv_if_eq (tgt := 77) hx hb dX6_packet_72 (by decide) (fun c_13 => ?_) (fun c_13 => ?_)
          · skip
            exact absurd c_13 (by decide)
          · skip
            refine lv_iconst (v := 0) hx hb dX6_packet_75 (by decide) ?_
            exact W.iret hx hb hr (q_ret (⟨congrArg (fun z9 : Tw × Int32 => some (Value.int z9.2)) ((if_neg c_1).trans ((if_neg c_3).trans ((if_neg c_5).trans ((if_neg c_7).trans (rfl)))) : tPacket S a f z v1 = ((sF S 32 1), 0)).symm, TR.eq (congrArg Prod.fst ((if_neg c_1).trans ((if_neg c_3).trans ((if_neg c_5).trans ((if_neg c_7).trans (rfl)))) : tPacket S a f z v1 = ((sF S 32 1), 0))) hW⟩) hR hS) hS.2.2 dX6_packet_76
set_option maxHeartbeats 4000000 in
set_option maxRecDepth 100000 in
theorem tm_late (l : Launch) (G : Gw) (M : Mp) (sz : Nat) (T : Nat) (ta : Nat → Nat) (S : Tw) (Y : Mp) (hW : TR G T ta S Y M) (j : Nat) (hj : j < 6) (hok : okM S j) : Cp l yX6_late cX6_late 2 (some .double) 0 [.ref T, .int (nI j)] G M sz (some (.double (tLate S j))) := by
  refine Met.ofW (cc := cX6_late) (maxL := 2) (ret := (some .double)) (by decide) rfl ?_
  intro p e s m args below meth c s₁ B hml hv
  obtain ⟨rfl, hT, hR, hsz⟩ := hv
  have hx := B.exec
  have hb := B.bytes
  have hr := B.returns
  have hts := atoms_spec (ws := ws_ yX6_late cX6_late 2 (some .double)) B.pre
  have hts : ∀ w ∈ lw_all, w.before _ s = true := fun w h => hts w (List.mem_cons_of_mem _ h)
  have hown : s.vm.findClass RX6 = some m.cls := findClass_of_methodNamed B.named
  have hlocks := B.notSynchronized
  have hS : va_S (Af G) s.heap s.heap [] := va_S.rf
  have hl := lv_entry ([.ref T, .int (nI j)]) (n := 2) (Nat.le_of_ble_eq_true rfl)
  rw [lg_entry_eq]
  generalize (lg_sl ([.ref T, .int (nI j)]) ++ List.replicate (2 - (lg_sl ([.ref T, .int (nI j)])).length) Slot.unset).toArray = ls at hl ⊢
  have hl : lv_has ls 2 [(0, .ref T), (1, .int (nI j))] := hl
  refine lv_aload_n hx hb dX6_late_0 rfl (lv_at hl 0 rfl) ?_
  refine va_get (D := G.1) (ci := 10) (v := .ref (ta 0)) (C := RX6) (T := TX6) (N := 33) hx hb hts in_X6 hown hT.1 (hR.one hW.1) 0 rfl rfl 0 (by decide) (hts _ q1032) (fun _ h9 => h9) rfl dX6_late_1 ?_
  refine lv_iload_n hx hb dX6_late_4 rfl (lv_at hl 1 rfl) ?_
  refine r_dald hx hb hT hR (hW.d 0 6 (by decide) rfl) (j := j) rfl (by omega) (by decide) dX6_late_5 ?_
  refine W.eq (g2 := F0 m 6 ls (.double (gD S 0 j) :: [])) rfl ?_
  refine lv_ldc2d (v := c05) hx hb hown (hts _ q1183) dX6_late_6 ?_
  refine lv_dmul hx hb dX6_late_9 hok.1.1 ?_
  refine lv_aload_n hx hb dX6_late_10 rfl (lv_at hl 0 rfl) ?_
  refine va_get (D := G.1) (ci := 10) (v := .ref (ta 2)) (C := RX6) (T := TX6) (N := 33) hx hb hts in_X6 hown hT.1 (hR.one hW.1) 0 rfl rfl 2 (by decide) (hts _ q1034) (fun _ h9 => h9) rfl dX6_late_11 ?_
  refine lv_iload_n hx hb dX6_late_14 rfl (lv_at hl 1 rfl) ?_
  refine r_dald hx hb hT hR (hW.d 2 6 (by decide) rfl) (j := j) rfl (by omega) (by decide) dX6_late_15 ?_
  refine W.eq (g2 := F0 m 16 ls (.double (gD S 2 j) :: [.double (FP.dmul (gD S 0 j) c05)])) rfl ?_
  refine lv_dsub hx hb dX6_late_16 hok.1.2 ?_
  exact W.dret hx hb hr (fun t ht _ => ⟨rfl, ht⟩) t_nil dX6_late_17
set_option maxHeartbeats 4000000 in
set_option maxRecDepth 100000 in
theorem tm_strong (l : Launch) (G : Gw) (M : Mp) (sz : Nat) (T : Nat) (ta : Nat → Nat) (S : Tw) (Y : Mp) (hW : TR G T ta S Y M) (j : Nat) (hj : j < 6) (hok : okM S j) : Cp l yX6_strong cX6_strong 2 (some .double) 0 [.ref T, .int (nI j)] G M sz (some (.double (tStrong S j))) := by
  refine Met.ofW (cc := cX6_strong) (maxL := 2) (ret := (some .double)) (by decide) rfl ?_
  intro p e s m args below meth c s₁ B hml hv
  obtain ⟨rfl, hT, hR, hsz⟩ := hv
  have hx := B.exec
  have hb := B.bytes
  have hr := B.returns
  have hts := atoms_spec (ws := ws_ yX6_strong cX6_strong 2 (some .double)) B.pre
  have hts : ∀ w ∈ lw_all, w.before _ s = true := fun w h => hts w (List.mem_cons_of_mem _ h)
  have hown : s.vm.findClass RX6 = some m.cls := findClass_of_methodNamed B.named
  have hlocks := B.notSynchronized
  have hS : va_S (Af G) s.heap s.heap [] := va_S.rf
  have hl := lv_entry ([.ref T, .int (nI j)]) (n := 2) (Nat.le_of_ble_eq_true rfl)
  rw [lg_entry_eq]
  generalize (lg_sl ([.ref T, .int (nI j)]) ++ List.replicate (2 - (lg_sl ([.ref T, .int (nI j)])).length) Slot.unset).toArray = ls at hl ⊢
  have hl : lv_has ls 2 [(0, .ref T), (1, .int (nI j))] := hl
  refine lv_aload_n hx hb dX6_strong_0 rfl (lv_at hl 0 rfl) ?_
  refine va_get (D := G.1) (ci := 10) (v := .ref (ta 3)) (C := RX6) (T := TX6) (N := 33) hx hb hts in_X6 hown hT.1 (hR.one hW.1) 0 rfl rfl 3 (by decide) (hts _ q1035) (fun _ h9 => h9) rfl dX6_strong_1 ?_
  refine lv_iload_n hx hb dX6_strong_4 rfl (lv_at hl 1 rfl) ?_
  refine r_dald hx hb hT hR (hW.d 3 6 (by decide) rfl) (j := j) rfl (by omega) (by decide) dX6_strong_5 ?_
  refine W.eq (g2 := F0 m 6 ls (.double (gD S 3 j) :: [])) rfl ?_
  refine lv_aload_n hx hb dX6_strong_6 rfl (lv_at hl 0 rfl) ?_
  refine va_get (D := G.1) (ci := 10) (v := .ref (ta 1)) (C := RX6) (T := TX6) (N := 33) hx hb hts in_X6 hown hT.1 (hR.one hW.1) 0 rfl rfl 1 (by decide) (hts _ q1033) (fun _ h9 => h9) rfl dX6_strong_7 ?_
  refine lv_iload_n hx hb dX6_strong_10 rfl (lv_at hl 1 rfl) ?_
  refine r_dald hx hb hT hR (hW.d 1 6 (by decide) rfl) (j := j) rfl (by omega) (by decide) dX6_strong_11 ?_
  refine W.eq (g2 := F0 m 12 ls (.double (gD S 1 j) :: [.double (gD S 3 j)])) rfl ?_
  refine lv_dsub hx hb dX6_strong_12 hok.2.1 ?_
  exact W.dret hx hb hr (fun t ht _ => ⟨rfl, ht⟩) t_nil dX6_strong_13
set_option maxHeartbeats 4000000 in
set_option maxRecDepth 100000 in
theorem tm_within (l : Launch) (G : Gw) (M : Mp) (sz : Nat) (T : Nat) (ta : Nat → Nat) (S : Tw) (Y : Mp) (hW : TR G T ta S Y M) (d1 : UInt64) : Cp l yX6_within cX6_within 3 (some .boolean) 0 [.ref T, .double d1] G M sz (some (.int (bI (btw d1 cm05 c05)))) := by
  refine Met.ofW (cc := cX6_within) (maxL := 3) (ret := (some .boolean)) (by decide) rfl ?_
  intro p e s m args below meth c s₁ B hml hv
  obtain ⟨rfl, hT, hR, hsz⟩ := hv
  have hx := B.exec
  have hb := B.bytes
  have hr := B.returns
  have hts := atoms_spec (ws := ws_ yX6_within cX6_within 3 (some .boolean)) B.pre
  have hts : ∀ w ∈ lw_all, w.before _ s = true := fun w h => hts w (List.mem_cons_of_mem _ h)
  have hown : s.vm.findClass RX6 = some m.cls := findClass_of_methodNamed B.named
  have hlocks := B.notSynchronized
  have hS : va_S (Af G) s.heap s.heap [] := va_S.rf
  have hl := lv_entry ([.ref T, .double d1]) (n := 3) (Nat.le_of_ble_eq_true rfl)
  rw [lg_entry_eq]
  generalize (lg_sl ([.ref T, .double d1]) ++ List.replicate (3 - (lg_sl ([.ref T, .double d1])).length) Slot.unset).toArray = ls at hl ⊢
  have hl : lv_has ls 3 [(0, .ref T), (1, .double d1)] := hl
  refine lv_dload_n hx hb dX6_within_0 rfl (lv_at hl 1 rfl) ?_
  refine lv_ldc2d (v := cm05) hx hb hown (hts _ q1188) dX6_within_1 ?_
  refine lv_dcmp hx hb dX6_within_4 ?_
  refine lv_if_lt (tgt := 20) hx hb dX6_within_5 (by decide) (fun c_1 => ?_) (fun c_1 => ?_)
  · skip
    refine lv_iconst (v := 0) hx hb dX6_within_20 (by decide) ?_
    exact W.zret hx hb hr rfl (fun t ht _ => ⟨(by rw [bI_f (fun h => h.1 c_1)]), ht⟩) t_nil dX6_within_21
  · skip
    refine lv_dload_n hx hb dX6_within_8 rfl (lv_at hl 1 rfl) ?_
    refine lv_ldc2d (v := c05) hx hb hown (hts _ q1183) dX6_within_9 ?_
    refine lv_dcmp hx hb dX6_within_12 ?_
    refine lv_if_gt (tgt := 20) hx hb dX6_within_13 (by decide) (fun c_2 => ?_) (fun c_2 => ?_)
    · skip
      refine lv_iconst (v := 0) hx hb dX6_within_20 (by decide) ?_
      exact W.zret hx hb hr rfl (fun t ht _ => ⟨(by rw [bI_f (fun h => h.2 c_2)]), ht⟩) t_nil dX6_within_21
    · skip
      refine lv_iconst (v := 1) hx hb dX6_within_16 (by decide) ?_
      refine lv_goto (tgt := 21) hx hb dX6_within_17 (by decide) ?_
      exact W.zret hx hb hr rfl (fun t ht _ => ⟨(by rw [bI_t ⟨c_1, c_2⟩]), ht⟩) t_nil dX6_within_21
set_option maxHeartbeats 4000000 in
set_option maxRecDepth 100000 in
theorem tm_fine (l : Launch) (G : Gw) (M : Mp) (sz : Nat) (T : Nat) (ta : Nat → Nat) (S : Tw) (Y : Mp) (hW : TR G T ta S Y M) (j : Nat) (hj : j < 6) (hok : okM S j) : Cp l yX6_fine cX6_fine 2 (some .boolean) 1 [.ref T, .int (nI j)] G M sz (some (.int (bI (tFine S j)))) := by
  refine Met.ofW (cc := cX6_fine) (maxL := 2) (ret := (some .boolean)) (by decide) rfl ?_
  intro p e s m args below meth c s₁ B hml hv
  obtain ⟨rfl, hT, hR, hsz⟩ := hv
  have hx := B.exec
  have hb := B.bytes
  have hr := B.returns
  have hts := atoms_spec (ws := ws_ yX6_fine cX6_fine 2 (some .boolean)) B.pre
  have hts : ∀ w ∈ lw_all, w.before _ s = true := fun w h => hts w (List.mem_cons_of_mem _ h)
  have hown : s.vm.findClass RX6 = some m.cls := findClass_of_methodNamed B.named
  have hlocks := B.notSynchronized
  have hS : va_S (Af G) s.heap s.heap [] := va_S.rf
  have hl := lv_entry ([.ref T, .int (nI j)]) (n := 2) (Nat.le_of_ble_eq_true rfl)
  rw [lg_entry_eq]
  generalize (lg_sl ([.ref T, .int (nI j)]) ++ List.replicate (2 - (lg_sl ([.ref T, .int (nI j)])).length) Slot.unset).toArray = ls at hl ⊢
  have hl : lv_has ls 2 [(0, .ref T), (1, .int (nI j))] := hl
  refine lv_aload_n hx hb dX6_fine_0 rfl (lv_at hl 0 rfl) ?_
  refine lv_aload_n hx hb dX6_fine_1 rfl (lv_at hl 0 rfl) ?_
  refine lv_iload_n hx hb dX6_fine_2 rfl (lv_at hl 1 rfl) ?_
  refine g_pure (va_runV (As := [.int (nI j)]) (rest := [.ref T]) ⟨hx, hb, hml, hown, hts⟩ (tm_late l G M _ T ta S Y hW j (by omega) hok) (cwV 1 hts (lw_V q1179 q1181 qs24 q61 q1182) rfl rfl rfl (by decide +kernel) ⟨Nat.le_of_ble_eq_true rfl, Nat.le_of_ble_eq_true rfl⟩) (preV hT hR hS hW.1 rfl rfl) rfl rfl hl.1 rfl (lv_room (Nat.le_of_ble_eq_true rfl)) dX6_fine_3 ⟨Nat.le_of_ble_eq_true rfl, Nat.le_of_ble_eq_true rfl⟩) ?_
  refine W.eq (g2 := F0 m 6 ls [.double (tLate S j), .ref T]) rfl ?_
  refine g_pure (va_runV (As := [.double (tLate S j)]) (rest := []) ⟨hx, hb, hml, hown, hts⟩ (tm_within l G M _ T ta S Y hW (tLate S j)) (cwV 1 hts (lw_V q1184 q1186 qs25 q61 q1187) rfl rfl rfl (by decide +kernel) ⟨Nat.le_of_ble_eq_true rfl, Nat.le_of_ble_eq_true rfl⟩) (preV hT hR hS hW.1 rfl rfl) rfl rfl hl.1 rfl (lv_room (Nat.le_of_ble_eq_true rfl)) dX6_fine_6 ⟨Nat.le_of_ble_eq_true rfl, Nat.le_of_ble_eq_true rfl⟩) ?_
  refine W.eq (g2 := F0 m 9 ls [.int (bI (btw (tLate S j) cm05 c05))]) rfl ?_
  refine lv_if_eq (tgt := 28) hx hb dX6_fine_9 (by decide) (fun c_1 => ?_) (fun c_1 => ?_)
  · skip
    have c_1 := b_0 c_1
    refine lv_iconst (v := 0) hx hb dX6_fine_28 (by decide) ?_
    exact W.zret hx hb hr rfl (fun t ht _ => ⟨(by rw [bI_f (fun h : tFine S j => c_1 h.1)]), ht⟩) t_nil dX6_fine_29
  · skip
    have c_1 := b_n0 c_1
    refine lv_aload_n hx hb dX6_fine_12 rfl (lv_at hl 0 rfl) ?_
    refine lv_aload_n hx hb dX6_fine_13 rfl (lv_at hl 0 rfl) ?_
    refine lv_iload_n hx hb dX6_fine_14 rfl (lv_at hl 1 rfl) ?_
    refine g_pure (va_runV (As := [.int (nI j)]) (rest := [.ref T]) ⟨hx, hb, hml, hown, hts⟩ (tm_strong l G M _ T ta S Y hW j (by omega) hok) (cwV 1 hts (lw_V q1189 q1191 qs26 q61 q1192) rfl rfl rfl (by decide +kernel) ⟨Nat.le_of_ble_eq_true rfl, Nat.le_of_ble_eq_true rfl⟩) (preV hT hR hS hW.1 rfl rfl) rfl rfl hl.1 rfl (lv_room (Nat.le_of_ble_eq_true rfl)) dX6_fine_15 ⟨Nat.le_of_ble_eq_true rfl, Nat.le_of_ble_eq_true rfl⟩) ?_
    refine W.eq (g2 := F0 m 18 ls [.double (tStrong S j), .ref T]) rfl ?_
    refine g_pure (va_runV (As := [.double (tStrong S j)]) (rest := []) ⟨hx, hb, hml, hown, hts⟩ (tm_within l G M _ T ta S Y hW (tStrong S j)) (cwV 1 hts (lw_V q1184 q1186 qs25 q61 q1187) rfl rfl rfl (by decide +kernel) ⟨Nat.le_of_ble_eq_true rfl, Nat.le_of_ble_eq_true rfl⟩) (preV hT hR hS hW.1 rfl rfl) rfl rfl hl.1 rfl (lv_room (Nat.le_of_ble_eq_true rfl)) dX6_fine_18 ⟨Nat.le_of_ble_eq_true rfl, Nat.le_of_ble_eq_true rfl⟩) ?_
    refine W.eq (g2 := F0 m 21 ls [.int (bI (btw (tStrong S j) cm05 c05))]) rfl ?_
    refine lv_if_eq (tgt := 28) hx hb dX6_fine_21 (by decide) (fun c_2 => ?_) (fun c_2 => ?_)
    · skip
      have c_2 := b_0 c_2
      refine lv_iconst (v := 0) hx hb dX6_fine_28 (by decide) ?_
      exact W.zret hx hb hr rfl (fun t ht _ => ⟨(by rw [bI_f (fun h : tFine S j => c_2 h.2)]), ht⟩) t_nil dX6_fine_29
    · skip
      have c_2 := b_n0 c_2
      refine lv_iconst (v := 1) hx hb dX6_fine_24 (by decide) ?_
      refine lv_goto (tgt := 29) hx hb dX6_fine_25 (by decide) ?_
      exact W.zret hx hb hr rfl (fun t ht _ => ⟨(by rw [bI_t (show tFine S j from ⟨c_1, c_2⟩)]), ht⟩) t_nil dX6_fine_29
set_option maxHeartbeats 4000000 in
set_option maxRecDepth 100000 in
theorem tm_draw (l : Launch) (G : Gw) (M : Mp) (sz : Nat) (T : Nat) (ta : Nat → Nat) (S : Tw) (Y : Mp) (hW : TR G T ta S Y M) (j : Nat) (k : Int32) (hj : j < 6) (hk : ¬ k = 0) : Ct l yX6_draw cX6_draw 3 (some .int) 0 0 0 [.ref T, .int (nI j), .int k] G M sz (fun v M1 _ => v = some (.int (drawR (gI S 7 j) k)) ∧ TR G T ta (tDraw S j) Y M1) := by
  refine Met.ofW (cc := cX6_draw) (maxL := 3) (ret := (some .int)) (by decide) rfl ?_
  intro p e s m args below meth c s₁ B hml hv
  obtain ⟨rfl, hT, hR, hsz⟩ := hv
  have hx := B.exec
  have hb := B.bytes
  have hr := B.returns
  have hts := atoms_spec (ws := ws_ yX6_draw cX6_draw 3 (some .int)) B.pre
  have hts : ∀ w ∈ lw_all, w.before _ s = true := fun w h => hts w (List.mem_cons_of_mem _ h)
  have hown : s.vm.findClass RX6 = some m.cls := findClass_of_methodNamed B.named
  have hlocks := B.notSynchronized
  have hS : va_S (Af G) s.heap s.heap [] := va_S.rf
  have hl := lv_entry ([.ref T, .int (nI j), .int k]) (n := 3) (Nat.le_of_ble_eq_true rfl)
  rw [lg_entry_eq]
  generalize (lg_sl ([.ref T, .int (nI j), .int k]) ++ List.replicate (3 - (lg_sl ([.ref T, .int (nI j), .int k])).length) Slot.unset).toArray = ls at hl ⊢
  have hl : lv_has ls 3 [(0, .ref T), (1, .int (nI j)), (2, .int k)] := hl
  refine lv_aload_n hx hb dX6_draw_0 rfl (lv_at hl 0 rfl) ?_
  refine va_get (D := G.1) (ci := 10) (v := .ref (ta 7)) (C := RX6) (T := TX6) (N := 33) hx hb hts in_X6 hown hT.1 (hR.one hW.1) 0 rfl rfl 7 (by decide) (hts _ q1039) (fun _ h9 => h9) rfl dX6_draw_1 ?_
  refine lv_iload_n hx hb dX6_draw_4 rfl (lv_at hl 1 rfl) ?_
  refine lv_aload_n hx hb dX6_draw_5 rfl (lv_at hl 0 rfl) ?_
  refine va_get (D := G.1) (ci := 10) (v := .ref (ta 7)) (C := RX6) (T := TX6) (N := 33) hx hb hts in_X6 hown hT.1 (hR.one hW.1) 0 rfl rfl 7 (by decide) (hts _ q1039) (fun _ h9 => h9) rfl dX6_draw_6 ?_
  refine lv_iload_n hx hb dX6_draw_9 rfl (lv_at hl 1 rfl) ?_
  refine r_iald hx hb hT hR (hW.i 7 6 (by decide) (by decide) rfl) (j := j) rfl (by omega) (by decide) dX6_draw_10 ?_
  refine W.eq (g2 := F0 m 11 ls (.int (gI S 7 j) :: [.int (nI j), .ref (ta 7)])) rfl ?_
  refine lv_ldc (v := 1103515245) hx hb hown (hts _ q1198) dX6_draw_11 ?_
  refine lv_imul hx hb dX6_draw_13 ?_
  refine lv_sipush (v := 12345) hx hb dX6_draw_14 (by decide) ?_
  refine lv_iadd hx hb dX6_draw_17 ?_
  refine W.eq (g2 := F0 m 18 ls (.int (drawC (gI S 7 j)) :: [.int (nI j), .ref (ta 7)])) (by rw [show gI S 7 j * 1103515245 + 12345 = drawC (gI S 7 j) from rfl]) ?_
  refine r_iastj hx hb hT hR hS (hW.i 7 6 (by decide) (by decide) rfl) (j := j) rfl (by omega) (by decide) dX6_draw_18 (fun H locs hz hR hS => ?_)
  obtain ⟨M, hR, hW⟩ : ∃ M1 : Mp, Rp G M1 H ∧ TR G T ta (sI S 7 j (drawC (gI S 7 j))) Y M1 := ⟨_, hR, hW.setI 7 (by decide) (by decide) j (drawC (gI S 7 j))⟩
  refine lv_aload_n hx hb dX6_draw_19 rfl (lv_at hl 0 rfl) ?_
  refine va_get (D := G.1) (ci := 10) (v := .ref (ta 7)) (C := RX6) (T := TX6) (N := 33) hx hb hts in_X6 hown hT.1 (hR.one hW.1) 0 rfl rfl 7 (by decide) (hts _ q1039) (fun _ h9 => h9) rfl dX6_draw_20 ?_
  refine lv_iload_n hx hb dX6_draw_23 rfl (lv_at hl 1 rfl) ?_
  refine r_iald hx hb hT hR (hW.i 7 6 (by decide) (by decide) rfl) (j := j) rfl (by omega) (by decide) dX6_draw_24 ?_
  refine W.eq (g2 := F0 m 25 ls (.int (drawC (gI S 7 j)) :: [])) (by simp [gI, sI, gD, sD, sF, va_up, upd, vf_upd]) ?_
  refine lv_bipush (v := 16) hx hb dX6_draw_25 (by decide) ?_
  refine lv_iushr (v := ((drawC (gI S 7 j)).toUInt32 >>> ((16 : Int32).toUInt32 &&& Int32.toUInt32 31)).toInt32) hx hb dX6_draw_27 rfl ?_
  refine lv_iload_n hx hb dX6_draw_28 rfl (lv_at hl 2 rfl) ?_
  refine lv_irem hx hb dX6_draw_29 hk ?_
  exact W.iret hx hb hr (q_ret (⟨rfl, hW⟩) hR hS) hS.2.2 dX6_draw_30
set_option maxHeartbeats 4000000 in
set_option maxRecDepth 100000 in
theorem tm_missed (l : Launch) (G : Gw) (M : Mp) (sz : Nat) (T : Nat) (ta : Nat → Nat) (S : Tw) (Y : Mp) (hW : TR G T ta S Y M) (j : Nat) (hj : j < 6) : Ct l yX6_missed cX6_missed 2 none 1 0 0 [.ref T, .int (nI j)] G M sz (fun v M1 _ => v = none ∧ TR G T ta (tMissed S j) Y M1) := by
  refine Met.ofW (cc := cX6_missed) (maxL := 2) (ret := none) (by decide) rfl ?_
  intro p e s m args below meth c s₁ B hml hv
  obtain ⟨rfl, hT, hR, hsz⟩ := hv
  have hx := B.exec
  have hb := B.bytes
  have hr := B.returns
  have hts := atoms_spec (ws := ws_ yX6_missed cX6_missed 2 none) B.pre
  have hts : ∀ w ∈ lw_all, w.before _ s = true := fun w h => hts w (List.mem_cons_of_mem _ h)
  have hown : s.vm.findClass RX6 = some m.cls := findClass_of_methodNamed B.named
  have hlocks := B.notSynchronized
  have hS : va_S (Af G) s.heap s.heap [] := va_S.rf
  have hl := lv_entry ([.ref T, .int (nI j)]) (n := 2) (Nat.le_of_ble_eq_true rfl)
  rw [lg_entry_eq]
  generalize (lg_sl ([.ref T, .int (nI j)]) ++ List.replicate (2 - (lg_sl ([.ref T, .int (nI j)])).length) Slot.unset).toArray = ls at hl ⊢
  have hl : lv_has ls 2 [(0, .ref T), (1, .int (nI j))] := hl
  refine lv_aload_n hx hb dX6_missed_0 rfl (lv_at hl 0 rfl) ?_
  refine lv_dup hx hb dX6_missed_1 rfl ?_
  refine va_get (D := G.1) (ci := 10) (v := .int (gF S 28)) (C := RX6) (T := TX6) (N := 33) hx hb hts in_X6 hown hT.1 (hR.one hW.1) 0 rfl rfl 28 (by decide) (hts _ q1060) (fun _ h9 => h9) rfl dX6_missed_2 ?_
  refine lv_iconst (v := 1) hx hb dX6_missed_5 (by decide) ?_
  refine lv_iadd hx hb dX6_missed_6 ?_
  refine r_put (ci := 10) (v := .int ((gF S 28) + 1)) (ty := .int) (C := RX6) (T := TX6) (N := 33) hx hb hts in_X6 tyX6 tyX6_ok nmX6 hown hT hR hS hW.1 rfl 28 (by decide) (hts _ q1060) (fun _ h9 => h9) rfl (by decide +kernel) rfl rfl (Nat.le_of_ble_eq_true rfl) dX6_missed_7 (fun H locs hz hR hS => ?_)
  obtain ⟨M, hR, hW⟩ : ∃ M1 : Mp, Rp G M1 H ∧ TR G T ta (sF S 28 ((gF S 28) + 1)) Y M1 := ⟨_, hR, hW.setF 28 (by decide) (by decide) ((gF S 28) + 1)⟩
  refine lv_aload_n hx hb dX6_missed_10 rfl (lv_at hl 0 rfl) ?_
  refine va_get (D := G.1) (ci := 10) (v := .ref (ta 11)) (C := RX6) (T := TX6) (N := 33) hx hb hts in_X6 hown hT.1 (hR.one hW.1) 0 rfl rfl 11 (by decide) (hts _ q1043) (fun _ h9 => h9) rfl dX6_missed_11 ?_
  refine lv_iload_n hx hb dX6_missed_14 rfl (lv_at hl 1 rfl) ?_
  refine lv_dup2_11 hx hb dX6_missed_15 rfl rfl ?_
  refine r_iald hx hb hT hR (hW.i 11 6 (by decide) (by decide) rfl) (j := j) rfl (by omega) (by decide) dX6_missed_16 ?_
  refine W.eq (g2 := F0 m 17 ls (.int (gI S 11 j) :: [.int (nI j), .ref (ta 11)])) rfl ?_
  refine lv_iconst (v := 1) hx hb dX6_missed_17 (by decide) ?_
  refine lv_iadd hx hb dX6_missed_18 ?_
  refine r_iastj hx hb hT hR hS (hW.i 11 6 (by decide) (by decide) rfl) (j := j) rfl (by omega) (by decide) dX6_missed_19 (fun H locs hz hR hS => ?_)
  obtain ⟨M, hR, hW⟩ : ∃ M1 : Mp, Rp G M1 H ∧ TR G T ta (sI (sF S 28 ((gF S 28) + 1)) 11 j ((gI S 11 j) + 1)) Y M1 := ⟨_, hR, hW.setI 11 (by decide) (by decide) j ((gI S 11 j) + 1)⟩
  refine lv_aload_n hx hb dX6_missed_20 rfl (lv_at hl 0 rfl) ?_
  refine va_get (D := G.1) (ci := 10) (v := .ref (ta 11)) (C := RX6) (T := TX6) (N := 33) hx hb hts in_X6 hown hT.1 (hR.one hW.1) 0 rfl rfl 11 (by decide) (hts _ q1043) (fun _ h9 => h9) rfl dX6_missed_21 ?_
  refine lv_iload_n hx hb dX6_missed_24 rfl (lv_at hl 1 rfl) ?_
  refine r_iald hx hb hT hR (hW.i 11 6 (by decide) (by decide) rfl) (j := j) rfl (by omega) (by decide) dX6_missed_25 ?_
  refine W.eq (g2 := F0 m 26 ls (.int ((gI S 11 j) + 1) :: [])) (by simp [gI, sI, gD, sD, sF, va_up, upd, vf_upd]) ?_
  refine lv_iconst (v := 3) hx hb dX6_missed_26 (by decide) ?_
  refine lv_icmp_ne (tgt := 35) hx hb dX6_missed_27 (by decide) (fun c_1 => ?_) (fun c_1 => ?_)
  · skip
    exact W.vret hx hb hr (q_ret (⟨rfl, TR.eq ((if_neg c_1).trans (rfl)) hW⟩) hR hS) hS.2.2 dX6_missed_35
  · skip
    refine lv_aload_n hx hb dX6_missed_30 rfl (lv_at hl 0 rfl) ?_
    refine lv_iload_n hx hb dX6_missed_31 rfl (lv_at hl 1 rfl) ?_
    refine g_call (va_runV (As := [.int (nI j)]) (rest := []) ⟨hx, hb, hml, hown, hts⟩ (tm_seek l G M _ T ta (sI (sF S 28 ((gF S 28) + 1)) 11 j ((gI S 11 j) + 1)) Y hW j (by omega)) (cwV 1 hts (lw_V q1150 q1152 qs20 q61 q1153) rfl rfl rfl (by decide +kernel) ⟨Nat.le_of_ble_eq_true rfl, Nat.le_of_ble_eq_true rfl⟩) (preV hT hR hS hW.1 rfl rfl) rfl rfl hl.1 rfl (lv_room (Nat.le_of_ble_eq_true rfl)) dX6_missed_32 ⟨Nat.le_of_ble_eq_true rfl, Nat.le_of_ble_eq_true rfl⟩) hS (fun v M H locs hq hR hz hS => ?_)
    obtain ⟨rfl, hW⟩ := hq
    refine W.eq (g2 := F0 m 35 ls []) rfl ?_
    exact W.vret hx hb hr (q_ret (⟨rfl, TR.eq ((if_pos c_1).trans (rfl)) hW⟩) hR hS) hS.2.2 dX6_missed_35
set_option maxHeartbeats 4000000 in
set_option maxRecDepth 100000 in
theorem tm_heard (l : Launch) (G : Gw) (M : Mp) (sz : Nat) (T : Nat) (ta : Nat → Nat) (S : Tw) (Y : Mp) (hW : TR G T ta S Y M) (j : Nat) (hj : j < 6) (hok : okM S j) : Ct l yX6_heard cX6_heard 7 none 2 0 0 [.ref T, .int (nI j)] G M sz (fun v M1 _ => v = none ∧ TR G T ta (tHeard S j) Y M1) := by
  refine Met.ofW (cc := cX6_heard) (maxL := 7) (ret := none) (by decide) rfl ?_
  intro p e s m args below meth c s₁ B hml hv
  obtain ⟨rfl, hT, hR, hsz⟩ := hv
  have hx := B.exec
  have hb := B.bytes
  have hr := B.returns
  have hts := atoms_spec (ws := ws_ yX6_heard cX6_heard 7 none) B.pre
  have hts : ∀ w ∈ lw_all, w.before _ s = true := fun w h => hts w (List.mem_cons_of_mem _ h)
  have hown : s.vm.findClass RX6 = some m.cls := findClass_of_methodNamed B.named
  have hlocks := B.notSynchronized
  have hS : va_S (Af G) s.heap s.heap [] := va_S.rf
  have hl := lv_entry ([.ref T, .int (nI j)]) (n := 7) (Nat.le_of_ble_eq_true rfl)
  rw [lg_entry_eq]
  generalize (lg_sl ([.ref T, .int (nI j)]) ++ List.replicate (7 - (lg_sl ([.ref T, .int (nI j)])).length) Slot.unset).toArray = ls at hl ⊢
  have hl : lv_has ls 7 [(0, .ref T), (1, .int (nI j))] := hl
  refine lv_aload_n hx hb dX6_heard_0 rfl (lv_at hl 0 rfl) ?_
  refine lv_iload_n hx hb dX6_heard_1 rfl (lv_at hl 1 rfl) ?_
  refine g_pure (va_runV (As := [.int (nI j)]) (rest := []) ⟨hx, hb, hml, hown, hts⟩ (tm_fine l G M _ T ta S Y hW j (by omega) hok) (cwV 1 hts (lw_V q1175 q1177 qs23 q61 q1178) rfl rfl rfl (by decide +kernel) ⟨Nat.le_of_ble_eq_true rfl, Nat.le_of_ble_eq_true rfl⟩) (preV hT hR hS hW.1 rfl rfl) rfl rfl hl.1 rfl (lv_room (Nat.le_of_ble_eq_true rfl)) dX6_heard_2 ⟨Nat.le_of_ble_eq_true rfl, Nat.le_of_ble_eq_true rfl⟩) ?_
  refine W.eq (g2 := F0 m 5 ls [.int (bI (tFine S j))]) rfl ?_
  refine lv_istore_n (lv' := [(2, .int (bI (tFine S j))), (0, .ref T), (1, .int (nI j))]) hx hb dX6_heard_5 rfl hl (by decide) rfl (fun ls hl => ?_)
  refine lv_aload_n hx hb dX6_heard_6 rfl (lv_at hl 1 rfl) ?_
  refine lv_iload_n hx hb dX6_heard_7 rfl (lv_at hl 2 rfl) ?_
  refine g_pure (va_runV (As := [.int (nI j)]) (rest := []) ⟨hx, hb, hml, hown, hts⟩ (tm_late l G M _ T ta S Y hW j (by omega) hok) (cwV 1 hts (lw_V q1179 q1181 qs24 q61 q1182) rfl rfl rfl (by decide +kernel) ⟨Nat.le_of_ble_eq_true rfl, Nat.le_of_ble_eq_true rfl⟩) (preV hT hR hS hW.1 rfl rfl) rfl rfl hl.1 rfl (lv_room (Nat.le_of_ble_eq_true rfl)) dX6_heard_8 ⟨Nat.le_of_ble_eq_true rfl, Nat.le_of_ble_eq_true rfl⟩) ?_
  refine W.eq (g2 := F0 m 11 ls [.double (tLate S j)]) rfl ?_
  refine lv_dstore_n (lv' := [(3, .double (tLate S j)), (2, .int (bI (tFine S j))), (0, .ref T), (1, .int (nI j))]) hx hb dX6_heard_11 rfl hl (by decide) rfl (fun ls hl => ?_)
  refine lv_aload_n hx hb dX6_heard_12 rfl (lv_at hl 2 rfl) ?_
  refine lv_iload_n hx hb dX6_heard_13 rfl (lv_at hl 3 rfl) ?_
  refine g_pure (va_runV (As := [.int (nI j)]) (rest := []) ⟨hx, hb, hml, hown, hts⟩ (tm_strong l G M _ T ta S Y hW j (by omega) hok) (cwV 1 hts (lw_V q1189 q1191 qs26 q61 q1192) rfl rfl rfl (by decide +kernel) ⟨Nat.le_of_ble_eq_true rfl, Nat.le_of_ble_eq_true rfl⟩) (preV hT hR hS hW.1 rfl rfl) rfl rfl hl.1 rfl (lv_room (Nat.le_of_ble_eq_true rfl)) dX6_heard_14 ⟨Nat.le_of_ble_eq_true rfl, Nat.le_of_ble_eq_true rfl⟩) ?_
  refine W.eq (g2 := F0 m 17 ls [.double (tStrong S j)]) rfl ?_
  refine lv_dstore (lv' := [(5, .double (tStrong S j)), (3, .double (tLate S j)), (2, .int (bI (tFine S j))), (0, .ref T), (1, .int (nI j))]) hx hb dX6_heard_17 hl (by decide) rfl (fun ls hl => ?_)
  refine lv_aload_n hx hb dX6_heard_19 rfl (lv_at hl 3 rfl) ?_
  refine va_get (D := G.1) (ci := 10) (v := .ref (ta 2)) (C := RX6) (T := TX6) (N := 33) hx hb hts in_X6 hown hT.1 (hR.one hW.1) 0 rfl rfl 2 (by decide) (hts _ q1034) (fun _ h9 => h9) rfl dX6_heard_20 ?_
  refine lv_iload_n hx hb dX6_heard_23 rfl (lv_at hl 4 rfl) ?_
  refine lv_aload_n hx hb dX6_heard_24 rfl (lv_at hl 3 rfl) ?_
  refine va_get (D := G.1) (ci := 10) (v := .ref (ta 2)) (C := RX6) (T := TX6) (N := 33) hx hb hts in_X6 hown hT.1 (hR.one hW.1) 0 rfl rfl 2 (by decide) (hts _ q1034) (fun _ h9 => h9) rfl dX6_heard_25 ?_
  refine lv_iload_n hx hb dX6_heard_28 rfl (lv_at hl 4 rfl) ?_
  refine r_dald hx hb hT hR (hW.d 2 6 (by decide) rfl) (j := j) rfl (by omega) (by decide) dX6_heard_29 ?_
  refine W.eq (g2 := F0 m 30 ls (.double (gD S 2 j) :: [.int (nI j), .ref (ta 2)])) rfl ?_
  refine lv_dload_n hx hb dX6_heard_30 rfl (lv_at hl 1 rfl) ?_
  refine lv_ldc2d (v := c075) hx hb hown (hts _ q1193) dX6_heard_31 ?_
  refine lv_dmul hx hb dX6_heard_34 hok.2.2.1 ?_
  refine lv_dadd hx hb dX6_heard_35 hok.2.2.2.1 ?_
  refine r_dastj hx hb hT hR hS (hW.d 2 6 (by decide) rfl) (j := j) rfl (by omega) (by decide) dX6_heard_36 (fun H locs hz hR hS => ?_)
  obtain ⟨M, hR, hW⟩ : ∃ M1 : Mp, Rp G M1 H ∧ TR G T ta (sD S 2 j (FP.dadd (gD S 2 j) (FP.dmul (tLate S j) c075))) Y M1 := ⟨_, hR, hW.setD 2 (by decide) j (FP.dadd (gD S 2 j) (FP.dmul (tLate S j) c075))⟩
  refine lv_aload_n hx hb dX6_heard_37 rfl (lv_at hl 3 rfl) ?_
  refine va_get (D := G.1) (ci := 10) (v := .ref (ta 3)) (C := RX6) (T := TX6) (N := 33) hx hb hts in_X6 hown hT.1 (hR.one hW.1) 0 rfl rfl 3 (by decide) (hts _ q1035) (fun _ h9 => h9) rfl dX6_heard_38 ?_
  refine lv_iload_n hx hb dX6_heard_41 rfl (lv_at hl 4 rfl) ?_
  refine lv_aload_n hx hb dX6_heard_42 rfl (lv_at hl 3 rfl) ?_
  refine va_get (D := G.1) (ci := 10) (v := .ref (ta 3)) (C := RX6) (T := TX6) (N := 33) hx hb hts in_X6 hown hT.1 (hR.one hW.1) 0 rfl rfl 3 (by decide) (hts _ q1035) (fun _ h9 => h9) rfl dX6_heard_43 ?_
  refine lv_iload_n hx hb dX6_heard_46 rfl (lv_at hl 4 rfl) ?_
  refine r_dald hx hb hT hR (hW.d 3 6 (by decide) rfl) (j := j) rfl (by omega) (by decide) dX6_heard_47 ?_
  refine W.eq (g2 := F0 m 48 ls (.double (gD S 3 j) :: [.int (nI j), .ref (ta 3)])) rfl ?_
  refine lv_dload hx hb dX6_heard_48 (lv_at hl 0 rfl) ?_
  refine lv_ldc2d (v := c075) hx hb hown (hts _ q1193) dX6_heard_50 ?_
  refine lv_dmul hx hb dX6_heard_53 hok.2.2.2.2.1 ?_
  refine lv_dsub hx hb dX6_heard_54 hok.2.2.2.2.2 ?_
  refine r_dastj hx hb hT hR hS (hW.d 3 6 (by decide) rfl) (j := j) rfl (by omega) (by decide) dX6_heard_55 (fun H locs hz hR hS => ?_)
  obtain ⟨M, hR, hW⟩ : ∃ M1 : Mp, Rp G M1 H ∧ TR G T ta (sD (sD S 2 j (FP.dadd (gD S 2 j) (FP.dmul (tLate S j) c075))) 3 j (FP.dsub (gD S 3 j) (FP.dmul (tStrong S j) c075))) Y M1 := ⟨_, hR, hW.setD 3 (by decide) j (FP.dsub (gD S 3 j) (FP.dmul (tStrong S j) c075))⟩
  refine lv_iload_n hx hb dX6_heard_56 rfl (lv_at hl 2 rfl) ?_
  refine lv_if_ne (tgt := 61) hx hb dX6_heard_57 (by decide) (fun c_1 => ?_) (fun c_1 => ?_)
  · skip
    have c_1 := b_n0 c_1
    refine lv_aload_n hx hb dX6_heard_61 rfl (lv_at hl 3 rfl) ?_
    refine va_get (D := G.1) (ci := 10) (v := .ref (ta 6)) (C := RX6) (T := TX6) (N := 33) hx hb hts in_X6 hown hT.1 (hR.one hW.1) 0 rfl rfl 6 (by decide) (hts _ q1038) (fun _ h9 => h9) rfl dX6_heard_62 ?_
    refine lv_iload_n hx hb dX6_heard_65 rfl (lv_at hl 4 rfl) ?_
    refine lv_iconst (v := 2) hx hb dX6_heard_66 (by decide) ?_
    refine r_iastj hx hb hT hR hS (hW.i 6 6 (by decide) (by decide) rfl) (j := j) rfl (by omega) (by decide) dX6_heard_67 (fun H locs hz hR hS => ?_)
    obtain ⟨M, hR, hW⟩ : ∃ M1 : Mp, Rp G M1 H ∧ TR G T ta (sI (sD (sD S 2 j (FP.dadd (gD S 2 j) (FP.dmul (tLate S j) c075))) 3 j (FP.dsub (gD S 3 j) (FP.dmul (tStrong S j) c075))) 6 j 2) Y M1 := ⟨_, hR, hW.setI 6 (by decide) (by decide) j 2⟩
    refine lv_aload_n hx hb dX6_heard_68 rfl (lv_at hl 3 rfl) ?_
    refine va_get (D := G.1) (ci := 10) (v := .ref (ta 8)) (C := RX6) (T := TX6) (N := 33) hx hb hts in_X6 hown hT.1 (hR.one hW.1) 0 rfl rfl 8 (by decide) (hts _ q1040) (fun _ h9 => h9) rfl dX6_heard_69 ?_
    refine lv_iload_n hx hb dX6_heard_72 rfl (lv_at hl 4 rfl) ?_
    refine lv_aload_n hx hb dX6_heard_73 rfl (lv_at hl 3 rfl) ?_
    refine va_get (D := G.1) (ci := 10) (v := .int (gF S 22)) (C := RX6) (T := TX6) (N := 33) hx hb hts in_X6 hown hT.1 (hR.one hW.1) 0 rfl rfl 22 (by decide) (hts _ q1054) (fun _ h9 => h9) rfl dX6_heard_74 ?_
    refine r_iastj hx hb hT hR hS (hW.i 8 6 (by decide) (by decide) rfl) (j := j) rfl (by omega) (by decide) dX6_heard_77 (fun H locs hz hR hS => ?_)
    obtain ⟨M, hR, hW⟩ : ∃ M1 : Mp, Rp G M1 H ∧ TR G T ta (sI (sI (sD (sD S 2 j (FP.dadd (gD S 2 j) (FP.dmul (tLate S j) c075))) 3 j (FP.dsub (gD S 3 j) (FP.dmul (tStrong S j) c075))) 6 j 2) 8 j (gF S 22)) Y M1 := ⟨_, hR, hW.setI 8 (by decide) (by decide) j (gF S 22)⟩
    refine lv_aload_n hx hb dX6_heard_78 rfl (lv_at hl 3 rfl) ?_
    refine va_get (D := G.1) (ci := 10) (v := .ref (ta 10)) (C := RX6) (T := TX6) (N := 33) hx hb hts in_X6 hown hT.1 (hR.one hW.1) 0 rfl rfl 10 (by decide) (hts _ q1042) (fun _ h9 => h9) rfl dX6_heard_79 ?_
    refine lv_iload_n hx hb dX6_heard_82 rfl (lv_at hl 4 rfl) ?_
    refine lv_iconst (v := 0) hx hb dX6_heard_83 (by decide) ?_
    refine r_iastj hx hb hT hR hS (hW.i 10 6 (by decide) (by decide) rfl) (j := j) rfl (by omega) (by decide) dX6_heard_84 (fun H locs hz hR hS => ?_)
    obtain ⟨M, hR, hW⟩ : ∃ M1 : Mp, Rp G M1 H ∧ TR G T ta (sI (sI (sI (sD (sD S 2 j (FP.dadd (gD S 2 j) (FP.dmul (tLate S j) c075))) 3 j (FP.dsub (gD S 3 j) (FP.dmul (tStrong S j) c075))) 6 j 2) 8 j (gF S 22)) 10 j 0) Y M1 := ⟨_, hR, hW.setI 10 (by decide) (by decide) j 0⟩
    refine lv_aload_n hx hb dX6_heard_85 rfl (lv_at hl 3 rfl) ?_
    refine va_get (D := G.1) (ci := 10) (v := .ref (ta 11)) (C := RX6) (T := TX6) (N := 33) hx hb hts in_X6 hown hT.1 (hR.one hW.1) 0 rfl rfl 11 (by decide) (hts _ q1043) (fun _ h9 => h9) rfl dX6_heard_86 ?_
    refine lv_iload_n hx hb dX6_heard_89 rfl (lv_at hl 4 rfl) ?_
    refine lv_iconst (v := 0) hx hb dX6_heard_90 (by decide) ?_
    refine r_iastj hx hb hT hR hS (hW.i 11 6 (by decide) (by decide) rfl) (j := j) rfl (by omega) (by decide) dX6_heard_91 (fun H locs hz hR hS => ?_)
    obtain ⟨M, hR, hW⟩ : ∃ M1 : Mp, Rp G M1 H ∧ TR G T ta (sI (sI (sI (sI (sD (sD S 2 j (FP.dadd (gD S 2 j) (FP.dmul (tLate S j) c075))) 3 j (FP.dsub (gD S 3 j) (FP.dmul (tStrong S j) c075))) 6 j 2) 8 j (gF S 22)) 10 j 0) 11 j 0) Y M1 := ⟨_, hR, hW.setI 11 (by decide) (by decide) j 0⟩
    exact W.vret hx hb hr (q_ret (⟨rfl, TR.eq ((if_pos c_1).trans (rfl)) hW⟩) hR hS) hS.2.2 dX6_heard_92
  · skip
    have c_1 := b_0 c_1
    exact W.vret hx hb hr (q_ret (⟨rfl, TR.eq ((if_neg c_1).trans (rfl)) hW⟩) hR hS) hS.2.2 dX6_heard_60
