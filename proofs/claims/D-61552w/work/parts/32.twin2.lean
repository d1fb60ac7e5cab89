set_option maxHeartbeats 4000000 in
set_option maxRecDepth 100000 in
theorem tm_seeking (l : Launch) (G : Gw) (M : Mp) (sz : Nat) (T : Nat) (ta : Nat → Nat) (S : Tw) (Y : Mp) (hW : TR G T ta S Y M) (hok : OkD S) : Ct l yX6_seeking cX6_seeking 4 none 3 0 0 [.ref T] G M sz (fun v M1 _ => v = none ∧ TR G T ta (tSeeking S) Y M1) := by
  refine Met.ofW (cc := cX6_seeking) (maxL := 4) (ret := none) (by decide) rfl ?_
  intro p e s m args below meth c s₁ B hml hv
  obtain ⟨rfl, hT, hR, hsz⟩ := hv
  have hx := B.exec
  have hb := B.bytes
  have hr := B.returns
  have hts := atoms_spec (ws := ws_ yX6_seeking cX6_seeking 4 none) B.pre
  have hts : ∀ w ∈ lw_all, w.before _ s = true := fun w h => hts w (List.mem_cons_of_mem _ h)
  have hown : s.vm.findClass RX6 = some m.cls := findClass_of_methodNamed B.named
  have hlocks := B.notSynchronized
  have hS : va_S (Af G) s.heap s.heap [] := va_S.rf
  have hl := lv_entry ([.ref T]) (n := 4) (Nat.le_of_ble_eq_true rfl)
  rw [lg_entry_eq]
  generalize (lg_sl ([.ref T]) ++ List.replicate (4 - (lg_sl ([.ref T])).length) Slot.unset).toArray = ls at hl ⊢
  have hl : lv_has ls 4 [(0, .ref T)] := hl
  refine lv_iconst (v := 0) hx hb dX6_seeking_0 (by decide) ?_
  refine lv_istore_n (lv' := [(1, .int 0), (0, .ref T)]) hx hb dX6_seeking_1 rfl hl (by decide) rfl (fun ls hl => ?_)
  refine lv_iconst (v := 0) hx hb dX6_seeking_2 (by decide) ?_
  refine lv_istore_n (lv' := [(2, .int 0), (1, .int 0), (0, .ref T)]) hx hb dX6_seeking_3 rfl hl (by decide) rfl (fun ls hl => ?_)
  refine lv_iconst (v := 0) hx hb dX6_seeking_4 (by decide) ?_
  refine lv_istore_n (lv' := [(3, .int 0), (2, .int 0), (1, .int 0), (0, .ref T)]) hx hb dX6_seeking_5 rfl hl (by decide) rfl (fun ls hl => ?_)
  have k6 : ∀ (n : Nat) (i : Nat) (x : Tw × Nat × Nat) (M : Mp) (H : Heap) (locs : List Loc) (ls : Array Slot), (i ≤ 6) → (6 < i + n) → (x = it tSk1 i (S, 0, 0)) → (x.2.1 ≤ i) → (x.2.2 < 6) → (OkD x.1) → (TR G T ta x.1 Y M) → Rp G M H → va_S (Af G) s.heap H locs → lv_has ls 4 [(0, .ref T), (1, .int (nI x.2.1)), (2, .int (nI x.2.2)), (3, .int (nI i))] → W p l e (headSpec (ws_ yX6_seeking cX6_seeking 4 none) (rmL 3 0 0)).room s m ([.ref T] : List Value).toArray below meth c H locs 0 0 (MQ below (Qg G (fun v M1 _ => v = none ∧ TR G T ta (tSeeking S) Y M1)) ([.ref T] : List Value).toArray s 0 0 (Af G)) (F0 m 6 ls []) := by
    intro n
    induction n with
    | zero =>
      intro i x M H locs ls hi hf hX hn hla hok hW hR hS hl
      exact absurd hf (by omega)
    | succ n ih_k6 =>
      intro i x M H locs ls hi hf hX hn hla hok hW hR hS hl
      refine lv_iload_n hx hb dX6_seeking_6 rfl (lv_at hl 3 rfl) ?_
      refine lv_bipush (v := 6) hx hb dX6_seeking_7 (by decide) ?_
      refine lv_icmp_ge (tgt := 79) hx hb dX6_seeking_9 (by decide) (fun c_1 => ?_) (fun c_1 => ?_)
      · skip
        have c_1 := (leN (a := 6) (b := i) rfl rfl (by omega) (by omega)).mp c_1
        obtain rfl : i = 6 := by omega
        have hE : tSeeking S = tSkEnd x := congrArg tSkEnd hX.symm
        refine lv_iload_n hx hb dX6_seeking_79 rfl (lv_at hl 1 rfl) ?_
        refine lv_iconst (v := 1) hx hb dX6_seeking_80 (by decide) ?_
        refine lv_icmp_ne (tgt := 89) hx hb dX6_seeking_81 (by decide) (fun c_2 => ?_) (fun c_2 => ?_)
        · skip
          refine lv_iload_n hx hb dX6_seeking_89 rfl (lv_at hl 1 rfl) ?_
          refine lv_iconst (v := 2) hx hb dX6_seeking_90 (by decide) ?_
          refine lv_icmp_ge (tgt := 95) hx hb dX6_seeking_91 (by decide) (fun c_3 => ?_) (fun c_3 => ?_)
          · skip
            refine lv_aload_n hx hb dX6_seeking_95 rfl (lv_at hl 0 rfl) ?_
            refine lv_dup hx hb dX6_seeking_96 rfl ?_
            refine va_get (D := G.1) (ci := 10) (v := .int (gF x.1 26)) (C := RX6) (T := TX6) (N := 33) hx hb hts in_X6 hown hT.1 (hR.one hW.1) 0 rfl rfl 26 (by decide) (hts _ q1058) (fun _ h9 => h9) rfl dX6_seeking_97 ?_
            refine lv_iconst (v := 1) hx hb dX6_seeking_100 (by decide) ?_
            refine lv_iadd hx hb dX6_seeking_101 ?_
            refine r_put (ci := 10) (v := .int ((gF x.1 26) + 1)) (ty := .int) (C := RX6) (T := TX6) (N := 33) hx hb hts in_X6 tyX6 tyX6_ok nmX6 hown hT hR hS hW.1 rfl 26 (by decide) (hts _ q1058) (fun _ h9 => h9) rfl (by decide +kernel) rfl rfl (Nat.le_of_ble_eq_true rfl) dX6_seeking_102 (fun H locs hz hR hS => ?_)
            obtain ⟨M, hR, hW⟩ : ∃ M1 : Mp, Rp G M1 H ∧ TR G T ta (sF x.1 26 ((gF x.1 26) + 1)) Y M1 := ⟨_, hR, hW.setF 26 (by decide) (by decide) ((gF x.1 26) + 1)⟩
            refine lv_iconst (v := 0) hx hb dX6_seeking_105 (by decide) ?_
            refine lv_istore_n (lv' := [(3, .int 0), (0, .ref T), (1, .int (nI x.2.1)), (2, .int (nI x.2.2))]) hx hb dX6_seeking_106 rfl hl (by decide) rfl (fun ls hl => ?_)
            have hE2 : tSeeking S = it tSk2 6 (sF x.1 26 ((gF x.1 26) + 1)) := hE.trans ((if_neg c_2).trans ((if_pos c_3).trans (rfl)))
            have k107 : ∀ (n : Nat) (i : Nat) (S1 : Tw) (M : Mp) (H : Heap) (locs : List Loc) (ls : Array Slot), (i ≤ 6) → (6 < i + n) → (S1 = it tSk2 i (sF x.1 26 ((gF x.1 26) + 1))) → (TR G T ta S1 Y M) → Rp G M H → va_S (Af G) s.heap H locs → lv_has ls 4 [(0, .ref T), (3, .int (nI i))] → W p l e (headSpec (ws_ yX6_seeking cX6_seeking 4 none) (rmL 3 0 0)).room s m ([.ref T] : List Value).toArray below meth c H locs 0 0 (MQ below (Qg G (fun v M1 _ => v = none ∧ TR G T ta (tSeeking S) Y M1)) ([.ref T] : List Value).toArray s 0 0 (Af G)) (F0 m 107 ls []) := by
              intro n
              induction n with
              | zero =>
                intro i S1 M H locs ls hi hf hX hW hR hS hl
                exact absurd hf (by omega)
              | succ n ih_k107 =>
                intro i S1 M H locs ls hi hf hX hW hR hS hl
                refine lv_iload_n hx hb dX6_seeking_107 rfl (lv_at hl 1 rfl) ?_
                refine lv_bipush (v := 6) hx hb dX6_seeking_108 (by decide) ?_
                refine lv_icmp_ge (tgt := 141) hx hb dX6_seeking_110 (by decide) (fun c_4 => ?_) (fun c_4 => ?_)
                · skip
                  have c_4 := (leN (a := 6) (b := i) rfl rfl (by omega) (by omega)).mp c_4
                  obtain rfl : i = 6 := by omega
                  exact W.vret hx hb hr (q_ret (⟨rfl, TR.eq (hE2.trans hX.symm) hW⟩) hR hS) hS.2.2 dX6_seeking_141
                · skip
                  have c_4 := (not_congr (leN (a := 6) (b := i) rfl rfl (by omega) (by omega))).mp c_4
                  refine lv_aload_n hx hb dX6_seeking_113 rfl (lv_at hl 0 rfl) ?_
                  refine va_get (D := G.1) (ci := 10) (v := .ref (ta 20)) (C := RX6) (T := TX6) (N := 33) hx hb hts in_X6 hown hT.1 (hR.one hW.1) 0 rfl rfl 20 (by decide) (hts _ q1052) (fun _ h9 => h9) rfl dX6_seeking_114 ?_
                  refine lv_iload_n hx hb dX6_seeking_117 rfl (lv_at hl 1 rfl) ?_
                  refine r_iald hx hb hT hR (hW.i 20 6 (by decide) (by decide) rfl) (j := i) rfl (by omega) (by decide) dX6_seeking_118 ?_
                  refine W.eq (g2 := F0 m 119 ls (.int (gI S1 20 i) :: [])) rfl ?_
                  refine lv_iconst (v := 1) hx hb dX6_seeking_119 (by decide) ?_
                  refine lv_icmp_ne (tgt := 135) hx hb dX6_seeking_120 (by decide) (fun c_5 => ?_) (fun c_5 => ?_)
                  · skip
                    refine lv_iinc (v := nI (i + 1)) (lv' := [(3, .int (nI (i + 1))), (0, .ref T)]) hx hb dX6_seeking_135 hl (k := 1) rfl (addN rfl rfl) (by decide) rfl (fun ls hl => ?_)
                    refine lv_goto (tgt := 107) hx hb dX6_seeking_138 (by decide) ?_
                    exact ih_k107 (i + 1) S1 _ _ _ _ (by omega) (by omega) (it_next hX ((if_neg c_5).trans (rfl))) hW hR hS (lv_sub hl [1, 0] rfl)
                  · skip
                    refine lv_aload_n hx hb dX6_seeking_123 rfl (lv_at hl 0 rfl) ?_
                    refine va_get (D := G.1) (ci := 10) (v := .ref (ta 9)) (C := RX6) (T := TX6) (N := 33) hx hb hts in_X6 hown hT.1 (hR.one hW.1) 0 rfl rfl 9 (by decide) (hts _ q1041) (fun _ h9 => h9) rfl dX6_seeking_124 ?_
                    refine lv_iload_n hx hb dX6_seeking_127 rfl (lv_at hl 1 rfl) ?_
                    refine lv_aload_n hx hb dX6_seeking_128 rfl (lv_at hl 0 rfl) ?_
                    refine lv_iload_n hx hb dX6_seeking_129 rfl (lv_at hl 1 rfl) ?_
                    refine lv_iconst (v := 4) hx hb dX6_seeking_130 (by decide) ?_
                    refine g_call (va_runV (As := [.int (nI i), .int 4]) (rest := [.int (nI i), .ref (ta 9)]) ⟨hx, hb, hml, hown, hts⟩ (tm_draw l G M _ T ta S1 Y hW i 4 (by omega) (by decide)) (cwV 2 hts (lw_V q1194 q1196 qs27 q61 q1197) rfl rfl rfl (by decide +kernel) ⟨Nat.le_of_ble_eq_true rfl, Nat.le_of_ble_eq_true rfl⟩) (preV hT hR hS hW.1 rfl rfl) rfl rfl hl.1 rfl (lv_room (Nat.le_of_ble_eq_true rfl)) dX6_seeking_131 ⟨Nat.le_of_ble_eq_true rfl, Nat.le_of_ble_eq_true rfl⟩) hS (fun v M H locs hq hR hz hS => ?_)
                    obtain ⟨rfl, hW⟩ := hq
                    refine W.eq (g2 := F0 m 134 ls [.int (drawR (gI S1 7 i) 4), .int (nI i), .ref (ta 9)]) rfl ?_
                    refine r_iastj hx hb hT hR hS (hW.i 9 6 (by decide) (by decide) rfl) (j := i) rfl (by omega) (by decide) dX6_seeking_134 (fun H locs hz hR hS => ?_)
                    obtain ⟨M, hR, hW⟩ : ∃ M1 : Mp, Rp G M1 H ∧ TR G T ta (sI (tDraw S1 i) 9 i (drawR (gI S1 7 i) 4)) Y M1 := ⟨_, hR, hW.setI 9 (by decide) (by decide) i (drawR (gI S1 7 i) 4)⟩
                    refine lv_iinc (v := nI (i + 1)) (lv' := [(3, .int (nI (i + 1))), (0, .ref T)]) hx hb dX6_seeking_135 hl (k := 1) rfl (addN rfl rfl) (by decide) rfl (fun ls hl => ?_)
                    refine lv_goto (tgt := 107) hx hb dX6_seeking_138 (by decide) ?_
                    exact ih_k107 (i + 1) (sI (tDraw S1 i) 9 i (drawR (gI S1 7 i) 4)) _ _ _ _ (by omega) (by omega) (it_next hX ((if_pos c_5).trans (rfl))) hW hR hS (lv_sub hl [1, 0] rfl)
            exact k107 7 0 _ _ _ _ _ (by omega) (by omega) rfl hW hR hS (lv_sub hl [1, 0] rfl)
          · skip
            exact W.vret hx hb hr (q_ret (⟨rfl, TR.eq (hE.trans ((if_neg c_2).trans ((if_neg c_3).trans (rfl)))) hW⟩) hR hS) hS.2.2 dX6_seeking_94
        · skip
          refine lv_aload_n hx hb dX6_seeking_84 rfl (lv_at hl 0 rfl) ?_
          refine lv_iload_n hx hb dX6_seeking_85 rfl (lv_at hl 2 rfl) ?_
          refine g_call (va_runV (As := [.int (nI x.2.2)]) (rest := []) ⟨hx, hb, hml, hown, hts⟩ (tm_heard l G M _ T ta x.1 Y hW x.2.2 (by omega) (hok x.2.2 (by omega))) (cwV 1 hts (lw_V q1171 q1173 qs22 q61 q1174) rfl rfl rfl (by decide +kernel) ⟨Nat.le_of_ble_eq_true rfl, Nat.le_of_ble_eq_true rfl⟩) (preV hT hR hS hW.1 rfl rfl) rfl rfl hl.1 rfl (lv_room (Nat.le_of_ble_eq_true rfl)) dX6_seeking_86 ⟨Nat.le_of_ble_eq_true rfl, Nat.le_of_ble_eq_true rfl⟩) hS (fun v M H locs hq hR hz hS => ?_)
          obtain ⟨rfl, hW⟩ := hq
          refine W.eq (g2 := F0 m 89 ls []) rfl ?_
          refine lv_iload_n hx hb dX6_seeking_89 rfl (lv_at hl 1 rfl) ?_
          refine lv_iconst (v := 2) hx hb dX6_seeking_90 (by decide) ?_
          refine lv_icmp_ge (tgt := 95) hx hb dX6_seeking_91 (by decide) (fun c_6 => ?_) (fun c_6 => ?_)
          · skip
            refine lv_aload_n hx hb dX6_seeking_95 rfl (lv_at hl 0 rfl) ?_
            refine lv_dup hx hb dX6_seeking_96 rfl ?_
            refine va_get (D := G.1) (ci := 10) (v := .int (gF (tHeard x.1 x.2.2) 26)) (C := RX6) (T := TX6) (N := 33) hx hb hts in_X6 hown hT.1 (hR.one hW.1) 0 rfl rfl 26 (by decide) (hts _ q1058) (fun _ h9 => h9) rfl dX6_seeking_97 ?_
            refine lv_iconst (v := 1) hx hb dX6_seeking_100 (by decide) ?_
            refine lv_iadd hx hb dX6_seeking_101 ?_
            refine r_put (ci := 10) (v := .int ((gF (tHeard x.1 x.2.2) 26) + 1)) (ty := .int) (C := RX6) (T := TX6) (N := 33) hx hb hts in_X6 tyX6 tyX6_ok nmX6 hown hT hR hS hW.1 rfl 26 (by decide) (hts _ q1058) (fun _ h9 => h9) rfl (by decide +kernel) rfl rfl (Nat.le_of_ble_eq_true rfl) dX6_seeking_102 (fun H locs hz hR hS => ?_)
            obtain ⟨M, hR, hW⟩ : ∃ M1 : Mp, Rp G M1 H ∧ TR G T ta (sF (tHeard x.1 x.2.2) 26 ((gF (tHeard x.1 x.2.2) 26) + 1)) Y M1 := ⟨_, hR, hW.setF 26 (by decide) (by decide) ((gF (tHeard x.1 x.2.2) 26) + 1)⟩
            refine lv_iconst (v := 0) hx hb dX6_seeking_105 (by decide) ?_
            refine lv_istore_n (lv' := [(3, .int 0), (0, .ref T), (1, .int (nI x.2.1)), (2, .int (nI x.2.2))]) hx hb dX6_seeking_106 rfl hl (by decide) rfl (fun ls hl => ?_)
            have hE2 : tSeeking S = it tSk2 6 (sF (tHeard x.1 x.2.2) 26 ((gF (tHeard x.1 x.2.2) 26) + 1)) := hE.trans ((if_pos c_2).trans ((if_pos c_6).trans (rfl)))
            have k107 : ∀ (n : Nat) (i : Nat) (S1 : Tw) (M : Mp) (H : Heap) (locs : List Loc) (ls : Array Slot), (i ≤ 6) → (6 < i + n) → (S1 = it tSk2 i (sF (tHeard x.1 x.2.2) 26 ((gF (tHeard x.1 x.2.2) 26) + 1))) → (TR G T ta S1 Y M) → Rp G M H → va_S (Af G) s.heap H locs → lv_has ls 4 [(0, .ref T), (3, .int (nI i))] → W p l e (headSpec (ws_ yX6_seeking cX6_seeking 4 none) (rmL 3 0 0)).room s m ([.ref T] : List Value).toArray below meth c H locs 0 0 (MQ below (Qg G (fun v M1 _ => v = none ∧ TR G T ta (tSeeking S) Y M1)) ([.ref T] : List Value).toArray s 0 0 (Af G)) (F0 m 107 ls []) := by
              intro n
              induction n with
              | zero =>
                intro i S1 M H locs ls hi hf hX hW hR hS hl
                exact absurd hf (by omega)
              | succ n ih_k107 =>
                intro i S1 M H locs ls hi hf hX hW hR hS hl
                refine lv_iload_n hx hb dX6_seeking_107 rfl (lv_at hl 1 rfl) ?_
                refine lv_bipush (v := 6) hx hb dX6_seeking_108 (by decide) ?_
                refine lv_icmp_ge (tgt := 141) hx hb dX6_seeking_110 (by decide) (fun c_7 => ?_) (fun c_7 => ?_)
                · skip
                  have c_7 := (leN (a := 6) (b := i) rfl rfl (by omega) (by omega)).mp c_7
                  obtain rfl : i = 6 := by omega
                  exact W.vret hx hb hr (q_ret (⟨rfl, TR.eq (hE2.trans hX.symm) hW⟩) hR hS) hS.2.2 dX6_seeking_141
                · skip
                  have c_7 := (not_congr (leN (a := 6) (b := i) rfl rfl (by omega) (by omega))).mp c_7
                  refine lv_aload_n hx hb dX6_seeking_113 rfl (lv_at hl 0 rfl) ?_
                  refine va_get (D := G.1) (ci := 10) (v := .ref (ta 20)) (C := RX6) (T := TX6) (N := 33) hx hb hts in_X6 hown hT.1 (hR.one hW.1) 0 rfl rfl 20 (by decide) (hts _ q1052) (fun _ h9 => h9) rfl dX6_seeking_114 ?_
                  refine lv_iload_n hx hb dX6_seeking_117 rfl (lv_at hl 1 rfl) ?_
                  refine r_iald hx hb hT hR (hW.i 20 6 (by decide) (by decide) rfl) (j := i) rfl (by omega) (by decide) dX6_seeking_118 ?_
                  refine W.eq (g2 := F0 m 119 ls (.int (gI S1 20 i) :: [])) rfl ?_
                  refine lv_iconst (v := 1) hx hb dX6_seeking_119 (by decide) ?_
                  refine lv_icmp_ne (tgt := 135) hx hb dX6_seeking_120 (by decide) (fun c_8 => ?_) (fun c_8 => ?_)
                  · skip
                    refine lv_iinc (v := nI (i + 1)) (lv' := [(3, .int (nI (i + 1))), (0, .ref T)]) hx hb dX6_seeking_135 hl (k := 1) rfl (addN rfl rfl) (by decide) rfl (fun ls hl => ?_)
                    refine lv_goto (tgt := 107) hx hb dX6_seeking_138 (by decide) ?_
                    exact ih_k107 (i + 1) S1 _ _ _ _ (by omega) (by omega) (it_next hX ((if_neg c_8).trans (rfl))) hW hR hS (lv_sub hl [1, 0] rfl)
                  · skip
                    refine lv_aload_n hx hb dX6_seeking_123 rfl (lv_at hl 0 rfl) ?_
                    refine va_get (D := G.1) (ci := 10) (v := .ref (ta 9)) (C := RX6) (T := TX6) (N := 33) hx hb hts in_X6 hown hT.1 (hR.one hW.1) 0 rfl rfl 9 (by decide) (hts _ q1041) (fun _ h9 => h9) rfl dX6_seeking_124 ?_
                    refine lv_iload_n hx hb dX6_seeking_127 rfl (lv_at hl 1 rfl) ?_
                    refine lv_aload_n hx hb dX6_seeking_128 rfl (lv_at hl 0 rfl) ?_
                    refine lv_iload_n hx hb dX6_seeking_129 rfl (lv_at hl 1 rfl) ?_
                    refine lv_iconst (v := 4) hx hb dX6_seeking_130 (by decide) ?_
                    refine g_call (va_runV (As := [.int (nI i), .int 4]) (rest := [.int (nI i), .ref (ta 9)]) ⟨hx, hb, hml, hown, hts⟩ (tm_draw l G M _ T ta S1 Y hW i 4 (by omega) (by decide)) (cwV 2 hts (lw_V q1194 q1196 qs27 q61 q1197) rfl rfl rfl (by decide +kernel) ⟨Nat.le_of_ble_eq_true rfl, Nat.le_of_ble_eq_true rfl⟩) (preV hT hR hS hW.1 rfl rfl) rfl rfl hl.1 rfl (lv_room (Nat.le_of_ble_eq_true rfl)) dX6_seeking_131 ⟨Nat.le_of_ble_eq_true rfl, Nat.le_of_ble_eq_true rfl⟩) hS (fun v M H locs hq hR hz hS => ?_)
                    obtain ⟨rfl, hW⟩ := hq
                    refine W.eq (g2 := F0 m 134 ls [.int (drawR (gI S1 7 i) 4), .int (nI i), .ref (ta 9)]) rfl ?_
                    refine r_iastj hx hb hT hR hS (hW.i 9 6 (by decide) (by decide) rfl) (j := i) rfl (by omega) (by decide) dX6_seeking_134 (fun H locs hz hR hS => ?_)
                    obtain ⟨M, hR, hW⟩ : ∃ M1 : Mp, Rp G M1 H ∧ TR G T ta (sI (tDraw S1 i) 9 i (drawR (gI S1 7 i) 4)) Y M1 := ⟨_, hR, hW.setI 9 (by decide) (by decide) i (drawR (gI S1 7 i) 4)⟩
                    refine lv_iinc (v := nI (i + 1)) (lv' := [(3, .int (nI (i + 1))), (0, .ref T)]) hx hb dX6_seeking_135 hl (k := 1) rfl (addN rfl rfl) (by decide) rfl (fun ls hl => ?_)
                    refine lv_goto (tgt := 107) hx hb dX6_seeking_138 (by decide) ?_
                    exact ih_k107 (i + 1) (sI (tDraw S1 i) 9 i (drawR (gI S1 7 i) 4)) _ _ _ _ (by omega) (by omega) (it_next hX ((if_pos c_8).trans (rfl))) hW hR hS (lv_sub hl [1, 0] rfl)
            exact k107 7 0 _ _ _ _ _ (by omega) (by omega) rfl hW hR hS (lv_sub hl [1, 0] rfl)
          · skip
            exact W.vret hx hb hr (q_ret (⟨rfl, TR.eq (hE.trans ((if_pos c_2).trans ((if_neg c_6).trans (rfl)))) hW⟩) hR hS) hS.2.2 dX6_seeking_94
      · skip
        have c_1 := (not_congr (leN (a := 6) (b := i) rfl rfl (by omega) (by omega))).mp c_1
        refine lv_aload_n hx hb dX6_seeking_12 rfl (lv_at hl 0 rfl) ?_
        refine va_get (D := G.1) (ci := 10) (v := .ref (ta 20)) (C := RX6) (T := TX6) (N := 33) hx hb hts in_X6 hown hT.1 (hR.one hW.1) 0 rfl rfl 20 (by decide) (hts _ q1052) (fun _ h9 => h9) rfl dX6_seeking_13 ?_
        refine lv_iload_n hx hb dX6_seeking_16 rfl (lv_at hl 3 rfl) ?_
        refine lv_iconst (v := 0) hx hb dX6_seeking_17 (by decide) ?_
        refine r_iastj hx hb hT hR hS (hW.i 20 6 (by decide) (by decide) rfl) (j := i) rfl (by omega) (by decide) dX6_seeking_18 (fun H locs hz hR hS => ?_)
        obtain ⟨M, hR, hW⟩ : ∃ M1 : Mp, Rp G M1 H ∧ TR G T ta (sI x.1 20 i 0) Y M1 := ⟨_, hR, hW.setI 20 (by decide) (by decide) i 0⟩
        refine lv_aload_n hx hb dX6_seeking_19 rfl (lv_at hl 0 rfl) ?_
        refine va_get (D := G.1) (ci := 10) (v := .ref (ta 6)) (C := RX6) (T := TX6) (N := 33) hx hb hts in_X6 hown hT.1 (hR.one hW.1) 0 rfl rfl 6 (by decide) (hts _ q1038) (fun _ h9 => h9) rfl dX6_seeking_20 ?_
        refine lv_iload_n hx hb dX6_seeking_23 rfl (lv_at hl 3 rfl) ?_
        refine r_iald hx hb hT hR (hW.i 6 6 (by decide) (by decide) rfl) (j := i) rfl (by omega) (by decide) dX6_seeking_24 ?_
        refine W.eq (g2 := F0 m 25 ls (.int (gI x.1 6 i) :: [])) rfl ?_
        refine lv_iconst (v := 1) hx hb dX6_seeking_25 (by decide) ?_
        refine lv_icmp_ne (tgt := 51) hx hb dX6_seeking_26 (by decide) (fun c_9 => ?_) (fun c_9 => ?_)
        · skip
          refine lv_aload_n hx hb dX6_seeking_51 rfl (lv_at hl 0 rfl) ?_
          refine va_get (D := G.1) (ci := 10) (v := .ref (ta 6)) (C := RX6) (T := TX6) (N := 33) hx hb hts in_X6 hown hT.1 (hR.one hW.1) 0 rfl rfl 6 (by decide) (hts _ q1038) (fun _ h9 => h9) rfl dX6_seeking_52 ?_
          refine lv_iload_n hx hb dX6_seeking_55 rfl (lv_at hl 3 rfl) ?_
          refine r_iald hx hb hT hR (hW.i 6 6 (by decide) (by decide) rfl) (j := i) rfl (by omega) (by decide) dX6_seeking_56 ?_
          refine W.eq (g2 := F0 m 57 ls (.int (gI x.1 6 i) :: [])) rfl ?_
          refine lv_iconst (v := 1) hx hb dX6_seeking_57 (by decide) ?_
          refine lv_icmp_ne (tgt := 73) hx hb dX6_seeking_58 (by decide) (fun c_10 => ?_) (fun c_10 => ?_)
          · skip
            refine lv_iinc (v := nI (i + 1)) (lv' := [(3, .int (nI (i + 1))), (0, .ref T), (1, .int (nI x.2.1)), (2, .int (nI x.2.2))]) hx hb dX6_seeking_73 hl (k := 3) rfl (addN rfl rfl) (by decide) rfl (fun ls hl => ?_)
            refine lv_goto (tgt := 6) hx hb dX6_seeking_76 (by decide) ?_
            exact ih_k6 (i + 1) (sI x.1 20 i 0, x.2.1, x.2.2) _ _ _ _ (by omega) (by omega) (it_next hX ((if_neg c_9).trans (rfl))) (by first | exact Nat.le_succ_of_le hn | exact Nat.succ_le_succ hn) (by first | exact hla | exact (show i < 6 by omega)) hok hW hR hS (lv_sub hl [1, 2, 3, 0] rfl)
          · skip
            first | exact absurd c_10 c_9 | exact absurd c_9 c_10
        · skip
          refine lv_aload_n hx hb dX6_seeking_29 rfl (lv_at hl 0 rfl) ?_
          refine va_get (D := G.1) (ci := 10) (v := .ref (ta 9)) (C := RX6) (T := TX6) (N := 33) hx hb hts in_X6 hown hT.1 (hR.one hW.1) 0 rfl rfl 9 (by decide) (hts _ q1041) (fun _ h9 => h9) rfl dX6_seeking_30 ?_
          refine lv_iload_n hx hb dX6_seeking_33 rfl (lv_at hl 3 rfl) ?_
          refine r_iald hx hb hT hR (hW.i 9 6 (by decide) (by decide) rfl) (j := i) rfl (by omega) (by decide) dX6_seeking_34 ?_
          refine W.eq (g2 := F0 m 35 ls (.int (gI x.1 9 i) :: [])) rfl ?_
          refine lv_if_le (tgt := 51) hx hb dX6_seeking_35 (by decide) (fun c_11 => ?_) (fun c_11 => ?_)
          · skip
            refine lv_aload_n hx hb dX6_seeking_51 rfl (lv_at hl 0 rfl) ?_
            refine va_get (D := G.1) (ci := 10) (v := .ref (ta 6)) (C := RX6) (T := TX6) (N := 33) hx hb hts in_X6 hown hT.1 (hR.one hW.1) 0 rfl rfl 6 (by decide) (hts _ q1038) (fun _ h9 => h9) rfl dX6_seeking_52 ?_
            refine lv_iload_n hx hb dX6_seeking_55 rfl (lv_at hl 3 rfl) ?_
            refine r_iald hx hb hT hR (hW.i 6 6 (by decide) (by decide) rfl) (j := i) rfl (by omega) (by decide) dX6_seeking_56 ?_
            refine W.eq (g2 := F0 m 57 ls (.int (gI x.1 6 i) :: [])) rfl ?_
            refine lv_iconst (v := 1) hx hb dX6_seeking_57 (by decide) ?_
            refine lv_icmp_ne (tgt := 73) hx hb dX6_seeking_58 (by decide) (fun c_12 => ?_) (fun c_12 => ?_)
            · skip
              first | exact absurd c_12 c_9 | exact absurd c_9 c_12
            · skip
              refine lv_aload_n hx hb dX6_seeking_61 rfl (lv_at hl 0 rfl) ?_
              refine va_get (D := G.1) (ci := 10) (v := .ref (ta 20)) (C := RX6) (T := TX6) (N := 33) hx hb hts in_X6 hown hT.1 (hR.one hW.1) 0 rfl rfl 20 (by decide) (hts _ q1052) (fun _ h9 => h9) rfl dX6_seeking_62 ?_
              refine lv_iload_n hx hb dX6_seeking_65 rfl (lv_at hl 3 rfl) ?_
              refine lv_iconst (v := 1) hx hb dX6_seeking_66 (by decide) ?_
              refine r_iastj hx hb hT hR hS (hW.i 20 6 (by decide) (by decide) rfl) (j := i) rfl (by omega) (by decide) dX6_seeking_67 (fun H locs hz hR hS => ?_)
              obtain ⟨M, hR, hW⟩ : ∃ M1 : Mp, Rp G M1 H ∧ TR G T ta (sI (sI x.1 20 i 0) 20 i 1) Y M1 := ⟨_, hR, hW.setI 20 (by decide) (by decide) i 1⟩
              refine lv_iinc (v := nI (x.2.1 + 1)) (lv' := [(1, .int (nI (x.2.1 + 1))), (0, .ref T), (2, .int (nI x.2.2)), (3, .int (nI i))]) hx hb dX6_seeking_68 hl (k := 1) rfl (addN rfl rfl) (by decide) rfl (fun ls hl => ?_)
              refine lv_iload_n hx hb dX6_seeking_71 rfl (lv_at hl 3 rfl) ?_
              refine lv_istore_n (lv' := [(2, .int (nI i)), (1, .int (nI (x.2.1 + 1))), (0, .ref T), (3, .int (nI i))]) hx hb dX6_seeking_72 rfl hl (by decide) rfl (fun ls hl => ?_)
              refine lv_iinc (v := nI (i + 1)) (lv' := [(3, .int (nI (i + 1))), (2, .int (nI i)), (1, .int (nI (x.2.1 + 1))), (0, .ref T)]) hx hb dX6_seeking_73 hl (k := 3) rfl (addN rfl rfl) (by decide) rfl (fun ls hl => ?_)
              refine lv_goto (tgt := 6) hx hb dX6_seeking_76 (by decide) ?_
              exact ih_k6 (i + 1) (sI (sI x.1 20 i 0) 20 i 1, x.2.1 + 1, i) _ _ _ _ (by omega) (by omega) (it_next hX ((if_pos c_9).trans ((if_pos c_11).trans (rfl)))) (by first | exact Nat.le_succ_of_le hn | exact Nat.succ_le_succ hn) (by first | exact hla | exact (show i < 6 by omega)) hok hW hR hS (lv_sub hl [3, 2, 1, 0] rfl)
          · skip
            refine lv_aload_n hx hb dX6_seeking_38 rfl (lv_at hl 0 rfl) ?_
            refine va_get (D := G.1) (ci := 10) (v := .ref (ta 9)) (C := RX6) (T := TX6) (N := 33) hx hb hts in_X6 hown hT.1 (hR.one hW.1) 0 rfl rfl 9 (by decide) (hts _ q1041) (fun _ h9 => h9) rfl dX6_seeking_39 ?_
            refine lv_iload_n hx hb dX6_seeking_42 rfl (lv_at hl 3 rfl) ?_
            refine lv_dup2_11 hx hb dX6_seeking_43 rfl rfl ?_
            refine r_iald hx hb hT hR (hW.i 9 6 (by decide) (by decide) rfl) (j := i) rfl (by omega) (by decide) dX6_seeking_44 ?_
            refine W.eq (g2 := F0 m 45 ls (.int (gI x.1 9 i) :: [.int (nI i), .ref (ta 9)])) rfl ?_
            refine lv_iconst (v := 1) hx hb dX6_seeking_45 (by decide) ?_
            refine lv_isub hx hb dX6_seeking_46 ?_
            refine r_iastj hx hb hT hR hS (hW.i 9 6 (by decide) (by decide) rfl) (j := i) rfl (by omega) (by decide) dX6_seeking_47 (fun H locs hz hR hS => ?_)
            obtain ⟨M, hR, hW⟩ : ∃ M1 : Mp, Rp G M1 H ∧ TR G T ta (sI (sI x.1 20 i 0) 9 i ((gI x.1 9 i) - 1)) Y M1 := ⟨_, hR, hW.setI 9 (by decide) (by decide) i ((gI x.1 9 i) - 1)⟩
            refine lv_goto (tgt := 73) hx hb dX6_seeking_48 (by decide) ?_
            refine lv_iinc (v := nI (i + 1)) (lv' := [(3, .int (nI (i + 1))), (0, .ref T), (1, .int (nI x.2.1)), (2, .int (nI x.2.2))]) hx hb dX6_seeking_73 hl (k := 3) rfl (addN rfl rfl) (by decide) rfl (fun ls hl => ?_)
            refine lv_goto (tgt := 6) hx hb dX6_seeking_76 (by decide) ?_
            exact ih_k6 (i + 1) (sI (sI x.1 20 i 0) 9 i ((gI x.1 9 i) - 1), x.2.1, x.2.2) _ _ _ _ (by omega) (by omega) (it_next hX ((if_pos c_9).trans ((if_neg c_11).trans (rfl)))) (by first | exact Nat.le_succ_of_le hn | exact Nat.succ_le_succ hn) (by first | exact hla | exact (show i < 6 by omega)) hok hW hR hS (lv_sub hl [1, 2, 3, 0] rfl)
  exact k6 7 0 (S, 0, 0) _ _ _ _ (by omega) (by omega) rfl (Nat.le_refl 0) (show 0 < 6 by decide) hok hW hR hS (lv_sub hl [3, 2, 1, 0] rfl)
set_option maxHeartbeats 4000000 in
set_option maxRecDepth 100000 in
theorem tm_wanted (l : Launch) (G : Gw) (M : Mp) (sz : Nat) (T : Nat) (ta : Nat → Nat) (S : Tw) (Y : Mp) (hW : TR G T ta S Y M) (j : Nat) (hj : j < 6) : Cp l yX6_wanted cX6_wanted 3 (some .int) 0 [.ref T, .int (nI j)] G M sz (some (.int (tWanted S j))) := by
  refine Met.ofW (cc := cX6_wanted) (maxL := 3) (ret := (some .int)) (by decide) rfl ?_
  intro p e s m args below meth c s₁ B hml hv
  obtain ⟨rfl, hT, hR, hsz⟩ := hv
  have hx := B.exec
  have hb := B.bytes
  have hr := B.returns
  have hts := atoms_spec (ws := ws_ yX6_wanted cX6_wanted 3 (some .int)) B.pre
  have hts : ∀ w ∈ lw_all, w.before _ s = true := fun w h => hts w (List.mem_cons_of_mem _ h)
  have hown : s.vm.findClass RX6 = some m.cls := findClass_of_methodNamed B.named
  have hlocks := B.notSynchronized
  have hS : va_S (Af G) s.heap s.heap [] := va_S.rf
  have hl := lv_entry ([.ref T, .int (nI j)]) (n := 3) (Nat.le_of_ble_eq_true rfl)
  rw [lg_entry_eq]
  generalize (lg_sl ([.ref T, .int (nI j)]) ++ List.replicate (3 - (lg_sl ([.ref T, .int (nI j)])).length) Slot.unset).toArray = ls at hl ⊢
  have hl : lv_has ls 3 [(0, .ref T), (1, .int (nI j))] := hl
  refine lv_iconst (v := 2) hx hb dX6_wanted_0 (by decide) ?_
  refine lv_iload_n hx hb dX6_wanted_1 rfl (lv_at hl 1 rfl) ?_
  refine lv_imul hx hb dX6_wanted_2 ?_
  refine W.eq (g2 := F0 m 3 ls (.int (nI (2 * j)) :: [])) (congrArg (fun z => F0 m 3 ls (.int z :: [])) (mulN rfl rfl)) ?_
  refine lv_istore_n (lv' := [(2, .int (nI (2 * j))), (0, .ref T), (1, .int (nI j))]) hx hb dX6_wanted_3 rfl hl (by decide) rfl (fun ls hl => ?_)
  refine lv_iload_n hx hb dX6_wanted_4 rfl (lv_at hl 0 rfl) ?_
  refine lv_iconst (v := 2) hx hb dX6_wanted_5 (by decide) ?_
  refine lv_iload_n hx hb dX6_wanted_6 rfl (lv_at hl 2 rfl) ?_
  refine lv_imul hx hb dX6_wanted_7 ?_
  refine W.eq (g2 := F0 m 8 ls (.int (nI (2 * j)) :: [.int (nI (2 * j))])) (congrArg (fun z => F0 m 8 ls (.int z :: [.int (nI (2 * j))])) (mulN rfl rfl)) ?_
  refine lv_iconst (v := 2) hx hb dX6_wanted_8 (by decide) ?_
  refine lv_iadd hx hb dX6_wanted_9 ?_
  refine W.eq (g2 := F0 m 10 ls (.int (nI (2 * j + 2)) :: [.int (nI (2 * j))])) (congrArg (fun z => F0 m 10 ls (.int z :: [.int (nI (2 * j))])) (addN rfl rfl)) ?_
  refine lv_icmp_ge (tgt := 49) hx hb dX6_wanted_10 (by decide) (fun c_1 => ?_) (fun c_1 => ?_)
  · skip
    exact absurd ((leN (a := 2 * j + 2) (b := 2 * j) rfl rfl (by omega) (by omega)).mp c_1) (by omega)
  · skip
    refine lv_aload_n hx hb dX6_wanted_13 rfl (lv_at hl 1 rfl) ?_
    refine va_get (D := G.1) (ci := 10) (v := .ref (ta 13)) (C := RX6) (T := TX6) (N := 33) hx hb hts in_X6 hown hT.1 (hR.one hW.1) 0 rfl rfl 13 (by decide) (hts _ q1045) (fun _ h9 => h9) rfl dX6_wanted_14 ?_
    refine lv_iload_n hx hb dX6_wanted_17 rfl (lv_at hl 0 rfl) ?_
    refine r_iald hx hb hT hR (hW.i 13 12 (by decide) (by decide) rfl) (j := (2 * j)) rfl (by omega) (by decide) dX6_wanted_18 ?_
    refine W.eq (g2 := F0 m 19 ls (.int (gI S 13 (2 * j)) :: [])) rfl ?_
    refine lv_if_le (tgt := 43) hx hb dX6_wanted_19 (by decide) (fun c_2 => ?_) (fun c_2 => ?_)
    · skip
      refine lv_iinc (v := nI (2 * j + 1)) (lv' := [(2, .int (nI (2 * j + 1))), (0, .ref T), (1, .int (nI j))]) hx hb dX6_wanted_43 hl (k := 0) rfl (addN rfl rfl) (by decide) rfl (fun ls hl => ?_)
      refine lv_goto (tgt := 4) hx hb dX6_wanted_46 (by decide) ?_
      refine lv_iload_n hx hb dX6_wanted_4 rfl (lv_at hl 0 rfl) ?_
      refine lv_iconst (v := 2) hx hb dX6_wanted_5 (by decide) ?_
      refine lv_iload_n hx hb dX6_wanted_6 rfl (lv_at hl 2 rfl) ?_
      refine lv_imul hx hb dX6_wanted_7 ?_
      refine W.eq (g2 := F0 m 8 ls (.int (nI (2 * j)) :: [.int (nI (2 * j + 1))])) (congrArg (fun z => F0 m 8 ls (.int z :: [.int (nI (2 * j + 1))])) (mulN rfl rfl)) ?_
      refine lv_iconst (v := 2) hx hb dX6_wanted_8 (by decide) ?_
      refine lv_iadd hx hb dX6_wanted_9 ?_
      refine W.eq (g2 := F0 m 10 ls (.int (nI (2 * j + 2)) :: [.int (nI (2 * j + 1))])) (congrArg (fun z => F0 m 10 ls (.int z :: [.int (nI (2 * j + 1))])) (addN rfl rfl)) ?_
      refine lv_icmp_ge (tgt := 49) hx hb dX6_wanted_10 (by decide) (fun c_3 => ?_) (fun c_3 => ?_)
      · skip
        exact absurd ((leN (a := 2 * j + 2) (b := 2 * j + 1) rfl rfl (by omega) (by omega)).mp c_3) (by omega)
      · skip
        refine lv_aload_n hx hb dX6_wanted_13 rfl (lv_at hl 1 rfl) ?_
        refine va_get (D := G.1) (ci := 10) (v := .ref (ta 13)) (C := RX6) (T := TX6) (N := 33) hx hb hts in_X6 hown hT.1 (hR.one hW.1) 0 rfl rfl 13 (by decide) (hts _ q1045) (fun _ h9 => h9) rfl dX6_wanted_14 ?_
        refine lv_iload_n hx hb dX6_wanted_17 rfl (lv_at hl 0 rfl) ?_
        refine r_iald hx hb hT hR (hW.i 13 12 (by decide) (by decide) rfl) (j := (2 * j + 1)) rfl (by omega) (by decide) dX6_wanted_18 ?_
        refine W.eq (g2 := F0 m 19 ls (.int (gI S 13 (2 * j + 1)) :: [])) rfl ?_
        refine lv_if_le (tgt := 43) hx hb dX6_wanted_19 (by decide) (fun c_4 => ?_) (fun c_4 => ?_)
        · skip
          refine lv_iinc (v := nI (2 * j + 1 + 1)) (lv' := [(2, .int (nI (2 * j + 1 + 1))), (0, .ref T), (1, .int (nI j))]) hx hb dX6_wanted_43 hl (k := 0) rfl (addN rfl rfl) (by decide) rfl (fun ls hl => ?_)
          refine lv_goto (tgt := 4) hx hb dX6_wanted_46 (by decide) ?_
          refine lv_iload_n hx hb dX6_wanted_4 rfl (lv_at hl 0 rfl) ?_
          refine lv_iconst (v := 2) hx hb dX6_wanted_5 (by decide) ?_
          refine lv_iload_n hx hb dX6_wanted_6 rfl (lv_at hl 2 rfl) ?_
          refine lv_imul hx hb dX6_wanted_7 ?_
          refine W.eq (g2 := F0 m 8 ls (.int (nI (2 * j)) :: [.int (nI (2 * j + 1 + 1))])) (congrArg (fun z => F0 m 8 ls (.int z :: [.int (nI (2 * j + 1 + 1))])) (mulN rfl rfl)) ?_
          refine lv_iconst (v := 2) hx hb dX6_wanted_8 (by decide) ?_
          refine lv_iadd hx hb dX6_wanted_9 ?_
          refine W.eq (g2 := F0 m 10 ls (.int (nI (2 * j + 2)) :: [.int (nI (2 * j + 1 + 1))])) (congrArg (fun z => F0 m 10 ls (.int z :: [.int (nI (2 * j + 1 + 1))])) (addN rfl rfl)) ?_
          refine lv_icmp_ge (tgt := 49) hx hb dX6_wanted_10 (by decide) (fun c_5 => ?_) (fun c_5 => ?_)
          · skip
            refine lv_iconst (v := -1) hx hb dX6_wanted_49 (by decide) ?_
            exact W.iret hx hb hr (fun t ht _ => ⟨(congrArg (fun z9 => Outcome.returned (some (Value.int z9))) ((if_pos c_2).trans ((if_pos c_4).trans (rfl)) : tWanted S j = (-1)).symm), ht⟩) t_nil dX6_wanted_50
          · skip
            exact absurd ((leN (a := 2 * j + 2) (b := 2 * j + 1 + 1) rfl rfl (by omega) (by omega)).mpr (by omega)) c_5
        · skip
          refine lv_aload_n hx hb dX6_wanted_22 rfl (lv_at hl 1 rfl) ?_
          refine va_get (D := G.1) (ci := 10) (v := .ref (ta 5)) (C := RX6) (T := TX6) (N := 33) hx hb hts in_X6 hown hT.1 (hR.one hW.1) 0 rfl rfl 5 (by decide) (hts _ q1037) (fun _ h9 => h9) rfl dX6_wanted_23 ?_
          refine lv_iload_n hx hb dX6_wanted_26 rfl (lv_at hl 0 rfl) ?_
          refine r_dald hx hb hT hR (hW.d 5 12 (by decide) rfl) (j := (2 * j + 1)) rfl (by omega) (by decide) dX6_wanted_27 ?_
          refine W.eq (g2 := F0 m 28 ls (.double (gD S 5 (2 * j + 1)) :: [])) rfl ?_
          refine lv_aload_n hx hb dX6_wanted_28 rfl (lv_at hl 1 rfl) ?_
          refine va_get (D := G.1) (ci := 10) (v := .ref (ta 14)) (C := RX6) (T := TX6) (N := 33) hx hb hts in_X6 hown hT.1 (hR.one hW.1) 0 rfl rfl 14 (by decide) (hts _ q1046) (fun _ h9 => h9) rfl dX6_wanted_29 ?_
          refine lv_iload_n hx hb dX6_wanted_32 rfl (lv_at hl 0 rfl) ?_
          refine lv_iconst (v := 4) hx hb dX6_wanted_33 (by decide) ?_
          refine lv_imul hx hb dX6_wanted_34 ?_
          refine W.eq (g2 := F0 m 35 ls (.int (nI ((2 * j + 1) * 4)) :: [.ref (ta 14), .double (gD S 5 (2 * j + 1))])) (congrArg (fun z => F0 m 35 ls (.int z :: [.ref (ta 14), .double (gD S 5 (2 * j + 1))])) (mulN rfl rfl)) ?_
          refine r_iald hx hb hT hR (hW.i 14 48 (by decide) (by decide) rfl) (j := ((2 * j + 1) * 4)) rfl (by omega) (by decide) dX6_wanted_35 ?_
          refine W.eq (g2 := F0 m 36 ls (.int (gI S 14 ((2 * j + 1) * 4)) :: [.double (gD S 5 (2 * j + 1))])) rfl ?_
          refine lv_i2d hx hb dX6_wanted_36 ?_
          refine lv_dcmp hx hb dX6_wanted_37 ?_
          refine lv_if_lt (tgt := 43) hx hb dX6_wanted_38 (by decide) (fun c_6 => ?_) (fun c_6 => ?_)
          · skip
            refine lv_iinc (v := nI (2 * j + 1 + 1)) (lv' := [(2, .int (nI (2 * j + 1 + 1))), (0, .ref T), (1, .int (nI j))]) hx hb dX6_wanted_43 hl (k := 0) rfl (addN rfl rfl) (by decide) rfl (fun ls hl => ?_)
            refine lv_goto (tgt := 4) hx hb dX6_wanted_46 (by decide) ?_
            refine lv_iload_n hx hb dX6_wanted_4 rfl (lv_at hl 0 rfl) ?_
            refine lv_iconst (v := 2) hx hb dX6_wanted_5 (by decide) ?_
            refine lv_iload_n hx hb dX6_wanted_6 rfl (lv_at hl 2 rfl) ?_
            refine lv_imul hx hb dX6_wanted_7 ?_
            refine W.eq (g2 := F0 m 8 ls (.int (nI (2 * j)) :: [.int (nI (2 * j + 1 + 1))])) (congrArg (fun z => F0 m 8 ls (.int z :: [.int (nI (2 * j + 1 + 1))])) (mulN rfl rfl)) ?_
            refine lv_iconst (v := 2) hx hb dX6_wanted_8 (by decide) ?_
            refine lv_iadd hx hb dX6_wanted_9 ?_
            refine W.eq (g2 := F0 m 10 ls (.int (nI (2 * j + 2)) :: [.int (nI (2 * j + 1 + 1))])) (congrArg (fun z => F0 m 10 ls (.int z :: [.int (nI (2 * j + 1 + 1))])) (addN rfl rfl)) ?_
            refine lv_icmp_ge (tgt := 49) hx hb dX6_wanted_10 (by decide) (fun c_7 => ?_) (fun c_7 => ?_)
            · skip
              refine lv_iconst (v := -1) hx hb dX6_wanted_49 (by decide) ?_
              exact W.iret hx hb hr (fun t ht _ => ⟨(congrArg (fun z9 => Outcome.returned (some (Value.int z9))) ((if_pos c_2).trans ((if_neg c_4).trans ((if_pos c_6).trans (rfl))) : tWanted S j = (-1)).symm), ht⟩) t_nil dX6_wanted_50
            · skip
              exact absurd ((leN (a := 2 * j + 2) (b := 2 * j + 1 + 1) rfl rfl (by omega) (by omega)).mpr (by omega)) c_7
          · skip
            refine lv_iload_n hx hb dX6_wanted_41 rfl (lv_at hl 0 rfl) ?_
            exact W.iret hx hb hr (fun t ht _ => ⟨(congrArg (fun z9 => Outcome.returned (some (Value.int z9))) ((if_pos c_2).trans ((if_neg c_4).trans ((if_neg c_6).trans (rfl))) : tWanted S j = nI (2 * j + 1)).symm), ht⟩) t_nil dX6_wanted_42
    · skip
      refine lv_aload_n hx hb dX6_wanted_22 rfl (lv_at hl 1 rfl) ?_
      refine va_get (D := G.1) (ci := 10) (v := .ref (ta 5)) (C := RX6) (T := TX6) (N := 33) hx hb hts in_X6 hown hT.1 (hR.one hW.1) 0 rfl rfl 5 (by decide) (hts _ q1037) (fun _ h9 => h9) rfl dX6_wanted_23 ?_
      refine lv_iload_n hx hb dX6_wanted_26 rfl (lv_at hl 0 rfl) ?_
      refine r_dald hx hb hT hR (hW.d 5 12 (by decide) rfl) (j := (2 * j)) rfl (by omega) (by decide) dX6_wanted_27 ?_
      refine W.eq (g2 := F0 m 28 ls (.double (gD S 5 (2 * j)) :: [])) rfl ?_
      refine lv_aload_n hx hb dX6_wanted_28 rfl (lv_at hl 1 rfl) ?_
      refine va_get (D := G.1) (ci := 10) (v := .ref (ta 14)) (C := RX6) (T := TX6) (N := 33) hx hb hts in_X6 hown hT.1 (hR.one hW.1) 0 rfl rfl 14 (by decide) (hts _ q1046) (fun _ h9 => h9) rfl dX6_wanted_29 ?_
      refine lv_iload_n hx hb dX6_wanted_32 rfl (lv_at hl 0 rfl) ?_
      refine lv_iconst (v := 4) hx hb dX6_wanted_33 (by decide) ?_
      refine lv_imul hx hb dX6_wanted_34 ?_
      refine W.eq (g2 := F0 m 35 ls (.int (nI ((2 * j) * 4)) :: [.ref (ta 14), .double (gD S 5 (2 * j))])) (congrArg (fun z => F0 m 35 ls (.int z :: [.ref (ta 14), .double (gD S 5 (2 * j))])) (mulN rfl rfl)) ?_
      refine r_iald hx hb hT hR (hW.i 14 48 (by decide) (by decide) rfl) (j := ((2 * j) * 4)) rfl (by omega) (by decide) dX6_wanted_35 ?_
      refine W.eq (g2 := F0 m 36 ls (.int (gI S 14 ((2 * j) * 4)) :: [.double (gD S 5 (2 * j))])) rfl ?_
      refine lv_i2d hx hb dX6_wanted_36 ?_
      refine lv_dcmp hx hb dX6_wanted_37 ?_
      refine lv_if_lt (tgt := 43) hx hb dX6_wanted_38 (by decide) (fun c_8 => ?_) (fun c_8 => ?_)
      · skip
        refine lv_iinc (v := nI (2 * j + 1)) (lv' := [(2, .int (nI (2 * j + 1))), (0, .ref T), (1, .int (nI j))]) hx hb dX6_wanted_43 hl (k := 0) rfl (addN rfl rfl) (by decide) rfl (fun ls hl => ?_)
        refine lv_goto (tgt := 4) hx hb dX6_wanted_46 (by decide) ?_
        refine lv_iload_n hx hb dX6_wanted_4 rfl (lv_at hl 0 rfl) ?_
        refine lv_iconst (v := 2) hx hb dX6_wanted_5 (by decide) ?_
        refine lv_iload_n hx hb dX6_wanted_6 rfl (lv_at hl 2 rfl) ?_
        refine lv_imul hx hb dX6_wanted_7 ?_
        refine W.eq (g2 := F0 m 8 ls (.int (nI (2 * j)) :: [.int (nI (2 * j + 1))])) (congrArg (fun z => F0 m 8 ls (.int z :: [.int (nI (2 * j + 1))])) (mulN rfl rfl)) ?_
        refine lv_iconst (v := 2) hx hb dX6_wanted_8 (by decide) ?_
        refine lv_iadd hx hb dX6_wanted_9 ?_
        refine W.eq (g2 := F0 m 10 ls (.int (nI (2 * j + 2)) :: [.int (nI (2 * j + 1))])) (congrArg (fun z => F0 m 10 ls (.int z :: [.int (nI (2 * j + 1))])) (addN rfl rfl)) ?_
        refine lv_icmp_ge (tgt := 49) hx hb dX6_wanted_10 (by decide) (fun c_9 => ?_) (fun c_9 => ?_)
        · skip
          exact absurd ((leN (a := 2 * j + 2) (b := 2 * j + 1) rfl rfl (by omega) (by omega)).mp c_9) (by omega)
        · skip
          refine lv_aload_n hx hb dX6_wanted_13 rfl (lv_at hl 1 rfl) ?_
          refine va_get (D := G.1) (ci := 10) (v := .ref (ta 13)) (C := RX6) (T := TX6) (N := 33) hx hb hts in_X6 hown hT.1 (hR.one hW.1) 0 rfl rfl 13 (by decide) (hts _ q1045) (fun _ h9 => h9) rfl dX6_wanted_14 ?_
          refine lv_iload_n hx hb dX6_wanted_17 rfl (lv_at hl 0 rfl) ?_
          refine r_iald hx hb hT hR (hW.i 13 12 (by decide) (by decide) rfl) (j := (2 * j + 1)) rfl (by omega) (by decide) dX6_wanted_18 ?_
          refine W.eq (g2 := F0 m 19 ls (.int (gI S 13 (2 * j + 1)) :: [])) rfl ?_
          refine lv_if_le (tgt := 43) hx hb dX6_wanted_19 (by decide) (fun c_10 => ?_) (fun c_10 => ?_)
          · skip
            refine lv_iinc (v := nI (2 * j + 1 + 1)) (lv' := [(2, .int (nI (2 * j + 1 + 1))), (0, .ref T), (1, .int (nI j))]) hx hb dX6_wanted_43 hl (k := 0) rfl (addN rfl rfl) (by decide) rfl (fun ls hl => ?_)
            refine lv_goto (tgt := 4) hx hb dX6_wanted_46 (by decide) ?_
            refine lv_iload_n hx hb dX6_wanted_4 rfl (lv_at hl 0 rfl) ?_
            refine lv_iconst (v := 2) hx hb dX6_wanted_5 (by decide) ?_
            refine lv_iload_n hx hb dX6_wanted_6 rfl (lv_at hl 2 rfl) ?_
            refine lv_imul hx hb dX6_wanted_7 ?_
            refine W.eq (g2 := F0 m 8 ls (.int (nI (2 * j)) :: [.int (nI (2 * j + 1 + 1))])) (congrArg (fun z => F0 m 8 ls (.int z :: [.int (nI (2 * j + 1 + 1))])) (mulN rfl rfl)) ?_
            refine lv_iconst (v := 2) hx hb dX6_wanted_8 (by decide) ?_
            refine lv_iadd hx hb dX6_wanted_9 ?_
            refine W.eq (g2 := F0 m 10 ls (.int (nI (2 * j + 2)) :: [.int (nI (2 * j + 1 + 1))])) (congrArg (fun z => F0 m 10 ls (.int z :: [.int (nI (2 * j + 1 + 1))])) (addN rfl rfl)) ?_
            refine lv_icmp_ge (tgt := 49) hx hb dX6_wanted_10 (by decide) (fun c_11 => ?_) (fun c_11 => ?_)
            · skip
              refine lv_iconst (v := -1) hx hb dX6_wanted_49 (by decide) ?_
              exact W.iret hx hb hr (fun t ht _ => ⟨(congrArg (fun z9 => Outcome.returned (some (Value.int z9))) ((if_neg c_2).trans ((if_pos c_8).trans ((if_pos c_10).trans (rfl))) : tWanted S j = (-1)).symm), ht⟩) t_nil dX6_wanted_50
            · skip
              exact absurd ((leN (a := 2 * j + 2) (b := 2 * j + 1 + 1) rfl rfl (by omega) (by omega)).mpr (by omega)) c_11
          · skip
            refine lv_aload_n hx hb dX6_wanted_22 rfl (lv_at hl 1 rfl) ?_
            refine va_get (D := G.1) (ci := 10) (v := .ref (ta 5)) (C := RX6) (T := TX6) (N := 33) hx hb hts in_X6 hown hT.1 (hR.one hW.1) 0 rfl rfl 5 (by decide) (hts _ q1037) (fun _ h9 => h9) rfl dX6_wanted_23 ?_
            refine lv_iload_n hx hb dX6_wanted_26 rfl (lv_at hl 0 rfl) ?_
            refine r_dald hx hb hT hR (hW.d 5 12 (by decide) rfl) (j := (2 * j + 1)) rfl (by omega) (by decide) dX6_wanted_27 ?_
            refine W.eq (g2 := F0 m 28 ls (.double (gD S 5 (2 * j + 1)) :: [])) rfl ?_
            refine lv_aload_n hx hb dX6_wanted_28 rfl (lv_at hl 1 rfl) ?_
            refine va_get (D := G.1) (ci := 10) (v := .ref (ta 14)) (C := RX6) (T := TX6) (N := 33) hx hb hts in_X6 hown hT.1 (hR.one hW.1) 0 rfl rfl 14 (by decide) (hts _ q1046) (fun _ h9 => h9) rfl dX6_wanted_29 ?_
            refine lv_iload_n hx hb dX6_wanted_32 rfl (lv_at hl 0 rfl) ?_
            refine lv_iconst (v := 4) hx hb dX6_wanted_33 (by decide) ?_
            refine lv_imul hx hb dX6_wanted_34 ?_
            refine W.eq (g2 := F0 m 35 ls (.int (nI ((2 * j + 1) * 4)) :: [.ref (ta 14), .double (gD S 5 (2 * j + 1))])) (congrArg (fun z => F0 m 35 ls (.int z :: [.ref (ta 14), .double (gD S 5 (2 * j + 1))])) (mulN rfl rfl)) ?_
            refine r_iald hx hb hT hR (hW.i 14 48 (by decide) (by decide) rfl) (j := ((2 * j + 1) * 4)) rfl (by omega) (by decide) dX6_wanted_35 ?_
            refine W.eq (g2 := F0 m 36 ls (.int (gI S 14 ((2 * j + 1) * 4)) :: [.double (gD S 5 (2 * j + 1))])) rfl ?_
            refine lv_i2d hx hb dX6_wanted_36 ?_
            refine lv_dcmp hx hb dX6_wanted_37 ?_
            refine lv_if_lt (tgt := 43) hx hb dX6_wanted_38 (by decide) (fun c_12 => ?_) (fun c_12 => ?_)
            · skip
              refine lv_iinc (v := nI (2 * j + 1 + 1)) (lv' := [(2, .int (nI (2 * j + 1 + 1))), (0, .ref T), (1, .int (nI j))]) hx hb dX6_wanted_43 hl (k := 0) rfl (addN rfl rfl) (by decide) rfl (fun ls hl => ?_)
              refine lv_goto (tgt := 4) hx hb dX6_wanted_46 (by decide) ?_
              refine lv_iload_n hx hb dX6_wanted_4 rfl (lv_at hl 0 rfl) ?_
              refine lv_iconst (v := 2) hx hb dX6_wanted_5 (by decide) ?_
              refine lv_iload_n hx hb dX6_wanted_6 rfl (lv_at hl 2 rfl) ?_
              refine lv_imul hx hb dX6_wanted_7 ?_
              refine W.eq (g2 := F0 m 8 ls (.int (nI (2 * j)) :: [.int (nI (2 * j + 1 + 1))])) (congrArg (fun z => F0 m 8 ls (.int z :: [.int (nI (2 * j + 1 + 1))])) (mulN rfl rfl)) ?_
              refine lv_iconst (v := 2) hx hb dX6_wanted_8 (by decide) ?_
              refine lv_iadd hx hb dX6_wanted_9 ?_
              refine W.eq (g2 := F0 m 10 ls (.int (nI (2 * j + 2)) :: [.int (nI (2 * j + 1 + 1))])) (congrArg (fun z => F0 m 10 ls (.int z :: [.int (nI (2 * j + 1 + 1))])) (addN rfl rfl)) ?_
              refine lv_icmp_ge (tgt := 49) hx hb dX6_wanted_10 (by decide) (fun c_13 => ?_) (fun c_13 => ?_)
              · skip
                refine lv_iconst (v := -1) hx hb dX6_wanted_49 (by decide) ?_
                exact W.iret hx hb hr (fun t ht _ => ⟨(congrArg (fun z9 => Outcome.returned (some (Value.int z9))) ((if_neg c_2).trans ((if_pos c_8).trans ((if_neg c_10).trans ((if_pos c_12).trans (rfl)))) : tWanted S j = (-1)).symm), ht⟩) t_nil dX6_wanted_50
              · skip
                exact absurd ((leN (a := 2 * j + 2) (b := 2 * j + 1 + 1) rfl rfl (by omega) (by omega)).mpr (by omega)) c_13
            · skip
              refine lv_iload_n hx hb dX6_wanted_41 rfl (lv_at hl 0 rfl) ?_
              exact W.iret hx hb hr (fun t ht _ => ⟨(congrArg (fun z9 => Outcome.returned (some (Value.int z9))) ((if_neg c_2).trans ((if_pos c_8).trans ((if_neg c_10).trans ((if_neg c_12).trans (rfl)))) : tWanted S j = nI (2 * j + 1)).symm), ht⟩) t_nil dX6_wanted_42
      · skip
        refine lv_iload_n hx hb dX6_wanted_41 rfl (lv_at hl 0 rfl) ?_
        exact W.iret hx hb hr (fun t ht _ => ⟨(congrArg (fun z9 => Outcome.returned (some (Value.int z9))) ((if_neg c_2).trans ((if_neg c_8).trans (rfl)) : tWanted S j = nI (2 * j)).symm), ht⟩) t_nil dX6_wanted_42
set_option maxHeartbeats 4000000 in
set_option maxRecDepth 100000 in
theorem tm_before (l : Launch) (G : Gw) (M : Mp) (sz : Nat) (T : Nat) (ta : Nat → Nat) (S : Tw) (Y : Mp) (hW : TR G T ta S Y M) (i j : Nat) (hi : i < 6) (hj : j < 6) : Cp l yX6_before cX6_before 3 (some .boolean) 0 [.ref T, .int (nI i), .int (nI j)] G M sz (some (.int (bI (tBef S i j)))) := by
  refine Met.ofW (cc := cX6_before) (maxL := 3) (ret := (some .boolean)) (by decide) rfl ?_
  intro p e s m args below meth c s₁ B hml hv
  obtain ⟨rfl, hT, hR, hsz⟩ := hv
  have hx := B.exec
  have hb := B.bytes
  have hr := B.returns
  have hts := atoms_spec (ws := ws_ yX6_before cX6_before 3 (some .boolean)) B.pre
  have hts : ∀ w ∈ lw_all, w.before _ s = true := fun w h => hts w (List.mem_cons_of_mem _ h)
  have hown : s.vm.findClass RX6 = some m.cls := findClass_of_methodNamed B.named
  have hlocks := B.notSynchronized
  have hS : va_S (Af G) s.heap s.heap [] := va_S.rf
  have hl := lv_entry ([.ref T, .int (nI i), .int (nI j)]) (n := 3) (Nat.le_of_ble_eq_true rfl)
  rw [lg_entry_eq]
  generalize (lg_sl ([.ref T, .int (nI i), .int (nI j)]) ++ List.replicate (3 - (lg_sl ([.ref T, .int (nI i), .int (nI j)])).length) Slot.unset).toArray = ls at hl ⊢
  have hl : lv_has ls 3 [(0, .ref T), (1, .int (nI i)), (2, .int (nI j))] := hl
  refine lv_aload_n hx hb dX6_before_0 rfl (lv_at hl 0 rfl) ?_
  refine va_get (D := G.1) (ci := 10) (v := .ref (ta 18)) (C := RX6) (T := TX6) (N := 33) hx hb hts in_X6 hown hT.1 (hR.one hW.1) 0 rfl rfl 18 (by decide) (hts _ q1050) (fun _ h9 => h9) rfl dX6_before_1 ?_
  refine lv_iload_n hx hb dX6_before_4 rfl (lv_at hl 1 rfl) ?_
  refine r_iald hx hb hT hR (hW.i 18 6 (by decide) (by decide) rfl) (j := i) rfl (by omega) (by decide) dX6_before_5 ?_
  refine W.eq (g2 := F0 m 6 ls (.int (gI S 18 i) :: [])) rfl ?_
  refine lv_aload_n hx hb dX6_before_6 rfl (lv_at hl 0 rfl) ?_
  refine va_get (D := G.1) (ci := 10) (v := .ref (ta 18)) (C := RX6) (T := TX6) (N := 33) hx hb hts in_X6 hown hT.1 (hR.one hW.1) 0 rfl rfl 18 (by decide) (hts _ q1050) (fun _ h9 => h9) rfl dX6_before_7 ?_
  refine lv_iload_n hx hb dX6_before_10 rfl (lv_at hl 2 rfl) ?_
  refine r_iald hx hb hT hR (hW.i 18 6 (by decide) (by decide) rfl) (j := j) rfl (by omega) (by decide) dX6_before_11 ?_
  refine W.eq (g2 := F0 m 12 ls (.int (gI S 18 j) :: [.int (gI S 18 i)])) rfl ?_
  refine lv_icmp_gt (tgt := 45) hx hb dX6_before_12 (by decide) (fun c_1 => ?_) (fun c_1 => ?_)
  · skip
    refine lv_iconst (v := 1) hx hb dX6_before_45 (by decide) ?_
    refine lv_goto (tgt := 50) hx hb dX6_before_46 (by decide) ?_
    exact W.zret hx hb hr rfl (fun t ht _ => ⟨(by rw [bI_t (Or.inl c_1)]), ht⟩) t_nil dX6_before_50
  · skip
    refine lv_aload_n hx hb dX6_before_15 rfl (lv_at hl 0 rfl) ?_
    refine va_get (D := G.1) (ci := 10) (v := .ref (ta 18)) (C := RX6) (T := TX6) (N := 33) hx hb hts in_X6 hown hT.1 (hR.one hW.1) 0 rfl rfl 18 (by decide) (hts _ q1050) (fun _ h9 => h9) rfl dX6_before_16 ?_
    refine lv_iload_n hx hb dX6_before_19 rfl (lv_at hl 1 rfl) ?_
    refine r_iald hx hb hT hR (hW.i 18 6 (by decide) (by decide) rfl) (j := i) rfl (by omega) (by decide) dX6_before_20 ?_
    refine W.eq (g2 := F0 m 21 ls (.int (gI S 18 i) :: [])) rfl ?_
    refine lv_aload_n hx hb dX6_before_21 rfl (lv_at hl 0 rfl) ?_
    refine va_get (D := G.1) (ci := 10) (v := .ref (ta 18)) (C := RX6) (T := TX6) (N := 33) hx hb hts in_X6 hown hT.1 (hR.one hW.1) 0 rfl rfl 18 (by decide) (hts _ q1050) (fun _ h9 => h9) rfl dX6_before_22 ?_
    refine lv_iload_n hx hb dX6_before_25 rfl (lv_at hl 2 rfl) ?_
    refine r_iald hx hb hT hR (hW.i 18 6 (by decide) (by decide) rfl) (j := j) rfl (by omega) (by decide) dX6_before_26 ?_
    refine W.eq (g2 := F0 m 27 ls (.int (gI S 18 j) :: [.int (gI S 18 i)])) rfl ?_
    refine lv_icmp_ne (tgt := 49) hx hb dX6_before_27 (by decide) (fun c_2 => ?_) (fun c_2 => ?_)
    · skip
      refine lv_iconst (v := 0) hx hb dX6_before_49 (by decide) ?_
      exact W.zret hx hb hr rfl (fun t ht _ => ⟨(by rw [bI_f (fun h => h.elim c_1 (fun h => c_2 h.1))]), ht⟩) t_nil dX6_before_50
    · skip
      refine lv_aload_n hx hb dX6_before_30 rfl (lv_at hl 0 rfl) ?_
      refine va_get (D := G.1) (ci := 10) (v := .ref (ta 19)) (C := RX6) (T := TX6) (N := 33) hx hb hts in_X6 hown hT.1 (hR.one hW.1) 0 rfl rfl 19 (by decide) (hts _ q1051) (fun _ h9 => h9) rfl dX6_before_31 ?_
      refine lv_iload_n hx hb dX6_before_34 rfl (lv_at hl 1 rfl) ?_
      refine r_iald hx hb hT hR (hW.i 19 6 (by decide) (by decide) rfl) (j := i) rfl (by omega) (by decide) dX6_before_35 ?_
      refine W.eq (g2 := F0 m 36 ls (.int (gI S 19 i) :: [])) rfl ?_
      refine lv_aload_n hx hb dX6_before_36 rfl (lv_at hl 0 rfl) ?_
      refine va_get (D := G.1) (ci := 10) (v := .ref (ta 19)) (C := RX6) (T := TX6) (N := 33) hx hb hts in_X6 hown hT.1 (hR.one hW.1) 0 rfl rfl 19 (by decide) (hts _ q1051) (fun _ h9 => h9) rfl dX6_before_37 ?_
      refine lv_iload_n hx hb dX6_before_40 rfl (lv_at hl 2 rfl) ?_
      refine r_iald hx hb hT hR (hW.i 19 6 (by decide) (by decide) rfl) (j := j) rfl (by omega) (by decide) dX6_before_41 ?_
      refine W.eq (g2 := F0 m 42 ls (.int (gI S 19 j) :: [.int (gI S 19 i)])) rfl ?_
      refine lv_icmp_ge (tgt := 49) hx hb dX6_before_42 (by decide) (fun c_3 => ?_) (fun c_3 => ?_)
      · skip
        refine lv_iconst (v := 0) hx hb dX6_before_49 (by decide) ?_
        exact W.zret hx hb hr rfl (fun t ht _ => ⟨(by rw [bI_f (fun h => h.elim c_1 (fun h => h.2 c_3))]), ht⟩) t_nil dX6_before_50
      · skip
        refine lv_iconst (v := 1) hx hb dX6_before_45 (by decide) ?_
        refine lv_goto (tgt := 50) hx hb dX6_before_46 (by decide) ?_
        exact W.zret hx hb hr rfl (fun t ht _ => ⟨(by rw [bI_t (Or.inr ⟨c_2, c_3⟩)]), ht⟩) t_nil dX6_before_50
set_option maxHeartbeats 4000000 in
set_option maxRecDepth 100000 in
theorem tm_requests (l : Launch) (G : Gw) (M : Mp) (sz : Nat) (T : Nat) (ta : Nat → Nat) (S : Tw) (Y : Mp) (hW : TR G T ta S Y M) : Cp l yX6_requests cX6_requests 3 (some .int) 0 [.ref T] G M sz (some (.int (nI (tCnt S)))) := by
  refine Met.ofW (cc := cX6_requests) (maxL := 3) (ret := (some .int)) (by decide) rfl ?_
  intro p e s m args below meth c s₁ B hml hv
  obtain ⟨rfl, hT, hR, hsz⟩ := hv
  have hx := B.exec
  have hb := B.bytes
  have hr := B.returns
  have hts := atoms_spec (ws := ws_ yX6_requests cX6_requests 3 (some .int)) B.pre
  have hts : ∀ w ∈ lw_all, w.before _ s = true := fun w h => hts w (List.mem_cons_of_mem _ h)
  have hown : s.vm.findClass RX6 = some m.cls := findClass_of_methodNamed B.named
  have hlocks := B.notSynchronized
  have hS : va_S (Af G) s.heap s.heap [] := va_S.rf
  have hl := lv_entry ([.ref T]) (n := 3) (Nat.le_of_ble_eq_true rfl)
  rw [lg_entry_eq]
  generalize (lg_sl ([.ref T]) ++ List.replicate (3 - (lg_sl ([.ref T])).length) Slot.unset).toArray = ls at hl ⊢
  have hl : lv_has ls 3 [(0, .ref T)] := hl
  refine lv_iconst (v := 0) hx hb dX6_requests_0 (by decide) ?_
  refine lv_istore_n (lv' := [(1, .int 0), (0, .ref T)]) hx hb dX6_requests_1 rfl hl (by decide) rfl (fun ls hl => ?_)
  refine lv_iconst (v := 0) hx hb dX6_requests_2 (by decide) ?_
  refine lv_istore_n (lv' := [(2, .int 0), (1, .int 0), (0, .ref T)]) hx hb dX6_requests_3 rfl hl (by decide) rfl (fun ls hl => ?_)
  have k4 : ∀ (n : Nat) (i : Nat) (x : Nat) (ls : Array Slot), (i ≤ 6) → (6 < i + n) → (x = it (tCnt1 S) i 0) → lv_has ls 3 [(0, .ref T), (1, .int (nI x)), (2, .int (nI i))] → W p l e (headSpec (ws_ yX6_requests cX6_requests 3 (some .int)) (rmL 0 0 0)).room s m ([.ref T] : List Value).toArray below meth c s.heap [] 0 0 (MQ below (Qp (some (.int (nI (tCnt S))))) ([.ref T] : List Value).toArray s 0 0 (fun _ => False)) (F0 m 4 ls []) := by
    intro n
    induction n with
    | zero =>
      intro i x ls hi hf hX hl
      exact absurd hf (by omega)
    | succ n ih_k4 =>
      intro i x ls hi hf hX hl
      refine lv_iload_n hx hb dX6_requests_4 rfl (lv_at hl 2 rfl) ?_
      refine lv_bipush (v := 6) hx hb dX6_requests_5 (by decide) ?_
      refine lv_icmp_ge (tgt := 28) hx hb dX6_requests_7 (by decide) (fun c_1 => ?_) (fun c_1 => ?_)
      · skip
        have c_1 := (leN (a := 6) (b := i) rfl rfl (by omega) (by omega)).mp c_1
        obtain rfl : i = 6 := by omega
        refine lv_iload_n hx hb dX6_requests_28 rfl (lv_at hl 1 rfl) ?_
        exact W.iret hx hb hr (fun t ht _ => ⟨(by rw [hX]; rfl), ht⟩) t_nil dX6_requests_29
      · skip
        have c_1 := (not_congr (leN (a := 6) (b := i) rfl rfl (by omega) (by omega))).mp c_1
        refine lv_aload_n hx hb dX6_requests_10 rfl (lv_at hl 0 rfl) ?_
        refine va_get (D := G.1) (ci := 10) (v := .ref (ta 16)) (C := RX6) (T := TX6) (N := 33) hx hb hts in_X6 hown hT.1 (hR.one hW.1) 0 rfl rfl 16 (by decide) (hts _ q1048) (fun _ h9 => h9) rfl dX6_requests_11 ?_
        refine lv_iload_n hx hb dX6_requests_14 rfl (lv_at hl 2 rfl) ?_
        refine r_iald hx hb hT hR (hW.i 16 6 (by decide) (by decide) rfl) (j := i) rfl (by omega) (by decide) dX6_requests_15 ?_
        refine W.eq (g2 := F0 m 16 ls (.int (gI S 16 i) :: [])) rfl ?_
        refine lv_if_le (tgt := 22) hx hb dX6_requests_16 (by decide) (fun c_2 => ?_) (fun c_2 => ?_)
        · skip
          refine lv_iinc (v := nI (i + 1)) (lv' := [(2, .int (nI (i + 1))), (0, .ref T), (1, .int (nI x))]) hx hb dX6_requests_22 hl (k := 2) rfl (addN rfl rfl) (by decide) rfl (fun ls hl => ?_)
          refine lv_goto (tgt := 4) hx hb dX6_requests_25 (by decide) ?_
          exact ih_k4 (i + 1) x _ (by omega) (by omega) (it_next hX ((if_pos c_2).trans (rfl))) (lv_sub hl [1, 2, 0] rfl)
        · skip
          refine lv_iinc (v := nI (x + 1)) (lv' := [(1, .int (nI (x + 1))), (0, .ref T), (2, .int (nI i))]) hx hb dX6_requests_19 hl (k := 1) rfl (addN rfl rfl) (by decide) rfl (fun ls hl => ?_)
          refine lv_iinc (v := nI (i + 1)) (lv' := [(2, .int (nI (i + 1))), (1, .int (nI (x + 1))), (0, .ref T)]) hx hb dX6_requests_22 hl (k := 2) rfl (addN rfl rfl) (by decide) rfl (fun ls hl => ?_)
          refine lv_goto (tgt := 4) hx hb dX6_requests_25 (by decide) ?_
          exact ih_k4 (i + 1) (x + 1) _ (by omega) (by omega) (it_next hX ((if_neg c_2).trans (rfl))) (lv_sub hl [2, 1, 0] rfl)
  exact k4 7 0 0 _ (by omega) (by omega) rfl (lv_sub hl [2, 1, 0] rfl)
set_option maxHeartbeats 4000000 in
set_option maxRecDepth 100000 in
theorem tm_request (l : Launch) (G : Gw) (M : Mp) (sz : Nat) (T : Nat) (ta : Nat → Nat) (S : Tw) (Y : Mp) (hW : TR G T ta S Y M) (k : Int32) : Cp l yX6_request cX6_request 5 (some .int) 1 [.ref T, .int k] G M sz (some (.int (tReq S k))) := by
  refine Met.ofW (cc := cX6_request) (maxL := 5) (ret := (some .int)) (by decide) rfl ?_
  intro p e s m args below meth c s₁ B hml hv
  obtain ⟨rfl, hT, hR, hsz⟩ := hv
  have hx := B.exec
  have hb := B.bytes
  have hr := B.returns
  have hts := atoms_spec (ws := ws_ yX6_request cX6_request 5 (some .int)) B.pre
  have hts : ∀ w ∈ lw_all, w.before _ s = true := fun w h => hts w (List.mem_cons_of_mem _ h)
  have hown : s.vm.findClass RX6 = some m.cls := findClass_of_methodNamed B.named
  have hlocks := B.notSynchronized
  have hS : va_S (Af G) s.heap s.heap [] := va_S.rf
  have hl := lv_entry ([.ref T, .int k]) (n := 5) (Nat.le_of_ble_eq_true rfl)
  rw [lg_entry_eq]
  generalize (lg_sl ([.ref T, .int k]) ++ List.replicate (5 - (lg_sl ([.ref T, .int k])).length) Slot.unset).toArray = ls at hl ⊢
  have hl : lv_has ls 5 [(0, .ref T), (1, .int k)] := hl
  refine lv_iconst (v := 0) hx hb dX6_request_0 (by decide) ?_
  refine lv_istore_n (lv' := [(2, .int 0), (0, .ref T), (1, .int k)]) hx hb dX6_request_1 rfl hl (by decide) rfl (fun ls hl => ?_)
  have k2 : ∀ (n : Nat) (i : Nat) (ls : Array Slot), (i ≤ 6) → (6 < i + n) → (tReq S k = tReqF S k (6 - i) i) → lv_has ls 5 [(0, .ref T), (1, .int k), (2, .int (nI i))] → W p l e (headSpec (ws_ yX6_request cX6_request 5 (some .int)) (rmL 1 0 0)).room s m ([.ref T, .int k] : List Value).toArray below meth c s.heap [] 0 0 (MQ below (Qp (some (.int (tReq S k)))) ([.ref T, .int k] : List Value).toArray s 0 0 (fun _ => False)) (F0 m 2 ls []) := by
    intro n
    induction n with
    | zero =>
      intro i ls hi hf hX hl
      exact absurd hf (by omega)
    | succ n ih_k2 =>
      intro i ls hi hf hX hl
      refine lv_iload_n hx hb dX6_request_2 rfl (lv_at hl 2 rfl) ?_
      refine lv_bipush (v := 6) hx hb dX6_request_3 (by decide) ?_
      refine lv_icmp_ge (tgt := 77) hx hb dX6_request_5 (by decide) (fun c_1 => ?_) (fun c_1 => ?_)
      · skip
        have c_1 := (leN (a := 6) (b := i) rfl rfl (by omega) (by omega)).mp c_1
        obtain rfl : i = 6 := by omega
        refine lv_iconst (v := -1) hx hb dX6_request_77 (by decide) ?_
        exact W.iret hx hb hr (fun t ht _ => ⟨(by rw [hX]; rfl), ht⟩) t_nil dX6_request_78
      · skip
        have c_1 := (not_congr (leN (a := 6) (b := i) rfl rfl (by omega) (by omega))).mp c_1
        refine lv_iconst (v := 0) hx hb dX6_request_8 (by decide) ?_
        refine lv_istore_n (lv' := [(3, .int 0), (0, .ref T), (1, .int k), (2, .int (nI i))]) hx hb dX6_request_9 rfl hl (by decide) rfl (fun ls hl => ?_)
        refine lv_iconst (v := 0) hx hb dX6_request_10 (by decide) ?_
        refine lv_istore (lv' := [(4, .int 0), (3, .int 0), (0, .ref T), (1, .int k), (2, .int (nI i))]) hx hb dX6_request_11 hl (by decide) rfl (fun ls hl => ?_)
        have k13 : ∀ (n : Nat) (o : Nat) (x : Nat) (ls : Array Slot), (o ≤ 6) → (6 < o + n) → (x = it (tRank S i) o 0) → lv_has ls 5 [(0, .ref T), (1, .int k), (2, .int (nI i)), (3, .int (nI x)), (4, .int (nI o))] → W p l e (headSpec (ws_ yX6_request cX6_request 5 (some .int)) (rmL 1 0 0)).room s m ([.ref T, .int k] : List Value).toArray below meth c s.heap [] 0 0 (MQ below (Qp (some (.int (tReq S k)))) ([.ref T, .int k] : List Value).toArray s 0 0 (fun _ => False)) (F0 m 13 ls []) := by
          intro n
          induction n with
          | zero =>
            intro o x ls ho hf hN hl
            exact absurd hf (by omega)
          | succ n ih_k13 =>
            intro o x ls ho hf hN hl
            refine lv_iload hx hb dX6_request_13 (lv_at hl 4 rfl) ?_
            refine lv_bipush (v := 6) hx hb dX6_request_15 (by decide) ?_
            refine lv_icmp_ge (tgt := 55) hx hb dX6_request_17 (by decide) (fun c_2 => ?_) (fun c_2 => ?_)
            · skip
              have c_2 := (leN (a := 6) (b := o) rfl rfl (by omega) (by omega)).mp c_2
              obtain rfl : o = 6 := by omega
              subst hN
              refine lv_aload_n hx hb dX6_request_55 rfl (lv_at hl 0 rfl) ?_
              refine va_get (D := G.1) (ci := 10) (v := .ref (ta 16)) (C := RX6) (T := TX6) (N := 33) hx hb hts in_X6 hown hT.1 (hR.one hW.1) 0 rfl rfl 16 (by decide) (hts _ q1048) (fun _ h9 => h9) rfl dX6_request_56 ?_
              refine lv_iload_n hx hb dX6_request_59 rfl (lv_at hl 2 rfl) ?_
              refine r_iald hx hb hT hR (hW.i 16 6 (by decide) (by decide) rfl) (j := i) rfl (by omega) (by decide) dX6_request_60 ?_
              refine W.eq (g2 := F0 m 61 ls (.int (gI S 16 i) :: [])) rfl ?_
              refine lv_if_le (tgt := 71) hx hb dX6_request_61 (by decide) (fun c_3 => ?_) (fun c_3 => ?_)
              · skip
                refine lv_iinc (v := nI (i + 1)) (lv' := [(2, .int (nI (i + 1))), (0, .ref T), (1, .int k), (3, .int (nI (it (tRank S i) 6 0))), (4, .int (nI 6))]) hx hb dX6_request_71 hl (k := 2) rfl (addN rfl rfl) (by decide) rfl (fun ls hl => ?_)
                refine lv_goto (tgt := 2) hx hb dX6_request_74 (by decide) ?_
                exact ih_k2 (i + 1) _ (by omega) (by omega) (hX.trans ((congrArg (fun z9 => tReqF S k z9 i) (show 6 - i = 6 - (i + 1) + 1 by omega)).trans ((if_pos c_3).trans (rfl)))) (lv_sub hl [1, 2, 0] rfl)
              · skip
                refine lv_iload_n hx hb dX6_request_64 rfl (lv_at hl 3 rfl) ?_
                refine lv_iload_n hx hb dX6_request_65 rfl (lv_at hl 1 rfl) ?_
                refine lv_icmp_ne (tgt := 71) hx hb dX6_request_66 (by decide) (fun c_4 => ?_) (fun c_4 => ?_)
                · skip
                  refine lv_iinc (v := nI (i + 1)) (lv' := [(2, .int (nI (i + 1))), (0, .ref T), (1, .int k), (3, .int (nI (it (tRank S i) 6 0))), (4, .int (nI 6))]) hx hb dX6_request_71 hl (k := 2) rfl (addN rfl rfl) (by decide) rfl (fun ls hl => ?_)
                  refine lv_goto (tgt := 2) hx hb dX6_request_74 (by decide) ?_
                  exact ih_k2 (i + 1) _ (by omega) (by omega) (hX.trans ((congrArg (fun z9 => tReqF S k z9 i) (show 6 - i = 6 - (i + 1) + 1 by omega)).trans ((if_neg c_3).trans ((if_neg c_4).trans (rfl))))) (lv_sub hl [1, 2, 0] rfl)
                · skip
                  refine lv_iload_n hx hb dX6_request_69 rfl (lv_at hl 2 rfl) ?_
                  exact W.iret hx hb hr (fun t ht _ => ⟨(by rw [show tReq S k = nI i from (hX.trans ((congrArg (fun z9 => tReqF S k z9 i) (show 6 - i = 6 - (i + 1) + 1 by omega)).trans ((if_neg c_3).trans ((if_pos c_4).trans (rfl)))))]), ht⟩) t_nil dX6_request_70
            · skip
              have c_2 := (not_congr (leN (a := 6) (b := o) rfl rfl (by omega) (by omega))).mp c_2
              refine lv_aload_n hx hb dX6_request_20 rfl (lv_at hl 0 rfl) ?_
              refine va_get (D := G.1) (ci := 10) (v := .ref (ta 16)) (C := RX6) (T := TX6) (N := 33) hx hb hts in_X6 hown hT.1 (hR.one hW.1) 0 rfl rfl 16 (by decide) (hts _ q1048) (fun _ h9 => h9) rfl dX6_request_21 ?_
              refine lv_iload hx hb dX6_request_24 (lv_at hl 4 rfl) ?_
              refine r_iald hx hb hT hR (hW.i 16 6 (by decide) (by decide) rfl) (j := o) rfl (by omega) (by decide) dX6_request_26 ?_
              refine W.eq (g2 := F0 m 27 ls (.int (gI S 16 o) :: [])) rfl ?_
              refine lv_if_le (tgt := 49) hx hb dX6_request_27 (by decide) (fun c_5 => ?_) (fun c_5 => ?_)
              · skip
                refine lv_iinc (v := nI (o + 1)) (lv' := [(4, .int (nI (o + 1))), (0, .ref T), (1, .int k), (2, .int (nI i)), (3, .int (nI x))]) hx hb dX6_request_49 hl (k := 4) rfl (addN rfl rfl) (by decide) rfl (fun ls hl => ?_)
                refine lv_goto (tgt := 13) hx hb dX6_request_52 (by decide) ?_
                exact ih_k13 (o + 1) x _ (by omega) (by omega) (it_next hN ((if_pos c_5).trans (rfl))) (lv_sub hl [1, 2, 3, 4, 0] rfl)
              · skip
                refine lv_iload hx hb dX6_request_30 (lv_at hl 4 rfl) ?_
                refine lv_iload_n hx hb dX6_request_32 rfl (lv_at hl 2 rfl) ?_
                refine lv_icmp_eq (tgt := 49) hx hb dX6_request_33 (by decide) (fun c_6 => ?_) (fun c_6 => ?_)
                · skip
                  have c_6 := (eqN (a := o) (b := i) rfl rfl (by omega) (by omega)).mp c_6
                  refine lv_iinc (v := nI (o + 1)) (lv' := [(4, .int (nI (o + 1))), (0, .ref T), (1, .int k), (2, .int (nI i)), (3, .int (nI x))]) hx hb dX6_request_49 hl (k := 4) rfl (addN rfl rfl) (by decide) rfl (fun ls hl => ?_)
                  refine lv_goto (tgt := 13) hx hb dX6_request_52 (by decide) ?_
                  exact ih_k13 (o + 1) x _ (by omega) (by omega) (it_next hN ((if_neg c_5).trans ((if_pos c_6).trans (rfl)))) (lv_sub hl [1, 2, 3, 4, 0] rfl)
                · skip
                  have c_6 := (not_congr (eqN (a := o) (b := i) rfl rfl (by omega) (by omega))).mp c_6
                  refine lv_aload_n hx hb dX6_request_36 rfl (lv_at hl 0 rfl) ?_
                  refine lv_iload hx hb dX6_request_37 (lv_at hl 4 rfl) ?_
                  refine lv_iload_n hx hb dX6_request_39 rfl (lv_at hl 2 rfl) ?_
                  refine g_pure (va_runV (As := [.int (nI o), .int (nI i)]) (rest := []) ⟨hx, hb, hml, hown, hts⟩ (tm_before l G M _ T ta S Y hW o i (by omega) (by omega)) (cwV 2 hts (lw_V q1223 q1225 qs34 q61 q1226) rfl rfl rfl (by decide +kernel) ⟨Nat.le_of_ble_eq_true rfl, Nat.le_of_ble_eq_true rfl⟩) (preV hT hR hS hW.1 rfl rfl) rfl rfl hl.1 rfl (lv_room (Nat.le_of_ble_eq_true rfl)) dX6_request_40 ⟨Nat.le_of_ble_eq_true rfl, Nat.le_of_ble_eq_true rfl⟩) ?_
                  refine W.eq (g2 := F0 m 43 ls [.int (bI (tBef S o i))]) rfl ?_
                  refine lv_if_eq (tgt := 49) hx hb dX6_request_43 (by decide) (fun c_7 => ?_) (fun c_7 => ?_)
                  · skip
                    have c_7 := b_0 c_7
                    refine lv_iinc (v := nI (o + 1)) (lv' := [(4, .int (nI (o + 1))), (0, .ref T), (1, .int k), (2, .int (nI i)), (3, .int (nI x))]) hx hb dX6_request_49 hl (k := 4) rfl (addN rfl rfl) (by decide) rfl (fun ls hl => ?_)
                    refine lv_goto (tgt := 13) hx hb dX6_request_52 (by decide) ?_
                    exact ih_k13 (o + 1) x _ (by omega) (by omega) (it_next hN ((if_neg c_5).trans ((if_neg c_6).trans ((if_neg c_7).trans (rfl))))) (lv_sub hl [1, 2, 3, 4, 0] rfl)
                  · skip
                    have c_7 := b_n0 c_7
                    refine lv_iinc (v := nI (x + 1)) (lv' := [(3, .int (nI (x + 1))), (0, .ref T), (1, .int k), (2, .int (nI i)), (4, .int (nI o))]) hx hb dX6_request_46 hl (k := 3) rfl (addN rfl rfl) (by decide) rfl (fun ls hl => ?_)
                    refine lv_iinc (v := nI (o + 1)) (lv' := [(4, .int (nI (o + 1))), (3, .int (nI (x + 1))), (0, .ref T), (1, .int k), (2, .int (nI i))]) hx hb dX6_request_49 hl (k := 4) rfl (addN rfl rfl) (by decide) rfl (fun ls hl => ?_)
                    refine lv_goto (tgt := 13) hx hb dX6_request_52 (by decide) ?_
                    exact ih_k13 (o + 1) (x + 1) _ (by omega) (by omega) (it_next hN ((if_neg c_5).trans ((if_neg c_6).trans ((if_pos c_7).trans (rfl))))) (lv_sub hl [2, 3, 4, 1, 0] rfl)
        exact k13 7 0 0 _ (by omega) (by omega) rfl (lv_sub hl [2, 3, 4, 1, 0] rfl)
  exact k2 7 0 _ (by omega) (by omega) rfl (lv_sub hl [1, 2, 0] rfl)
