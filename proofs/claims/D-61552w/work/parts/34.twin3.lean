set_option maxHeartbeats 4000000 in
set_option maxRecDepth 100000 in
theorem tm_asking (l : Launch) (G : Gw) (M : Mp) (sz : Nat) (T : Nat) (ta : Nat → Nat) (S : Tw) (Y : Mp) (hW : TR G T ta S Y M) (hok : askOK S) : Ct l yX6_asking cX6_asking 5 none 3 0 0 [.ref T] G M sz (fun v M1 _ => v = none ∧ TR G T ta (tAsking S) Y M1) := by
  refine Met.ofW (cc := cX6_asking) (maxL := 5) (ret := none) (by decide) rfl ?_
  intro p e s m args below meth c s₁ B hml hv
  obtain ⟨rfl, hT, hR, hsz⟩ := hv
  have hx := B.exec
  have hb := B.bytes
  have hr := B.returns
  have hts := atoms_spec (ws := ws_ yX6_asking cX6_asking 5 none) B.pre
  have hts : ∀ w ∈ lw_all, w.before _ s = true := fun w h => hts w (List.mem_cons_of_mem _ h)
  have hown : s.vm.findClass RX6 = some m.cls := findClass_of_methodNamed B.named
  have hlocks := B.notSynchronized
  have hS : va_S (Af G) s.heap s.heap [] := va_S.rf
  have hl := lv_entry ([.ref T]) (n := 5) (Nat.le_of_ble_eq_true rfl)
  rw [lg_entry_eq]
  generalize (lg_sl ([.ref T]) ++ List.replicate (5 - (lg_sl ([.ref T])).length) Slot.unset).toArray = ls at hl ⊢
  have hl : lv_has ls 5 [(0, .ref T)] := hl
  refine lv_iconst (v := 0) hx hb dX6_asking_0 (by decide) ?_
  refine lv_istore_n (lv' := [(1, .int 0), (0, .ref T)]) hx hb dX6_asking_1 rfl hl (by decide) rfl (fun ls hl => ?_)
  have k2 : ∀ (n : Nat) (i : Nat) (S1 : Tw) (M : Mp) (H : Heap) (locs : List Loc) (ls : Array Slot), (i ≤ 6) → (6 < i + n) → (S1 = it tAs1 i S) → (TR G T ta S1 Y M) → Rp G M H → va_S (Af G) s.heap H locs → lv_has ls 5 [(0, .ref T), (1, .int (nI i))] → W p l e (headSpec (ws_ yX6_asking cX6_asking 5 none) (rmL 3 0 0)).room s m ([.ref T] : List Value).toArray below meth c H locs 0 0 (MQ below (Qg G (fun v M1 _ => v = none ∧ TR G T ta (tAsking S) Y M1)) ([.ref T] : List Value).toArray s 0 0 (Af G)) (F0 m 2 ls []) := by
    intro n
    induction n with
    | zero =>
      intro i S1 M H locs ls hi hf hX hW hR hS hl
      exact absurd hf (by omega)
    | succ n ih_k2 =>
      intro i S1 M H locs ls hi hf hX hW hR hS hl
      refine lv_iload_n hx hb dX6_asking_2 rfl (lv_at hl 1 rfl) ?_
      refine lv_bipush (v := 6) hx hb dX6_asking_3 (by decide) ?_
      refine lv_icmp_ge (tgt := 98) hx hb dX6_asking_5 (by decide) (fun c_1 => ?_) (fun c_1 => ?_)
      · skip
        have c_1 := (leN (a := 6) (b := i) rfl rfl (by omega) (by omega)).mp c_1
        obtain rfl : i = 6 := by omega
        have hok1 : OkD S1 := OkD_congr (hX ▸ keep_as1 S) hok.1
        have hsd1 : ∀ j, j < 6 → ¬ gI S1 20 j = 0 → nb (tWanted S1 j) 11 := by rw [hX]; exact hok.2
        have hE1 : tAsking S = tAskP (tAskP S1 1) 2 := by rw [hX]; rfl
        have hl : lv_has ls 5 [(0, .ref T)] := lv_sub hl [0] rfl
        refine lv_iconst (v := 1) hx hb dX6_asking_98 (by decide) ?_
        refine lv_istore_n (lv' := [(1, .int 1), (0, .ref T)]) hx hb dX6_asking_99 rfl hl (by decide) rfl (fun ls hl => ?_)
        -- the second place
        have k100 : ∀ (S2 : Tw) (M : Mp) (H : Heap) (locs : List Loc) (ls : Array Slot), (tAskP S1 1 = S2) → (TR G T ta S2 Y M) → Rp G M H → va_S (Af G) s.heap H locs → lv_has ls 5 [(0, .ref T), (1, .int 2)] → W p l e (headSpec (ws_ yX6_asking cX6_asking 5 none) (rmL 3 0 0)).room s m ([.ref T] : List Value).toArray below meth c H locs 0 0 (MQ below (Qg G (fun v M1 _ => v = none ∧ TR G T ta (tAsking S) Y M1)) ([.ref T] : List Value).toArray s 0 0 (Af G)) (F0 m 100 ls []) := by
          intro S2 M H locs ls hE2 hW hR hS hl
          have hk2 := keep_askP S1 1
          rw [hE2] at hk2
          have hok2 : OkD S2 := OkD_congr hk2.1 hok1
          have hsd2 : ∀ j, j < 6 → ¬ gI S2 20 j = 0 → nb (tWanted S2 j) 11 := by
            intro j hj hn
            rw [tWanted_congr hk2.1 hk2.2.1 hk2.2.2.1]
            rw [hk2.2.2.2] at hn
            exact hsd1 j hj hn
          refine lv_iload_n hx hb dX6_asking_100 rfl (lv_at hl 1 rfl) ?_
          refine lv_iconst (v := 3) hx hb dX6_asking_101 (by decide) ?_
          refine lv_icmp_ge (tgt := 297) hx hb dX6_asking_102 (by decide) (fun c_2 => ?_) (fun c_2 => ?_)
          · skip
            exact absurd c_2 (by decide)
          · skip
            refine lv_iconst (v := 0) hx hb dX6_asking_105 (by decide) ?_
            refine lv_istore_n (lv' := [(2, .int 0), (0, .ref T), (1, .int 2)]) hx hb dX6_asking_106 rfl hl (by decide) rfl (fun ls hl => ?_)
            refine lv_iconst (v := 0) hx hb dX6_asking_107 (by decide) ?_
            refine lv_istore_n (lv' := [(3, .int 0), (2, .int 0), (0, .ref T), (1, .int 2)]) hx hb dX6_asking_108 rfl hl (by decide) rfl (fun ls hl => ?_)
            refine lv_iconst (v := 0) hx hb dX6_asking_109 (by decide) ?_
            refine lv_istore (lv' := [(4, .int 0), (3, .int 0), (2, .int 0), (0, .ref T), (1, .int 2)]) hx hb dX6_asking_110 hl (by decide) rfl (fun ls hl => ?_)
            have hP0 : tAskP S2 2 = tAskP1 S2 2 (it (tCt S2 2) 6 (0, 0)) := rfl
            have k112 : ∀ (n : Nat) (o : Nat) (x : Nat × Nat) (H : Heap) (locs : List Loc) (ls : Array Slot), (o ≤ 6) → (6 < o + n) → (x = it (tCt S2 2) o (0, 0)) → (x.1 ≤ o) → (x.2 < 6) → (x.1 = 0 ∨ gI S2 20 x.2 = 2) → Rp G M H → va_S (Af G) s.heap H locs → lv_has ls 5 [(0, .ref T), (1, .int 2), (2, .int (nI x.1)), (3, .int (nI x.2)), (4, .int (nI o))] → W p l e (headSpec (ws_ yX6_asking cX6_asking 5 none) (rmL 3 0 0)).room s m ([.ref T] : List Value).toArray below meth c H locs 0 0 (MQ below (Qg G (fun v M1 _ => v = none ∧ TR G T ta (tAsking S) Y M1)) ([.ref T] : List Value).toArray s 0 0 (Af G)) (F0 m 112 ls []) := by
              intro n
              induction n with
              | zero =>
                intro o x H locs ls ho hf hN hx1 hx2 hx3 hR hS hl
                exact absurd hf (by omega)
              | succ n ih_k112 =>
                intro o x H locs ls ho hf hN hx1 hx2 hx3 hR hS hl
                refine lv_iload hx hb dX6_asking_112 (lv_at hl 4 rfl) ?_
                refine lv_bipush (v := 6) hx hb dX6_asking_114 (by decide) ?_
                refine lv_icmp_ge (tgt := 142) hx hb dX6_asking_116 (by decide) (fun c_3 => ?_) (fun c_3 => ?_)
                · skip
                  have c_3 := (leN (a := 6) (b := o) rfl rfl (by omega) (by omega)).mp c_3
                  obtain rfl : o = 6 := by omega
                  have hP := hP0.trans (congrArg (tAskP1 _ _) hN.symm)
                  have hl : lv_has ls 5 [(0, .ref T), (1, .int 2), (2, .int (nI x.1)), (3, .int (nI x.2))] := lv_sub hl [0, 1, 2, 3] rfl
                  refine lv_iload_n hx hb dX6_asking_142 rfl (lv_at hl 2 rfl) ?_
                  refine lv_iconst (v := 1) hx hb dX6_asking_143 (by decide) ?_
                  refine lv_icmp_ne (tgt := 222) hx hb dX6_asking_144 (by decide) (fun c_4 => ?_) (fun c_4 => ?_)
                  · skip
                    refine lv_iload_n hx hb dX6_asking_222 rfl (lv_at hl 2 rfl) ?_
                    refine lv_iconst (v := 1) hx hb dX6_asking_223 (by decide) ?_
                    refine lv_icmp_ne (tgt := 235) hx hb dX6_asking_224 (by decide) (fun c_5 => ?_) (fun c_5 => ?_)
                    · skip
                      refine lv_iload_n hx hb dX6_asking_235 rfl (lv_at hl 2 rfl) ?_
                      refine lv_iconst (v := 1) hx hb dX6_asking_236 (by decide) ?_
                      refine lv_icmp_le (tgt := 291) hx hb dX6_asking_237 (by decide) (fun c_6 => ?_) (fun c_6 => ?_)
                      · skip
                        refine lv_iinc (v := 3) (lv' := [(1, .int 3), (0, .ref T), (2, .int (nI x.1)), (3, .int (nI x.2))]) hx hb dX6_asking_291 hl (k := 1) rfl (by decide) (by decide) rfl (fun ls hl => ?_)
                        refine lv_goto (tgt := 100) hx hb dX6_asking_294 (by decide) ?_
                        have hk2 := keep_askP S1 1
                        rw [hE2] at hk2
                        have hok2 : OkD S2 := OkD_congr hk2.1 hok1
                        have hsd2 : ∀ j, j < 6 → ¬ gI S2 20 j = 0 → nb (tWanted S2 j) 11 := by
                          intro j hj hn
                          rw [tWanted_congr hk2.1 hk2.2.1 hk2.2.2.1]
                          rw [hk2.2.2.2] at hn
                          exact hsd1 j hj hn
                        refine lv_iload_n hx hb dX6_asking_100 rfl (lv_at hl 0 rfl) ?_
                        refine lv_iconst (v := 3) hx hb dX6_asking_101 (by decide) ?_
                        refine lv_icmp_ge (tgt := 297) hx hb dX6_asking_102 (by decide) (fun c_7 => ?_) (fun c_7 => ?_)
                        · skip
                          exact W.vret hx hb hr (q_ret (⟨rfl, TR.eq (hE1.trans ((congrArg (fun z9 => tAskP z9 2) hE2).trans (hP.trans ((if_neg c_4).trans ((if_pos c_6).trans (rfl)))))) hW⟩) hR hS) hS.2.2 dX6_asking_297
                        · skip
                          exact absurd c_7 (by decide)
                      · skip
                        refine lv_aload_n hx hb dX6_asking_240 rfl (lv_at hl 0 rfl) ?_
                        refine lv_dup hx hb dX6_asking_241 rfl ?_
                        refine va_get (D := G.1) (ci := 10) (v := .int (gF S2 27)) (C := RX6) (T := TX6) (N := 33) hx hb hts in_X6 hown hT.1 (hR.one hW.1) 0 rfl rfl 27 (by decide) (hts _ q1059) (fun _ h9 => h9) rfl dX6_asking_242 ?_
                        refine lv_iconst (v := 1) hx hb dX6_asking_245 (by decide) ?_
                        refine lv_iadd hx hb dX6_asking_246 ?_
                        refine r_put (ci := 10) (v := .int ((gF S2 27) + 1)) (ty := .int) (C := RX6) (T := TX6) (N := 33) hx hb hts in_X6 tyX6 tyX6_ok nmX6 hown hT hR hS hW.1 rfl 27 (by decide) (hts _ q1059) (fun _ h9 => h9) rfl (by decide +kernel) rfl rfl (Nat.le_of_ble_eq_true rfl) dX6_asking_247 (fun H locs hz hR hS => ?_)
                        obtain ⟨M, hR, hW⟩ : ∃ M1 : Mp, Rp G M1 H ∧ TR G T ta (sF S2 27 ((gF S2 27) + 1)) Y M1 := ⟨_, hR, hW.setF 27 (by decide) (by decide) ((gF S2 27) + 1)⟩
                        refine lv_iconst (v := 0) hx hb dX6_asking_250 (by decide) ?_
                        refine lv_istore (lv' := [(4, .int 0), (0, .ref T), (1, .int 2), (2, .int (nI x.1)), (3, .int (nI x.2))]) hx hb dX6_asking_251 hl (by decide) rfl (fun ls hl => ?_)
                        have hP2 : tAskP S2 2 = it (tAs2 2) 6 (sF S2 27 ((gF S2 27) + 1)) := hP.trans ((if_neg c_4).trans ((if_neg c_6).trans (rfl)))
                        have k253 : ∀ (n : Nat) (o : Nat) (S3 : Tw) (M : Mp) (H : Heap) (locs : List Loc) (ls : Array Slot), (o ≤ 6) → (6 < o + n) → (S3 = it (tAs2 2) o (sF S2 27 ((gF S2 27) + 1))) → (TR G T ta S3 Y M) → Rp G M H → va_S (Af G) s.heap H locs → lv_has ls 5 [(0, .ref T), (1, .int 2), (4, .int (nI o))] → W p l e (headSpec (ws_ yX6_asking cX6_asking 5 none) (rmL 3 0 0)).room s m ([.ref T] : List Value).toArray below meth c H locs 0 0 (MQ below (Qg G (fun v M1 _ => v = none ∧ TR G T ta (tAsking S) Y M1)) ([.ref T] : List Value).toArray s 0 0 (Af G)) (F0 m 253 ls []) := by
                          intro n
                          induction n with
                          | zero =>
                            intro o S3 M H locs ls ho hf hX3 hW hR hS hl
                            exact absurd hf (by omega)
                          | succ n ih_k253 =>
                            intro o S3 M H locs ls ho hf hX3 hW hR hS hl
                            refine lv_iload hx hb dX6_asking_253 (lv_at hl 2 rfl) ?_
                            refine lv_bipush (v := 6) hx hb dX6_asking_255 (by decide) ?_
                            refine lv_icmp_ge (tgt := 291) hx hb dX6_asking_257 (by decide) (fun c_8 => ?_) (fun c_8 => ?_)
                            · skip
                              have c_8 := (leN (a := 6) (b := o) rfl rfl (by omega) (by omega)).mp c_8
                              obtain rfl : o = 6 := by omega
                              have hl : lv_has ls 5 [(0, .ref T), (1, .int 2)] := lv_sub hl [0, 1] rfl
                              refine lv_iinc (v := 3) (lv' := [(1, .int 3), (0, .ref T)]) hx hb dX6_asking_291 hl (k := 1) rfl (by decide) (by decide) rfl (fun ls hl => ?_)
                              refine lv_goto (tgt := 100) hx hb dX6_asking_294 (by decide) ?_
                              refine lv_iload_n hx hb dX6_asking_100 rfl (lv_at hl 0 rfl) ?_
                              refine lv_iconst (v := 3) hx hb dX6_asking_101 (by decide) ?_
                              refine lv_icmp_ge (tgt := 297) hx hb dX6_asking_102 (by decide) (fun c_9 => ?_) (fun c_9 => ?_)
                              · skip
                                exact W.vret hx hb hr (q_ret (⟨rfl, TR.eq (hE1.trans ((congrArg (fun z9 => tAskP z9 2) hE2).trans (hP2.trans hX3.symm))) hW⟩) hR hS) hS.2.2 dX6_asking_297
                              · skip
                                exact absurd c_9 (by decide)
                            · skip
                              have c_8 := (not_congr (leN (a := 6) (b := o) rfl rfl (by omega) (by omega))).mp c_8
                              refine lv_aload_n hx hb dX6_asking_260 rfl (lv_at hl 0 rfl) ?_
                              refine va_get (D := G.1) (ci := 10) (v := .ref (ta 20)) (C := RX6) (T := TX6) (N := 33) hx hb hts in_X6 hown hT.1 (hR.one hW.1) 0 rfl rfl 20 (by decide) (hts _ q1052) (fun _ h9 => h9) rfl dX6_asking_261 ?_
                              refine lv_iload hx hb dX6_asking_264 (lv_at hl 2 rfl) ?_
                              refine r_iald hx hb hT hR (hW.i 20 6 (by decide) (by decide) rfl) (j := o) rfl (by omega) (by decide) dX6_asking_266 ?_
                              refine W.eq (g2 := F0 m 267 ls (.int (gI S3 20 o) :: [])) rfl ?_
                              refine lv_iload_n hx hb dX6_asking_267 rfl (lv_at hl 1 rfl) ?_
                              refine lv_icmp_ne (tgt := 285) hx hb dX6_asking_268 (by decide) (fun c_10 => ?_) (fun c_10 => ?_)
                              · skip
                                refine lv_iinc (v := nI (o + 1)) (lv' := [(4, .int (nI (o + 1))), (0, .ref T), (1, .int 2)]) hx hb dX6_asking_285 hl (k := 2) rfl (addN rfl rfl) (by decide) rfl (fun ls hl => ?_)
                                refine lv_goto (tgt := 253) hx hb dX6_asking_288 (by decide) ?_
                                exact ih_k253 (o + 1) S3 _ _ _ _ (by omega) (by omega) (it_next hX3 ((if_neg c_10).trans (rfl))) hW hR hS (lv_sub hl [1, 2, 0] rfl)
                              · skip
                                refine lv_aload_n hx hb dX6_asking_271 rfl (lv_at hl 0 rfl) ?_
                                refine va_get (D := G.1) (ci := 10) (v := .ref (ta 10)) (C := RX6) (T := TX6) (N := 33) hx hb hts in_X6 hown hT.1 (hR.one hW.1) 0 rfl rfl 10 (by decide) (hts _ q1042) (fun _ h9 => h9) rfl dX6_asking_272 ?_
                                refine lv_iload hx hb dX6_asking_275 (lv_at hl 2 rfl) ?_
                                refine lv_aload_n hx hb dX6_asking_277 rfl (lv_at hl 0 rfl) ?_
                                refine lv_iload hx hb dX6_asking_278 (lv_at hl 2 rfl) ?_
                                refine lv_iconst (v := 4) hx hb dX6_asking_280 (by decide) ?_
                                refine g_call (va_runV (As := [.int (nI o), .int 4]) (rest := [.int (nI o), .ref (ta 10)]) ⟨hx, hb, hml, hown, hts⟩ (tm_draw l G M _ T ta S3 Y hW o 4 (by omega) (by decide)) (cwV 2 hts (lw_V q1194 q1196 qs27 q61 q1197) rfl rfl rfl (by decide +kernel) ⟨Nat.le_of_ble_eq_true rfl, Nat.le_of_ble_eq_true rfl⟩) (preV hT hR hS hW.1 rfl rfl) rfl rfl hl.1 rfl (lv_room (Nat.le_of_ble_eq_true rfl)) dX6_asking_281 ⟨Nat.le_of_ble_eq_true rfl, Nat.le_of_ble_eq_true rfl⟩) hS (fun v M H locs hq hR hz hS => ?_)
                                obtain ⟨rfl, hW⟩ := hq
                                refine W.eq (g2 := F0 m 284 ls [.int (drawR (gI S3 7 o) 4), .int (nI o), .ref (ta 10)]) rfl ?_
                                refine r_iastj hx hb hT hR hS (hW.i 10 6 (by decide) (by decide) rfl) (j := o) rfl (by omega) (by decide) dX6_asking_284 (fun H locs hz hR hS => ?_)
                                obtain ⟨M, hR, hW⟩ : ∃ M1 : Mp, Rp G M1 H ∧ TR G T ta (sI (tDraw S3 o) 10 o (drawR (gI S3 7 o) 4)) Y M1 := ⟨_, hR, hW.setI 10 (by decide) (by decide) o (drawR (gI S3 7 o) 4)⟩
                                refine lv_iinc (v := nI (o + 1)) (lv' := [(4, .int (nI (o + 1))), (0, .ref T), (1, .int 2)]) hx hb dX6_asking_285 hl (k := 2) rfl (addN rfl rfl) (by decide) rfl (fun ls hl => ?_)
                                refine lv_goto (tgt := 253) hx hb dX6_asking_288 (by decide) ?_
                                exact ih_k253 (o + 1) (sI (tDraw S3 o) 10 o (drawR (gI S3 7 o) 4)) _ _ _ _ (by omega) (by omega) (it_next hX3 ((if_pos c_10).trans (rfl))) hW hR hS (lv_sub hl [1, 2, 0] rfl)
                        exact k253 7 0 _ _ _ _ _ (by omega) (by omega) rfl hW hR hS (lv_sub hl [1, 2, 0] rfl)
                    · skip
                      first | exact absurd c_5 c_4 | exact absurd c_4 c_5
                  · skip
                    refine lv_aload_n hx hb dX6_asking_147 rfl (lv_at hl 0 rfl) ?_
                    refine lv_iload_n hx hb dX6_asking_148 rfl (lv_at hl 3 rfl) ?_
                    refine g_pure (va_runV (As := [.int (nI x.2)]) (rest := []) ⟨hx, hb, hml, hown, hts⟩ (tm_fine l G M _ T ta S2 Y hW x.2 (by omega) (hok2 x.2 (by omega))) (cwV 1 hts (lw_V q1175 q1177 qs23 q61 q1178) rfl rfl rfl (by decide +kernel) ⟨Nat.le_of_ble_eq_true rfl, Nat.le_of_ble_eq_true rfl⟩) (preV hT hR hS hW.1 rfl rfl) rfl rfl hl.1 rfl (lv_room (Nat.le_of_ble_eq_true rfl)) dX6_asking_149 ⟨Nat.le_of_ble_eq_true rfl, Nat.le_of_ble_eq_true rfl⟩) ?_
                    refine W.eq (g2 := F0 m 152 ls [.int (bI (tFine S2 x.2))]) rfl ?_
                    refine lv_if_eq (tgt := 222) hx hb dX6_asking_152 (by decide) (fun c_11 => ?_) (fun c_11 => ?_)
                    · skip
                      have c_11 := b_0 c_11
                      refine lv_iload_n hx hb dX6_asking_222 rfl (lv_at hl 2 rfl) ?_
                      refine lv_iconst (v := 1) hx hb dX6_asking_223 (by decide) ?_
                      refine lv_icmp_ne (tgt := 235) hx hb dX6_asking_224 (by decide) (fun c_12 => ?_) (fun c_12 => ?_)
                      · skip
                        first | exact absurd c_12 c_4 | exact absurd c_4 c_12
                      · skip
                        refine lv_aload_n hx hb dX6_asking_227 rfl (lv_at hl 0 rfl) ?_
                        refine lv_iload_n hx hb dX6_asking_228 rfl (lv_at hl 3 rfl) ?_
                        refine g_call (va_runV (As := [.int (nI x.2)]) (rest := []) ⟨hx, hb, hml, hown, hts⟩ (tm_missed l G M _ T ta S2 Y hW x.2 (by omega)) (cwV 1 hts (lw_V q1207 q1209 qs30 q61 q1210) rfl rfl rfl (by decide +kernel) ⟨Nat.le_of_ble_eq_true rfl, Nat.le_of_ble_eq_true rfl⟩) (preV hT hR hS hW.1 rfl rfl) rfl rfl hl.1 rfl (lv_room (Nat.le_of_ble_eq_true rfl)) dX6_asking_229 ⟨Nat.le_of_ble_eq_true rfl, Nat.le_of_ble_eq_true rfl⟩) hS (fun v M H locs hq hR hz hS => ?_)
                        obtain ⟨rfl, hW⟩ := hq
                        refine W.eq (g2 := F0 m 232 ls []) rfl ?_
                        refine lv_goto (tgt := 291) hx hb dX6_asking_232 (by decide) ?_
                        refine lv_iinc (v := 3) (lv' := [(1, .int 3), (0, .ref T), (2, .int (nI x.1)), (3, .int (nI x.2))]) hx hb dX6_asking_291 hl (k := 1) rfl (by decide) (by decide) rfl (fun ls hl => ?_)
                        refine lv_goto (tgt := 100) hx hb dX6_asking_294 (by decide) ?_
                        refine lv_iload_n hx hb dX6_asking_100 rfl (lv_at hl 0 rfl) ?_
                        refine lv_iconst (v := 3) hx hb dX6_asking_101 (by decide) ?_
                        refine lv_icmp_ge (tgt := 297) hx hb dX6_asking_102 (by decide) (fun c_13 => ?_) (fun c_13 => ?_)
                        · skip
                          exact W.vret hx hb hr (q_ret (⟨rfl, TR.eq (hE1.trans ((congrArg (fun z9 => tAskP z9 2) hE2).trans (hP.trans ((if_pos c_4).trans ((if_neg c_11).trans (rfl)))))) hW⟩) hR hS) hS.2.2 dX6_asking_297
                        · skip
                          exact absurd c_13 (by decide)
                    · skip
                      have c_11 := b_n0 c_11
                      have hw0 : nb (tWanted S2 x.2) 11 := hsd2 x.2 hx2 (by
                        have h1 : x.1 = 1 := (eqN (a := x.1) (b := 1) rfl rfl (by omega) (by omega)).mp c_4
                        rcases hx3 with h | h
                        · omega
                        · rw [h]; decide)
                      have hw1 := hw0.1
                      have hw2 := hw0.2
                      refine lv_aload_n hx hb dX6_asking_155 rfl (lv_at hl 0 rfl) ?_
                      refine va_get (D := G.1) (ci := 10) (v := .ref (ta 17)) (C := RX6) (T := TX6) (N := 33) hx hb hts in_X6 hown hT.1 (hR.one hW.1) 0 rfl rfl 17 (by decide) (hts _ q1049) (fun _ h9 => h9) rfl dX6_asking_156 ?_
                      refine lv_iload_n hx hb dX6_asking_159 rfl (lv_at hl 3 rfl) ?_
                      refine lv_aload_n hx hb dX6_asking_160 rfl (lv_at hl 0 rfl) ?_
                      refine lv_iload_n hx hb dX6_asking_161 rfl (lv_at hl 3 rfl) ?_
                      refine g_pure (va_runV (As := [.int (nI x.2)]) (rest := [.int (nI x.2), .ref (ta 17)]) ⟨hx, hb, hml, hown, hts⟩ (tm_wanted l G M _ T ta S2 Y hW x.2 (by omega)) (cwV 1 hts (lw_V q1203 q1205 qs29 q61 q1206) rfl rfl rfl (by decide +kernel) ⟨Nat.le_of_ble_eq_true rfl, Nat.le_of_ble_eq_true rfl⟩) (preV hT hR hS hW.1 rfl rfl) rfl rfl hl.1 rfl (lv_room (Nat.le_of_ble_eq_true rfl)) dX6_asking_162 ⟨Nat.le_of_ble_eq_true rfl, Nat.le_of_ble_eq_true rfl⟩) ?_
                      refine W.eq (g2 := F0 m 165 ls [.int (tWanted S2 x.2), .int (nI x.2), .ref (ta 17)]) rfl ?_
                      refine r_iastj hx hb hT hR hS (hW.i 17 6 (by decide) (by decide) rfl) (j := x.2) rfl (by omega) (by decide) dX6_asking_165 (fun H locs hz hR hS => ?_)
                      obtain ⟨M, hR, hW⟩ : ∃ M1 : Mp, Rp G M1 H ∧ TR G T ta (sI S2 17 x.2 (tWanted S2 x.2)) Y M1 := ⟨_, hR, hW.setI 17 (by decide) (by decide) x.2 (tWanted S2 x.2)⟩
                      refine lv_aload_n hx hb dX6_asking_166 rfl (lv_at hl 0 rfl) ?_
                      refine va_get (D := G.1) (ci := 10) (v := .ref (ta 16)) (C := RX6) (T := TX6) (N := 33) hx hb hts in_X6 hown hT.1 (hR.one hW.1) 0 rfl rfl 16 (by decide) (hts _ q1048) (fun _ h9 => h9) rfl dX6_asking_167 ?_
                      refine lv_iload_n hx hb dX6_asking_170 rfl (lv_at hl 3 rfl) ?_
                      refine lv_aload_n hx hb dX6_asking_171 rfl (lv_at hl 0 rfl) ?_
                      refine va_get (D := G.1) (ci := 10) (v := .ref (ta 14)) (C := RX6) (T := TX6) (N := 33) hx hb hts in_X6 hown hT.1 (hR.one hW.1) 0 rfl rfl 14 (by decide) (hts _ q1046) (fun _ h9 => h9) rfl dX6_asking_172 ?_
                      refine lv_aload_n hx hb dX6_asking_175 rfl (lv_at hl 0 rfl) ?_
                      refine va_get (D := G.1) (ci := 10) (v := .ref (ta 17)) (C := RX6) (T := TX6) (N := 33) hx hb hts in_X6 hown hT.1 (hR.one hW.1) 0 rfl rfl 17 (by decide) (hts _ q1049) (fun _ h9 => h9) rfl dX6_asking_176 ?_
                      refine lv_iload_n hx hb dX6_asking_179 rfl (lv_at hl 3 rfl) ?_
                      refine r_iald hx hb hT hR (hW.i 17 6 (by decide) (by decide) rfl) (j := x.2) rfl (by omega) (by decide) dX6_asking_180 ?_
                      refine W.eq (g2 := F0 m 181 ls (.int (tWanted S2 x.2) :: [.ref (ta 14), .int (nI x.2), .ref (ta 16)])) (by simp [gI, sI, gD, sD, sF, va_up, upd, vf_upd]) ?_
                      refine lv_iconst (v := 4) hx hb dX6_asking_181 (by decide) ?_
                      refine lv_imul hx hb dX6_asking_182 ?_
                      refine W.eq (g2 := F0 m 183 ls (.int (nI ((ix (tWanted S2 x.2)) * 4)) :: [.ref (ta 14), .int (nI x.2), .ref (ta 16)])) (congrArg (fun z => F0 m 183 ls (.int z :: [.ref (ta 14), .int (nI x.2), .ref (ta 16)])) (mulN hw1 rfl)) ?_
                      refine r_iald hx hb hT hR (hW.i 14 48 (by decide) (by decide) rfl) (j := ((ix (tWanted S2 x.2)) * 4)) rfl (by omega) (by decide) dX6_asking_183 ?_
                      refine W.eq (g2 := F0 m 184 ls (.int (gI S2 14 ((ix (tWanted S2 x.2)) * 4)) :: [.int (nI x.2), .ref (ta 16)])) rfl ?_
                      refine r_iastj hx hb hT hR hS (hW.i 16 6 (by decide) (by decide) rfl) (j := x.2) rfl (by omega) (by decide) dX6_asking_184 (fun H locs hz hR hS => ?_)
                      obtain ⟨M, hR, hW⟩ : ∃ M1 : Mp, Rp G M1 H ∧ TR G T ta (sI (sI S2 17 x.2 (tWanted S2 x.2)) 16 x.2 (gI S2 14 ((ix (tWanted S2 x.2)) * 4))) Y M1 := ⟨_, hR, hW.setI 16 (by decide) (by decide) x.2 (gI S2 14 ((ix (tWanted S2 x.2)) * 4))⟩
                      refine lv_aload_n hx hb dX6_asking_185 rfl (lv_at hl 0 rfl) ?_
                      refine va_get (D := G.1) (ci := 10) (v := .ref (ta 18)) (C := RX6) (T := TX6) (N := 33) hx hb hts in_X6 hown hT.1 (hR.one hW.1) 0 rfl rfl 18 (by decide) (hts _ q1050) (fun _ h9 => h9) rfl dX6_asking_186 ?_
                      refine lv_iload_n hx hb dX6_asking_189 rfl (lv_at hl 3 rfl) ?_
                      refine lv_aload_n hx hb dX6_asking_190 rfl (lv_at hl 0 rfl) ?_
                      refine va_get (D := G.1) (ci := 10) (v := .ref (ta 12)) (C := RX6) (T := TX6) (N := 33) hx hb hts in_X6 hown hT.1 (hR.one hW.1) 0 rfl rfl 12 (by decide) (hts _ q1044) (fun _ h9 => h9) rfl dX6_asking_191 ?_
                      refine lv_aload_n hx hb dX6_asking_194 rfl (lv_at hl 0 rfl) ?_
                      refine va_get (D := G.1) (ci := 10) (v := .ref (ta 17)) (C := RX6) (T := TX6) (N := 33) hx hb hts in_X6 hown hT.1 (hR.one hW.1) 0 rfl rfl 17 (by decide) (hts _ q1049) (fun _ h9 => h9) rfl dX6_asking_195 ?_
                      refine lv_iload_n hx hb dX6_asking_198 rfl (lv_at hl 3 rfl) ?_
                      refine r_iald hx hb hT hR (hW.i 17 6 (by decide) (by decide) rfl) (j := x.2) rfl (by omega) (by decide) dX6_asking_199 ?_
                      refine W.eq (g2 := F0 m 200 ls (.int (tWanted S2 x.2) :: [.ref (ta 12), .int (nI x.2), .ref (ta 18)])) (by simp [gI, sI, gD, sD, sF, va_up, upd, vf_upd]) ?_
                      refine r_iald hx hb hT hR (hW.i 12 12 (by decide) (by decide) rfl) (j := (ix (tWanted S2 x.2))) hw1 (by omega) (by decide) dX6_asking_200 ?_
                      refine W.eq (g2 := F0 m 201 ls (.int (gI S2 12 (ix (tWanted S2 x.2))) :: [.int (nI x.2), .ref (ta 18)])) rfl ?_
                      refine r_iastj hx hb hT hR hS (hW.i 18 6 (by decide) (by decide) rfl) (j := x.2) rfl (by omega) (by decide) dX6_asking_201 (fun H locs hz hR hS => ?_)
                      obtain ⟨M, hR, hW⟩ : ∃ M1 : Mp, Rp G M1 H ∧ TR G T ta (sI (sI (sI S2 17 x.2 (tWanted S2 x.2)) 16 x.2 (gI S2 14 ((ix (tWanted S2 x.2)) * 4))) 18 x.2 (gI S2 12 (ix (tWanted S2 x.2)))) Y M1 := ⟨_, hR, hW.setI 18 (by decide) (by decide) x.2 (gI S2 12 (ix (tWanted S2 x.2)))⟩
                      refine lv_aload_n hx hb dX6_asking_202 rfl (lv_at hl 0 rfl) ?_
                      refine va_get (D := G.1) (ci := 10) (v := .ref (ta 19)) (C := RX6) (T := TX6) (N := 33) hx hb hts in_X6 hown hT.1 (hR.one hW.1) 0 rfl rfl 19 (by decide) (hts _ q1051) (fun _ h9 => h9) rfl dX6_asking_203 ?_
                      refine lv_iload_n hx hb dX6_asking_206 rfl (lv_at hl 3 rfl) ?_
                      refine lv_aload_n hx hb dX6_asking_207 rfl (lv_at hl 0 rfl) ?_
                      refine lv_dup hx hb dX6_asking_208 rfl ?_
                      refine va_get (D := G.1) (ci := 10) (v := .int (gF S2 24)) (C := RX6) (T := TX6) (N := 33) hx hb hts in_X6 hown hT.1 (hR.one hW.1) 0 rfl rfl 24 (by decide) (hts _ q1056) (fun _ h9 => h9) rfl dX6_asking_209 ?_
                      refine lv_dup_x1 hx hb dX6_asking_212 rfl rfl ?_
                      refine lv_iconst (v := 1) hx hb dX6_asking_213 (by decide) ?_
                      refine lv_iadd hx hb dX6_asking_214 ?_
                      refine r_put (ci := 10) (v := .int ((gF S2 24) + 1)) (ty := .int) (C := RX6) (T := TX6) (N := 33) hx hb hts in_X6 tyX6 tyX6_ok nmX6 hown hT hR hS hW.1 rfl 24 (by decide) (hts _ q1056) (fun _ h9 => h9) rfl (by decide +kernel) rfl rfl (Nat.le_of_ble_eq_true rfl) dX6_asking_215 (fun H locs hz hR hS => ?_)
                      obtain ⟨M, hR, hW⟩ : ∃ M1 : Mp, Rp G M1 H ∧ TR G T ta (sF (sI (sI (sI S2 17 x.2 (tWanted S2 x.2)) 16 x.2 (gI S2 14 ((ix (tWanted S2 x.2)) * 4))) 18 x.2 (gI S2 12 (ix (tWanted S2 x.2)))) 24 ((gF S2 24) + 1)) Y M1 := ⟨_, hR, hW.setF 24 (by decide) (by decide) ((gF S2 24) + 1)⟩
                      refine r_iastj hx hb hT hR hS (hW.i 19 6 (by decide) (by decide) rfl) (j := x.2) rfl (by omega) (by decide) dX6_asking_218 (fun H locs hz hR hS => ?_)
                      obtain ⟨M, hR, hW⟩ : ∃ M1 : Mp, Rp G M1 H ∧ TR G T ta (sI (sF (sI (sI (sI S2 17 x.2 (tWanted S2 x.2)) 16 x.2 (gI S2 14 ((ix (tWanted S2 x.2)) * 4))) 18 x.2 (gI S2 12 (ix (tWanted S2 x.2)))) 24 ((gF S2 24) + 1)) 19 x.2 (gF S2 24)) Y M1 := ⟨_, hR, hW.setI 19 (by decide) (by decide) x.2 (gF S2 24)⟩
                      refine lv_goto (tgt := 291) hx hb dX6_asking_219 (by decide) ?_
                      refine lv_iinc (v := 3) (lv' := [(1, .int 3), (0, .ref T), (2, .int (nI x.1)), (3, .int (nI x.2))]) hx hb dX6_asking_291 hl (k := 1) rfl (by decide) (by decide) rfl (fun ls hl => ?_)
                      refine lv_goto (tgt := 100) hx hb dX6_asking_294 (by decide) ?_
                      refine lv_iload_n hx hb dX6_asking_100 rfl (lv_at hl 0 rfl) ?_
                      refine lv_iconst (v := 3) hx hb dX6_asking_101 (by decide) ?_
                      refine lv_icmp_ge (tgt := 297) hx hb dX6_asking_102 (by decide) (fun c_14 => ?_) (fun c_14 => ?_)
                      · skip
                        exact W.vret hx hb hr (q_ret (⟨rfl, TR.eq (hE1.trans ((congrArg (fun z9 => tAskP z9 2) hE2).trans (hP.trans ((if_pos c_4).trans ((if_pos c_11).trans (rfl)))))) hW⟩) hR hS) hS.2.2 dX6_asking_297
                      · skip
                        exact absurd c_14 (by decide)
                · skip
                  have c_3 := (not_congr (leN (a := 6) (b := o) rfl rfl (by omega) (by omega))).mp c_3
                  refine lv_aload_n hx hb dX6_asking_119 rfl (lv_at hl 0 rfl) ?_
                  refine va_get (D := G.1) (ci := 10) (v := .ref (ta 20)) (C := RX6) (T := TX6) (N := 33) hx hb hts in_X6 hown hT.1 (hR.one hW.1) 0 rfl rfl 20 (by decide) (hts _ q1052) (fun _ h9 => h9) rfl dX6_asking_120 ?_
                  refine lv_iload hx hb dX6_asking_123 (lv_at hl 4 rfl) ?_
                  refine r_iald hx hb hT hR (hW.i 20 6 (by decide) (by decide) rfl) (j := o) rfl (by omega) (by decide) dX6_asking_125 ?_
                  refine W.eq (g2 := F0 m 126 ls (.int (gI S2 20 o) :: [])) rfl ?_
                  refine lv_iload_n hx hb dX6_asking_126 rfl (lv_at hl 1 rfl) ?_
                  refine lv_icmp_ne (tgt := 136) hx hb dX6_asking_127 (by decide) (fun c_15 => ?_) (fun c_15 => ?_)
                  · skip
                    refine lv_iinc (v := nI (o + 1)) (lv' := [(4, .int (nI (o + 1))), (0, .ref T), (1, .int 2), (2, .int (nI x.1)), (3, .int (nI x.2))]) hx hb dX6_asking_136 hl (k := 4) rfl (addN rfl rfl) (by decide) rfl (fun ls hl => ?_)
                    refine lv_goto (tgt := 112) hx hb dX6_asking_139 (by decide) ?_
                    exact ih_k112 (o + 1) x _ _ _ (by omega) (by omega) (it_next hN ((if_neg c_15).trans (rfl))) (Nat.le_succ_of_le hx1) hx2 hx3 hR hS (lv_sub hl [1, 2, 3, 4, 0] rfl)
                  · skip
                    refine lv_iinc (v := nI (x.1 + 1)) (lv' := [(2, .int (nI (x.1 + 1))), (0, .ref T), (1, .int 2), (3, .int (nI x.2)), (4, .int (nI o))]) hx hb dX6_asking_130 hl (k := 2) rfl (addN rfl rfl) (by decide) rfl (fun ls hl => ?_)
                    refine lv_iload hx hb dX6_asking_133 (lv_at hl 4 rfl) ?_
                    refine lv_istore_n (lv' := [(3, .int (nI o)), (2, .int (nI (x.1 + 1))), (0, .ref T), (1, .int 2), (4, .int (nI o))]) hx hb dX6_asking_135 rfl hl (by decide) rfl (fun ls hl => ?_)
                    refine lv_iinc (v := nI (o + 1)) (lv' := [(4, .int (nI (o + 1))), (3, .int (nI o)), (2, .int (nI (x.1 + 1))), (0, .ref T), (1, .int 2)]) hx hb dX6_asking_136 hl (k := 4) rfl (addN rfl rfl) (by decide) rfl (fun ls hl => ?_)
                    refine lv_goto (tgt := 112) hx hb dX6_asking_139 (by decide) ?_
                    exact ih_k112 (o + 1) (x.1 + 1, o) _ _ _ (by omega) (by omega) (it_next hN ((if_pos c_15).trans (rfl))) (Nat.succ_le_succ hx1) (show o < 6 by omega) (Or.inr c_15) hR hS (lv_sub hl [3, 4, 2, 1, 0] rfl)
            exact k112 7 0 (0, 0) _ _ _ (by omega) (by omega) rfl (Nat.le_refl 0) (show 0 < 6 by decide) (Or.inl rfl) hR hS (lv_sub hl [3, 4, 2, 1, 0] rfl)
        refine lv_iload_n hx hb dX6_asking_100 rfl (lv_at hl 0 rfl) ?_
        refine lv_iconst (v := 3) hx hb dX6_asking_101 (by decide) ?_
        refine lv_icmp_ge (tgt := 297) hx hb dX6_asking_102 (by decide) (fun c_16 => ?_) (fun c_16 => ?_)
        · skip
          exact absurd c_16 (by decide)
        · skip
          refine lv_iconst (v := 0) hx hb dX6_asking_105 (by decide) ?_
          refine lv_istore_n (lv' := [(2, .int 0), (1, .int 1), (0, .ref T)]) hx hb dX6_asking_106 rfl hl (by decide) rfl (fun ls hl => ?_)
          refine lv_iconst (v := 0) hx hb dX6_asking_107 (by decide) ?_
          refine lv_istore_n (lv' := [(3, .int 0), (2, .int 0), (1, .int 1), (0, .ref T)]) hx hb dX6_asking_108 rfl hl (by decide) rfl (fun ls hl => ?_)
          refine lv_iconst (v := 0) hx hb dX6_asking_109 (by decide) ?_
          refine lv_istore (lv' := [(4, .int 0), (3, .int 0), (2, .int 0), (1, .int 1), (0, .ref T)]) hx hb dX6_asking_110 hl (by decide) rfl (fun ls hl => ?_)
          have hP0 : tAskP S1 1 = tAskP1 S1 1 (it (tCt S1 1) 6 (0, 0)) := rfl
          have k112 : ∀ (n : Nat) (o : Nat) (x : Nat × Nat) (H : Heap) (locs : List Loc) (ls : Array Slot), (o ≤ 6) → (6 < o + n) → (x = it (tCt S1 1) o (0, 0)) → (x.1 ≤ o) → (x.2 < 6) → (x.1 = 0 ∨ gI S1 20 x.2 = 1) → Rp G M H → va_S (Af G) s.heap H locs → lv_has ls 5 [(0, .ref T), (1, .int 1), (2, .int (nI x.1)), (3, .int (nI x.2)), (4, .int (nI o))] → W p l e (headSpec (ws_ yX6_asking cX6_asking 5 none) (rmL 3 0 0)).room s m ([.ref T] : List Value).toArray below meth c H locs 0 0 (MQ below (Qg G (fun v M1 _ => v = none ∧ TR G T ta (tAsking S) Y M1)) ([.ref T] : List Value).toArray s 0 0 (Af G)) (F0 m 112 ls []) := by
            intro n
            induction n with
            | zero =>
              intro o x H locs ls ho hf hN hx1 hx2 hx3 hR hS hl
              exact absurd hf (by omega)
            | succ n ih_k112 =>
              intro o x H locs ls ho hf hN hx1 hx2 hx3 hR hS hl
              refine lv_iload hx hb dX6_asking_112 (lv_at hl 4 rfl) ?_
              refine lv_bipush (v := 6) hx hb dX6_asking_114 (by decide) ?_
              refine lv_icmp_ge (tgt := 142) hx hb dX6_asking_116 (by decide) (fun c_17 => ?_) (fun c_17 => ?_)
              · skip
                have c_17 := (leN (a := 6) (b := o) rfl rfl (by omega) (by omega)).mp c_17
                obtain rfl : o = 6 := by omega
                have hP := hP0.trans (congrArg (tAskP1 _ _) hN.symm)
                have hl : lv_has ls 5 [(0, .ref T), (1, .int 1), (2, .int (nI x.1)), (3, .int (nI x.2))] := lv_sub hl [0, 1, 2, 3] rfl
                refine lv_iload_n hx hb dX6_asking_142 rfl (lv_at hl 2 rfl) ?_
                refine lv_iconst (v := 1) hx hb dX6_asking_143 (by decide) ?_
                refine lv_icmp_ne (tgt := 222) hx hb dX6_asking_144 (by decide) (fun c_18 => ?_) (fun c_18 => ?_)
                · skip
                  refine lv_iload_n hx hb dX6_asking_222 rfl (lv_at hl 2 rfl) ?_
                  refine lv_iconst (v := 1) hx hb dX6_asking_223 (by decide) ?_
                  refine lv_icmp_ne (tgt := 235) hx hb dX6_asking_224 (by decide) (fun c_19 => ?_) (fun c_19 => ?_)
                  · skip
                    refine lv_iload_n hx hb dX6_asking_235 rfl (lv_at hl 2 rfl) ?_
                    refine lv_iconst (v := 1) hx hb dX6_asking_236 (by decide) ?_
                    refine lv_icmp_le (tgt := 291) hx hb dX6_asking_237 (by decide) (fun c_20 => ?_) (fun c_20 => ?_)
                    · skip
                      refine lv_iinc (v := 2) (lv' := [(1, .int 2), (0, .ref T), (2, .int (nI x.1)), (3, .int (nI x.2))]) hx hb dX6_asking_291 hl (k := 1) rfl (by decide) (by decide) rfl (fun ls hl => ?_)
                      refine lv_goto (tgt := 100) hx hb dX6_asking_294 (by decide) ?_
                      exact k100 S1 _ _ _ _ (hP.trans ((if_neg c_18).trans ((if_pos c_20).trans (rfl)))) hW hR hS (lv_sub hl [1, 0] rfl)
                    · skip
                      refine lv_aload_n hx hb dX6_asking_240 rfl (lv_at hl 0 rfl) ?_
                      refine lv_dup hx hb dX6_asking_241 rfl ?_
                      refine va_get (D := G.1) (ci := 10) (v := .int (gF S1 27)) (C := RX6) (T := TX6) (N := 33) hx hb hts in_X6 hown hT.1 (hR.one hW.1) 0 rfl rfl 27 (by decide) (hts _ q1059) (fun _ h9 => h9) rfl dX6_asking_242 ?_
                      refine lv_iconst (v := 1) hx hb dX6_asking_245 (by decide) ?_
                      refine lv_iadd hx hb dX6_asking_246 ?_
                      refine r_put (ci := 10) (v := .int ((gF S1 27) + 1)) (ty := .int) (C := RX6) (T := TX6) (N := 33) hx hb hts in_X6 tyX6 tyX6_ok nmX6 hown hT hR hS hW.1 rfl 27 (by decide) (hts _ q1059) (fun _ h9 => h9) rfl (by decide +kernel) rfl rfl (Nat.le_of_ble_eq_true rfl) dX6_asking_247 (fun H locs hz hR hS => ?_)
                      obtain ⟨M, hR, hW⟩ : ∃ M1 : Mp, Rp G M1 H ∧ TR G T ta (sF S1 27 ((gF S1 27) + 1)) Y M1 := ⟨_, hR, hW.setF 27 (by decide) (by decide) ((gF S1 27) + 1)⟩
                      refine lv_iconst (v := 0) hx hb dX6_asking_250 (by decide) ?_
                      refine lv_istore (lv' := [(4, .int 0), (0, .ref T), (1, .int 1), (2, .int (nI x.1)), (3, .int (nI x.2))]) hx hb dX6_asking_251 hl (by decide) rfl (fun ls hl => ?_)
                      have hP2 : tAskP S1 1 = it (tAs2 1) 6 (sF S1 27 ((gF S1 27) + 1)) := hP.trans ((if_neg c_18).trans ((if_neg c_20).trans (rfl)))
                      have k253 : ∀ (n : Nat) (o : Nat) (S3 : Tw) (M : Mp) (H : Heap) (locs : List Loc) (ls : Array Slot), (o ≤ 6) → (6 < o + n) → (S3 = it (tAs2 1) o (sF S1 27 ((gF S1 27) + 1))) → (TR G T ta S3 Y M) → Rp G M H → va_S (Af G) s.heap H locs → lv_has ls 5 [(0, .ref T), (1, .int 1), (4, .int (nI o))] → W p l e (headSpec (ws_ yX6_asking cX6_asking 5 none) (rmL 3 0 0)).room s m ([.ref T] : List Value).toArray below meth c H locs 0 0 (MQ below (Qg G (fun v M1 _ => v = none ∧ TR G T ta (tAsking S) Y M1)) ([.ref T] : List Value).toArray s 0 0 (Af G)) (F0 m 253 ls []) := by
                        intro n
                        induction n with
                        | zero =>
                          intro o S3 M H locs ls ho hf hX3 hW hR hS hl
                          exact absurd hf (by omega)
                        | succ n ih_k253 =>
                          intro o S3 M H locs ls ho hf hX3 hW hR hS hl
                          refine lv_iload hx hb dX6_asking_253 (lv_at hl 2 rfl) ?_
                          refine lv_bipush (v := 6) hx hb dX6_asking_255 (by decide) ?_
                          refine lv_icmp_ge (tgt := 291) hx hb dX6_asking_257 (by decide) (fun c_21 => ?_) (fun c_21 => ?_)
                          · skip
                            have c_21 := (leN (a := 6) (b := o) rfl rfl (by omega) (by omega)).mp c_21
                            obtain rfl : o = 6 := by omega
                            have hl : lv_has ls 5 [(0, .ref T), (1, .int 1)] := lv_sub hl [0, 1] rfl
                            refine lv_iinc (v := 2) (lv' := [(1, .int 2), (0, .ref T)]) hx hb dX6_asking_291 hl (k := 1) rfl (by decide) (by decide) rfl (fun ls hl => ?_)
                            refine lv_goto (tgt := 100) hx hb dX6_asking_294 (by decide) ?_
                            exact k100 S3 _ _ _ _ (hP2.trans hX3.symm) hW hR hS (lv_sub hl [1, 0] rfl)
                          · skip
                            have c_21 := (not_congr (leN (a := 6) (b := o) rfl rfl (by omega) (by omega))).mp c_21
                            refine lv_aload_n hx hb dX6_asking_260 rfl (lv_at hl 0 rfl) ?_
                            refine va_get (D := G.1) (ci := 10) (v := .ref (ta 20)) (C := RX6) (T := TX6) (N := 33) hx hb hts in_X6 hown hT.1 (hR.one hW.1) 0 rfl rfl 20 (by decide) (hts _ q1052) (fun _ h9 => h9) rfl dX6_asking_261 ?_
                            refine lv_iload hx hb dX6_asking_264 (lv_at hl 2 rfl) ?_
                            refine r_iald hx hb hT hR (hW.i 20 6 (by decide) (by decide) rfl) (j := o) rfl (by omega) (by decide) dX6_asking_266 ?_
                            refine W.eq (g2 := F0 m 267 ls (.int (gI S3 20 o) :: [])) rfl ?_
                            refine lv_iload_n hx hb dX6_asking_267 rfl (lv_at hl 1 rfl) ?_
                            refine lv_icmp_ne (tgt := 285) hx hb dX6_asking_268 (by decide) (fun c_22 => ?_) (fun c_22 => ?_)
                            · skip
                              refine lv_iinc (v := nI (o + 1)) (lv' := [(4, .int (nI (o + 1))), (0, .ref T), (1, .int 1)]) hx hb dX6_asking_285 hl (k := 2) rfl (addN rfl rfl) (by decide) rfl (fun ls hl => ?_)
                              refine lv_goto (tgt := 253) hx hb dX6_asking_288 (by decide) ?_
                              exact ih_k253 (o + 1) S3 _ _ _ _ (by omega) (by omega) (it_next hX3 ((if_neg c_22).trans (rfl))) hW hR hS (lv_sub hl [1, 2, 0] rfl)
                            · skip
                              refine lv_aload_n hx hb dX6_asking_271 rfl (lv_at hl 0 rfl) ?_
                              refine va_get (D := G.1) (ci := 10) (v := .ref (ta 10)) (C := RX6) (T := TX6) (N := 33) hx hb hts in_X6 hown hT.1 (hR.one hW.1) 0 rfl rfl 10 (by decide) (hts _ q1042) (fun _ h9 => h9) rfl dX6_asking_272 ?_
                              refine lv_iload hx hb dX6_asking_275 (lv_at hl 2 rfl) ?_
                              refine lv_aload_n hx hb dX6_asking_277 rfl (lv_at hl 0 rfl) ?_
                              refine lv_iload hx hb dX6_asking_278 (lv_at hl 2 rfl) ?_
                              refine lv_iconst (v := 4) hx hb dX6_asking_280 (by decide) ?_
                              refine g_call (va_runV (As := [.int (nI o), .int 4]) (rest := [.int (nI o), .ref (ta 10)]) ⟨hx, hb, hml, hown, hts⟩ (tm_draw l G M _ T ta S3 Y hW o 4 (by omega) (by decide)) (cwV 2 hts (lw_V q1194 q1196 qs27 q61 q1197) rfl rfl rfl (by decide +kernel) ⟨Nat.le_of_ble_eq_true rfl, Nat.le_of_ble_eq_true rfl⟩) (preV hT hR hS hW.1 rfl rfl) rfl rfl hl.1 rfl (lv_room (Nat.le_of_ble_eq_true rfl)) dX6_asking_281 ⟨Nat.le_of_ble_eq_true rfl, Nat.le_of_ble_eq_true rfl⟩) hS (fun v M H locs hq hR hz hS => ?_)
                              obtain ⟨rfl, hW⟩ := hq
                              refine W.eq (g2 := F0 m 284 ls [.int (drawR (gI S3 7 o) 4), .int (nI o), .ref (ta 10)]) rfl ?_
                              refine r_iastj hx hb hT hR hS (hW.i 10 6 (by decide) (by decide) rfl) (j := o) rfl (by omega) (by decide) dX6_asking_284 (fun H locs hz hR hS => ?_)
                              obtain ⟨M, hR, hW⟩ : ∃ M1 : Mp, Rp G M1 H ∧ TR G T ta (sI (tDraw S3 o) 10 o (drawR (gI S3 7 o) 4)) Y M1 := ⟨_, hR, hW.setI 10 (by decide) (by decide) o (drawR (gI S3 7 o) 4)⟩
                              refine lv_iinc (v := nI (o + 1)) (lv' := [(4, .int (nI (o + 1))), (0, .ref T), (1, .int 1)]) hx hb dX6_asking_285 hl (k := 2) rfl (addN rfl rfl) (by decide) rfl (fun ls hl => ?_)
                              refine lv_goto (tgt := 253) hx hb dX6_asking_288 (by decide) ?_
                              exact ih_k253 (o + 1) (sI (tDraw S3 o) 10 o (drawR (gI S3 7 o) 4)) _ _ _ _ (by omega) (by omega) (it_next hX3 ((if_pos c_22).trans (rfl))) hW hR hS (lv_sub hl [1, 2, 0] rfl)
                      exact k253 7 0 _ _ _ _ _ (by omega) (by omega) rfl hW hR hS (lv_sub hl [1, 2, 0] rfl)
                  · skip
                    first | exact absurd c_19 c_18 | exact absurd c_18 c_19
                · skip
                  refine lv_aload_n hx hb dX6_asking_147 rfl (lv_at hl 0 rfl) ?_
                  refine lv_iload_n hx hb dX6_asking_148 rfl (lv_at hl 3 rfl) ?_
                  refine g_pure (va_runV (As := [.int (nI x.2)]) (rest := []) ⟨hx, hb, hml, hown, hts⟩ (tm_fine l G M _ T ta S1 Y hW x.2 (by omega) (hok1 x.2 (by omega))) (cwV 1 hts (lw_V q1175 q1177 qs23 q61 q1178) rfl rfl rfl (by decide +kernel) ⟨Nat.le_of_ble_eq_true rfl, Nat.le_of_ble_eq_true rfl⟩) (preV hT hR hS hW.1 rfl rfl) rfl rfl hl.1 rfl (lv_room (Nat.le_of_ble_eq_true rfl)) dX6_asking_149 ⟨Nat.le_of_ble_eq_true rfl, Nat.le_of_ble_eq_true rfl⟩) ?_
                  refine W.eq (g2 := F0 m 152 ls [.int (bI (tFine S1 x.2))]) rfl ?_
                  refine lv_if_eq (tgt := 222) hx hb dX6_asking_152 (by decide) (fun c_23 => ?_) (fun c_23 => ?_)
                  · skip
                    have c_23 := b_0 c_23
                    refine lv_iload_n hx hb dX6_asking_222 rfl (lv_at hl 2 rfl) ?_
                    refine lv_iconst (v := 1) hx hb dX6_asking_223 (by decide) ?_
                    refine lv_icmp_ne (tgt := 235) hx hb dX6_asking_224 (by decide) (fun c_24 => ?_) (fun c_24 => ?_)
                    · skip
                      first | exact absurd c_24 c_18 | exact absurd c_18 c_24
                    · skip
                      refine lv_aload_n hx hb dX6_asking_227 rfl (lv_at hl 0 rfl) ?_
                      refine lv_iload_n hx hb dX6_asking_228 rfl (lv_at hl 3 rfl) ?_
                      refine g_call (va_runV (As := [.int (nI x.2)]) (rest := []) ⟨hx, hb, hml, hown, hts⟩ (tm_missed l G M _ T ta S1 Y hW x.2 (by omega)) (cwV 1 hts (lw_V q1207 q1209 qs30 q61 q1210) rfl rfl rfl (by decide +kernel) ⟨Nat.le_of_ble_eq_true rfl, Nat.le_of_ble_eq_true rfl⟩) (preV hT hR hS hW.1 rfl rfl) rfl rfl hl.1 rfl (lv_room (Nat.le_of_ble_eq_true rfl)) dX6_asking_229 ⟨Nat.le_of_ble_eq_true rfl, Nat.le_of_ble_eq_true rfl⟩) hS (fun v M H locs hq hR hz hS => ?_)
                      obtain ⟨rfl, hW⟩ := hq
                      refine W.eq (g2 := F0 m 232 ls []) rfl ?_
                      refine lv_goto (tgt := 291) hx hb dX6_asking_232 (by decide) ?_
                      refine lv_iinc (v := 2) (lv' := [(1, .int 2), (0, .ref T), (2, .int (nI x.1)), (3, .int (nI x.2))]) hx hb dX6_asking_291 hl (k := 1) rfl (by decide) (by decide) rfl (fun ls hl => ?_)
                      refine lv_goto (tgt := 100) hx hb dX6_asking_294 (by decide) ?_
                      exact k100 (tMissed S1 x.2) _ _ _ _ (hP.trans ((if_pos c_18).trans ((if_neg c_23).trans (rfl)))) hW hR hS (lv_sub hl [1, 0] rfl)
                  · skip
                    have c_23 := b_n0 c_23
                    have hw0 : nb (tWanted S1 x.2) 11 := hsd1 x.2 hx2 (by
                      have h1 : x.1 = 1 := (eqN (a := x.1) (b := 1) rfl rfl (by omega) (by omega)).mp c_18
                      rcases hx3 with h | h
                      · omega
                      · rw [h]; decide)
                    have hw1 := hw0.1
                    have hw2 := hw0.2
                    refine lv_aload_n hx hb dX6_asking_155 rfl (lv_at hl 0 rfl) ?_
                    refine va_get (D := G.1) (ci := 10) (v := .ref (ta 17)) (C := RX6) (T := TX6) (N := 33) hx hb hts in_X6 hown hT.1 (hR.one hW.1) 0 rfl rfl 17 (by decide) (hts _ q1049) (fun _ h9 => h9) rfl dX6_asking_156 ?_
                    refine lv_iload_n hx hb dX6_asking_159 rfl (lv_at hl 3 rfl) ?_
                    refine lv_aload_n hx hb dX6_asking_160 rfl (lv_at hl 0 rfl) ?_
                    refine lv_iload_n hx hb dX6_asking_161 rfl (lv_at hl 3 rfl) ?_
                    refine g_pure (va_runV (As := [.int (nI x.2)]) (rest := [.int (nI x.2), .ref (ta 17)]) ⟨hx, hb, hml, hown, hts⟩ (tm_wanted l G M _ T ta S1 Y hW x.2 (by omega)) (cwV 1 hts (lw_V q1203 q1205 qs29 q61 q1206) rfl rfl rfl (by decide +kernel) ⟨Nat.le_of_ble_eq_true rfl, Nat.le_of_ble_eq_true rfl⟩) (preV hT hR hS hW.1 rfl rfl) rfl rfl hl.1 rfl (lv_room (Nat.le_of_ble_eq_true rfl)) dX6_asking_162 ⟨Nat.le_of_ble_eq_true rfl, Nat.le_of_ble_eq_true rfl⟩) ?_
                    refine W.eq (g2 := F0 m 165 ls [.int (tWanted S1 x.2), .int (nI x.2), .ref (ta 17)]) rfl ?_
                    refine r_iastj hx hb hT hR hS (hW.i 17 6 (by decide) (by decide) rfl) (j := x.2) rfl (by omega) (by decide) dX6_asking_165 (fun H locs hz hR hS => ?_)
                    obtain ⟨M, hR, hW⟩ : ∃ M1 : Mp, Rp G M1 H ∧ TR G T ta (sI S1 17 x.2 (tWanted S1 x.2)) Y M1 := ⟨_, hR, hW.setI 17 (by decide) (by decide) x.2 (tWanted S1 x.2)⟩
                    refine lv_aload_n hx hb dX6_asking_166 rfl (lv_at hl 0 rfl) ?_
                    refine va_get (D := G.1) (ci := 10) (v := .ref (ta 16)) (C := RX6) (T := TX6) (N := 33) hx hb hts in_X6 hown hT.1 (hR.one hW.1) 0 rfl rfl 16 (by decide) (hts _ q1048) (fun _ h9 => h9) rfl dX6_asking_167 ?_
                    refine lv_iload_n hx hb dX6_asking_170 rfl (lv_at hl 3 rfl) ?_
                    refine lv_aload_n hx hb dX6_asking_171 rfl (lv_at hl 0 rfl) ?_
                    refine va_get (D := G.1) (ci := 10) (v := .ref (ta 14)) (C := RX6) (T := TX6) (N := 33) hx hb hts in_X6 hown hT.1 (hR.one hW.1) 0 rfl rfl 14 (by decide) (hts _ q1046) (fun _ h9 => h9) rfl dX6_asking_172 ?_
                    refine lv_aload_n hx hb dX6_asking_175 rfl (lv_at hl 0 rfl) ?_
                    refine va_get (D := G.1) (ci := 10) (v := .ref (ta 17)) (C := RX6) (T := TX6) (N := 33) hx hb hts in_X6 hown hT.1 (hR.one hW.1) 0 rfl rfl 17 (by decide) (hts _ q1049) (fun _ h9 => h9) rfl dX6_asking_176 ?_
                    refine lv_iload_n hx hb dX6_asking_179 rfl (lv_at hl 3 rfl) ?_
                    refine r_iald hx hb hT hR (hW.i 17 6 (by decide) (by decide) rfl) (j := x.2) rfl (by omega) (by decide) dX6_asking_180 ?_
                    refine W.eq (g2 := F0 m 181 ls (.int (tWanted S1 x.2) :: [.ref (ta 14), .int (nI x.2), .ref (ta 16)])) (by simp [gI, sI, gD, sD, sF, va_up, upd, vf_upd]) ?_
                    refine lv_iconst (v := 4) hx hb dX6_asking_181 (by decide) ?_
                    refine lv_imul hx hb dX6_asking_182 ?_
                    refine W.eq (g2 := F0 m 183 ls (.int (nI ((ix (tWanted S1 x.2)) * 4)) :: [.ref (ta 14), .int (nI x.2), .ref (ta 16)])) (congrArg (fun z => F0 m 183 ls (.int z :: [.ref (ta 14), .int (nI x.2), .ref (ta 16)])) (mulN hw1 rfl)) ?_
                    refine r_iald hx hb hT hR (hW.i 14 48 (by decide) (by decide) rfl) (j := ((ix (tWanted S1 x.2)) * 4)) rfl (by omega) (by decide) dX6_asking_183 ?_
                    refine W.eq (g2 := F0 m 184 ls (.int (gI S1 14 ((ix (tWanted S1 x.2)) * 4)) :: [.int (nI x.2), .ref (ta 16)])) rfl ?_
                    refine r_iastj hx hb hT hR hS (hW.i 16 6 (by decide) (by decide) rfl) (j := x.2) rfl (by omega) (by decide) dX6_asking_184 (fun H locs hz hR hS => ?_)
                    obtain ⟨M, hR, hW⟩ : ∃ M1 : Mp, Rp G M1 H ∧ TR G T ta (sI (sI S1 17 x.2 (tWanted S1 x.2)) 16 x.2 (gI S1 14 ((ix (tWanted S1 x.2)) * 4))) Y M1 := ⟨_, hR, hW.setI 16 (by decide) (by decide) x.2 (gI S1 14 ((ix (tWanted S1 x.2)) * 4))⟩
                    refine lv_aload_n hx hb dX6_asking_185 rfl (lv_at hl 0 rfl) ?_
                    refine va_get (D := G.1) (ci := 10) (v := .ref (ta 18)) (C := RX6) (T := TX6) (N := 33) hx hb hts in_X6 hown hT.1 (hR.one hW.1) 0 rfl rfl 18 (by decide) (hts _ q1050) (fun _ h9 => h9) rfl dX6_asking_186 ?_
                    refine lv_iload_n hx hb dX6_asking_189 rfl (lv_at hl 3 rfl) ?_
                    refine lv_aload_n hx hb dX6_asking_190 rfl (lv_at hl 0 rfl) ?_
                    refine va_get (D := G.1) (ci := 10) (v := .ref (ta 12)) (C := RX6) (T := TX6) (N := 33) hx hb hts in_X6 hown hT.1 (hR.one hW.1) 0 rfl rfl 12 (by decide) (hts _ q1044) (fun _ h9 => h9) rfl dX6_asking_191 ?_
                    refine lv_aload_n hx hb dX6_asking_194 rfl (lv_at hl 0 rfl) ?_
                    refine va_get (D := G.1) (ci := 10) (v := .ref (ta 17)) (C := RX6) (T := TX6) (N := 33) hx hb hts in_X6 hown hT.1 (hR.one hW.1) 0 rfl rfl 17 (by decide) (hts _ q1049) (fun _ h9 => h9) rfl dX6_asking_195 ?_
                    refine lv_iload_n hx hb dX6_asking_198 rfl (lv_at hl 3 rfl) ?_
                    refine r_iald hx hb hT hR (hW.i 17 6 (by decide) (by decide) rfl) (j := x.2) rfl (by omega) (by decide) dX6_asking_199 ?_
                    refine W.eq (g2 := F0 m 200 ls (.int (tWanted S1 x.2) :: [.ref (ta 12), .int (nI x.2), .ref (ta 18)])) (by simp [gI, sI, gD, sD, sF, va_up, upd, vf_upd]) ?_
                    refine r_iald hx hb hT hR (hW.i 12 12 (by decide) (by decide) rfl) (j := (ix (tWanted S1 x.2))) hw1 (by omega) (by decide) dX6_asking_200 ?_
                    refine W.eq (g2 := F0 m 201 ls (.int (gI S1 12 (ix (tWanted S1 x.2))) :: [.int (nI x.2), .ref (ta 18)])) rfl ?_
                    refine r_iastj hx hb hT hR hS (hW.i 18 6 (by decide) (by decide) rfl) (j := x.2) rfl (by omega) (by decide) dX6_asking_201 (fun H locs hz hR hS => ?_)
                    obtain ⟨M, hR, hW⟩ : ∃ M1 : Mp, Rp G M1 H ∧ TR G T ta (sI (sI (sI S1 17 x.2 (tWanted S1 x.2)) 16 x.2 (gI S1 14 ((ix (tWanted S1 x.2)) * 4))) 18 x.2 (gI S1 12 (ix (tWanted S1 x.2)))) Y M1 := ⟨_, hR, hW.setI 18 (by decide) (by decide) x.2 (gI S1 12 (ix (tWanted S1 x.2)))⟩
                    refine lv_aload_n hx hb dX6_asking_202 rfl (lv_at hl 0 rfl) ?_
                    refine va_get (D := G.1) (ci := 10) (v := .ref (ta 19)) (C := RX6) (T := TX6) (N := 33) hx hb hts in_X6 hown hT.1 (hR.one hW.1) 0 rfl rfl 19 (by decide) (hts _ q1051) (fun _ h9 => h9) rfl dX6_asking_203 ?_
                    refine lv_iload_n hx hb dX6_asking_206 rfl (lv_at hl 3 rfl) ?_
                    refine lv_aload_n hx hb dX6_asking_207 rfl (lv_at hl 0 rfl) ?_
                    refine lv_dup hx hb dX6_asking_208 rfl ?_
                    refine va_get (D := G.1) (ci := 10) (v := .int (gF S1 24)) (C := RX6) (T := TX6) (N := 33) hx hb hts in_X6 hown hT.1 (hR.one hW.1) 0 rfl rfl 24 (by decide) (hts _ q1056) (fun _ h9 => h9) rfl dX6_asking_209 ?_
                    refine lv_dup_x1 hx hb dX6_asking_212 rfl rfl ?_
                    refine lv_iconst (v := 1) hx hb dX6_asking_213 (by decide) ?_
                    refine lv_iadd hx hb dX6_asking_214 ?_
                    refine r_put (ci := 10) (v := .int ((gF S1 24) + 1)) (ty := .int) (C := RX6) (T := TX6) (N := 33) hx hb hts in_X6 tyX6 tyX6_ok nmX6 hown hT hR hS hW.1 rfl 24 (by decide) (hts _ q1056) (fun _ h9 => h9) rfl (by decide +kernel) rfl rfl (Nat.le_of_ble_eq_true rfl) dX6_asking_215 (fun H locs hz hR hS => ?_)
                    obtain ⟨M, hR, hW⟩ : ∃ M1 : Mp, Rp G M1 H ∧ TR G T ta (sF (sI (sI (sI S1 17 x.2 (tWanted S1 x.2)) 16 x.2 (gI S1 14 ((ix (tWanted S1 x.2)) * 4))) 18 x.2 (gI S1 12 (ix (tWanted S1 x.2)))) 24 ((gF S1 24) + 1)) Y M1 := ⟨_, hR, hW.setF 24 (by decide) (by decide) ((gF S1 24) + 1)⟩
                    refine r_iastj hx hb hT hR hS (hW.i 19 6 (by decide) (by decide) rfl) (j := x.2) rfl (by omega) (by decide) dX6_asking_218 (fun H locs hz hR hS => ?_)
                    obtain ⟨M, hR, hW⟩ : ∃ M1 : Mp, Rp G M1 H ∧ TR G T ta (sI (sF (sI (sI (sI S1 17 x.2 (tWanted S1 x.2)) 16 x.2 (gI S1 14 ((ix (tWanted S1 x.2)) * 4))) 18 x.2 (gI S1 12 (ix (tWanted S1 x.2)))) 24 ((gF S1 24) + 1)) 19 x.2 (gF S1 24)) Y M1 := ⟨_, hR, hW.setI 19 (by decide) (by decide) x.2 (gF S1 24)⟩
                    refine lv_goto (tgt := 291) hx hb dX6_asking_219 (by decide) ?_
                    refine lv_iinc (v := 2) (lv' := [(1, .int 2), (0, .ref T), (2, .int (nI x.1)), (3, .int (nI x.2))]) hx hb dX6_asking_291 hl (k := 1) rfl (by decide) (by decide) rfl (fun ls hl => ?_)
                    refine lv_goto (tgt := 100) hx hb dX6_asking_294 (by decide) ?_
                    exact k100 (sI (sF (sI (sI (sI S1 17 x.2 (tWanted S1 x.2)) 16 x.2 (gI S1 14 ((ix (tWanted S1 x.2)) * 4))) 18 x.2 (gI S1 12 (ix (tWanted S1 x.2)))) 24 ((gF S1 24) + 1)) 19 x.2 (gF S1 24)) _ _ _ _ (hP.trans ((if_pos c_18).trans ((if_pos c_23).trans (rfl)))) hW hR hS (lv_sub hl [1, 0] rfl)
              · skip
                have c_17 := (not_congr (leN (a := 6) (b := o) rfl rfl (by omega) (by omega))).mp c_17
                refine lv_aload_n hx hb dX6_asking_119 rfl (lv_at hl 0 rfl) ?_
                refine va_get (D := G.1) (ci := 10) (v := .ref (ta 20)) (C := RX6) (T := TX6) (N := 33) hx hb hts in_X6 hown hT.1 (hR.one hW.1) 0 rfl rfl 20 (by decide) (hts _ q1052) (fun _ h9 => h9) rfl dX6_asking_120 ?_
                refine lv_iload hx hb dX6_asking_123 (lv_at hl 4 rfl) ?_
                refine r_iald hx hb hT hR (hW.i 20 6 (by decide) (by decide) rfl) (j := o) rfl (by omega) (by decide) dX6_asking_125 ?_
                refine W.eq (g2 := F0 m 126 ls (.int (gI S1 20 o) :: [])) rfl ?_
                refine lv_iload_n hx hb dX6_asking_126 rfl (lv_at hl 1 rfl) ?_
                refine lv_icmp_ne (tgt := 136) hx hb dX6_asking_127 (by decide) (fun c_25 => ?_) (fun c_25 => ?_)
                · skip
                  refine lv_iinc (v := nI (o + 1)) (lv' := [(4, .int (nI (o + 1))), (0, .ref T), (1, .int 1), (2, .int (nI x.1)), (3, .int (nI x.2))]) hx hb dX6_asking_136 hl (k := 4) rfl (addN rfl rfl) (by decide) rfl (fun ls hl => ?_)
                  refine lv_goto (tgt := 112) hx hb dX6_asking_139 (by decide) ?_
                  exact ih_k112 (o + 1) x _ _ _ (by omega) (by omega) (it_next hN ((if_neg c_25).trans (rfl))) (Nat.le_succ_of_le hx1) hx2 hx3 hR hS (lv_sub hl [1, 2, 3, 4, 0] rfl)
                · skip
                  refine lv_iinc (v := nI (x.1 + 1)) (lv' := [(2, .int (nI (x.1 + 1))), (0, .ref T), (1, .int 1), (3, .int (nI x.2)), (4, .int (nI o))]) hx hb dX6_asking_130 hl (k := 2) rfl (addN rfl rfl) (by decide) rfl (fun ls hl => ?_)
                  refine lv_iload hx hb dX6_asking_133 (lv_at hl 4 rfl) ?_
                  refine lv_istore_n (lv' := [(3, .int (nI o)), (2, .int (nI (x.1 + 1))), (0, .ref T), (1, .int 1), (4, .int (nI o))]) hx hb dX6_asking_135 rfl hl (by decide) rfl (fun ls hl => ?_)
                  refine lv_iinc (v := nI (o + 1)) (lv' := [(4, .int (nI (o + 1))), (3, .int (nI o)), (2, .int (nI (x.1 + 1))), (0, .ref T), (1, .int 1)]) hx hb dX6_asking_136 hl (k := 4) rfl (addN rfl rfl) (by decide) rfl (fun ls hl => ?_)
                  refine lv_goto (tgt := 112) hx hb dX6_asking_139 (by decide) ?_
                  exact ih_k112 (o + 1) (x.1 + 1, o) _ _ _ (by omega) (by omega) (it_next hN ((if_pos c_25).trans (rfl))) (Nat.succ_le_succ hx1) (show o < 6 by omega) (Or.inr c_25) hR hS (lv_sub hl [3, 4, 2, 1, 0] rfl)
          exact k112 7 0 (0, 0) _ _ _ (by omega) (by omega) rfl (Nat.le_refl 0) (show 0 < 6 by decide) (Or.inl rfl) hR hS (lv_sub hl [4, 3, 2, 1, 0] rfl)
      · skip
        have c_1 := (not_congr (leN (a := 6) (b := i) rfl rfl (by omega) (by omega))).mp c_1
        refine lv_aload_n hx hb dX6_asking_8 rfl (lv_at hl 0 rfl) ?_
        refine va_get (D := G.1) (ci := 10) (v := .ref (ta 20)) (C := RX6) (T := TX6) (N := 33) hx hb hts in_X6 hown hT.1 (hR.one hW.1) 0 rfl rfl 20 (by decide) (hts _ q1052) (fun _ h9 => h9) rfl dX6_asking_9 ?_
        refine lv_iload_n hx hb dX6_asking_12 rfl (lv_at hl 1 rfl) ?_
        refine lv_iconst (v := 0) hx hb dX6_asking_13 (by decide) ?_
        refine r_iastj hx hb hT hR hS (hW.i 20 6 (by decide) (by decide) rfl) (j := i) rfl (by omega) (by decide) dX6_asking_14 (fun H locs hz hR hS => ?_)
        obtain ⟨M, hR, hW⟩ : ∃ M1 : Mp, Rp G M1 H ∧ TR G T ta (sI S1 20 i 0) Y M1 := ⟨_, hR, hW.setI 20 (by decide) (by decide) i 0⟩
        refine lv_aload_n hx hb dX6_asking_15 rfl (lv_at hl 0 rfl) ?_
        refine va_get (D := G.1) (ci := 10) (v := .ref (ta 6)) (C := RX6) (T := TX6) (N := 33) hx hb hts in_X6 hown hT.1 (hR.one hW.1) 0 rfl rfl 6 (by decide) (hts _ q1038) (fun _ h9 => h9) rfl dX6_asking_16 ?_
        refine lv_iload_n hx hb dX6_asking_19 rfl (lv_at hl 1 rfl) ?_
        refine r_iald hx hb hT hR (hW.i 6 6 (by decide) (by decide) rfl) (j := i) rfl (by omega) (by decide) dX6_asking_20 ?_
        refine W.eq (g2 := F0 m 21 ls (.int (gI S1 6 i) :: [])) rfl ?_
        refine lv_iconst (v := 2) hx hb dX6_asking_21 (by decide) ?_
        refine lv_icmp_ne (tgt := 46) hx hb dX6_asking_22 (by decide) (fun c_26 => ?_) (fun c_26 => ?_)
        · skip
          refine lv_iconst (v := 0) hx hb dX6_asking_46 (by decide) ?_
          refine lv_istore_n (lv' := [(2, .int 0), (0, .ref T), (1, .int (nI i))]) hx hb dX6_asking_47 rfl hl (by decide) rfl (fun ls hl => ?_)
          refine lv_iload_n hx hb dX6_asking_48 rfl (lv_at hl 0 rfl) ?_
          refine lv_if_eq (tgt := 74) hx hb dX6_asking_49 (by decide) (fun c_27 => ?_) (fun c_27 => ?_)
          · skip
            refine lv_iload_n hx hb dX6_asking_74 rfl (lv_at hl 0 rfl) ?_
            refine lv_if_eq (tgt := 92) hx hb dX6_asking_75 (by decide) (fun c_28 => ?_) (fun c_28 => ?_)
            · skip
              refine lv_iinc (v := nI (i + 1)) (lv' := [(1, .int (nI (i + 1))), (2, .int 0), (0, .ref T)]) hx hb dX6_asking_92 hl (k := 2) rfl (addN rfl rfl) (by decide) rfl (fun ls hl => ?_)
              refine lv_goto (tgt := 2) hx hb dX6_asking_95 (by decide) ?_
              exact ih_k2 (i + 1) (sI S1 20 i 0) _ _ _ _ (by omega) (by omega) (it_next hX ((if_neg c_26).trans (rfl))) hW hR hS (lv_sub hl [2, 0] rfl)
            · skip
              exact absurd c_28 (by decide)
          · skip
            exact absurd c_27 (by decide)
        · skip
          refine lv_aload_n hx hb dX6_asking_25 rfl (lv_at hl 0 rfl) ?_
          refine va_get (D := G.1) (ci := 10) (v := .ref (ta 16)) (C := RX6) (T := TX6) (N := 33) hx hb hts in_X6 hown hT.1 (hR.one hW.1) 0 rfl rfl 16 (by decide) (hts _ q1048) (fun _ h9 => h9) rfl dX6_asking_26 ?_
          refine lv_iload_n hx hb dX6_asking_29 rfl (lv_at hl 1 rfl) ?_
          refine r_iald hx hb hT hR (hW.i 16 6 (by decide) (by decide) rfl) (j := i) rfl (by omega) (by decide) dX6_asking_30 ?_
          refine W.eq (g2 := F0 m 31 ls (.int (gI S1 16 i) :: [])) rfl ?_
          refine lv_if_ne (tgt := 46) hx hb dX6_asking_31 (by decide) (fun c_29 => ?_) (fun c_29 => ?_)
          · skip
            refine lv_iconst (v := 0) hx hb dX6_asking_46 (by decide) ?_
            refine lv_istore_n (lv' := [(2, .int 0), (0, .ref T), (1, .int (nI i))]) hx hb dX6_asking_47 rfl hl (by decide) rfl (fun ls hl => ?_)
            refine lv_iload_n hx hb dX6_asking_48 rfl (lv_at hl 0 rfl) ?_
            refine lv_if_eq (tgt := 74) hx hb dX6_asking_49 (by decide) (fun c_30 => ?_) (fun c_30 => ?_)
            · skip
              refine lv_iload_n hx hb dX6_asking_74 rfl (lv_at hl 0 rfl) ?_
              refine lv_if_eq (tgt := 92) hx hb dX6_asking_75 (by decide) (fun c_31 => ?_) (fun c_31 => ?_)
              · skip
                refine lv_iinc (v := nI (i + 1)) (lv' := [(1, .int (nI (i + 1))), (2, .int 0), (0, .ref T)]) hx hb dX6_asking_92 hl (k := 2) rfl (addN rfl rfl) (by decide) rfl (fun ls hl => ?_)
                refine lv_goto (tgt := 2) hx hb dX6_asking_95 (by decide) ?_
                exact ih_k2 (i + 1) (sI S1 20 i 0) _ _ _ _ (by omega) (by omega) (it_next hX ((if_pos c_26).trans ((if_neg c_29).trans (rfl)))) hW hR hS (lv_sub hl [2, 0] rfl)
              · skip
                exact absurd c_31 (by decide)
            · skip
              exact absurd c_30 (by decide)
          · skip
            refine lv_aload_n hx hb dX6_asking_34 rfl (lv_at hl 0 rfl) ?_
            refine lv_iload_n hx hb dX6_asking_35 rfl (lv_at hl 1 rfl) ?_
            refine g_pure (va_runV (As := [.int (nI i)]) (rest := []) ⟨hx, hb, hml, hown, hts⟩ (tm_wanted l G M _ T ta (sI S1 20 i 0) Y hW i (by omega)) (cwV 1 hts (lw_V q1203 q1205 qs29 q61 q1206) rfl rfl rfl (by decide +kernel) ⟨Nat.le_of_ble_eq_true rfl, Nat.le_of_ble_eq_true rfl⟩) (preV hT hR hS hW.1 rfl rfl) rfl rfl hl.1 rfl (lv_room (Nat.le_of_ble_eq_true rfl)) dX6_asking_36 ⟨Nat.le_of_ble_eq_true rfl, Nat.le_of_ble_eq_true rfl⟩) ?_
            refine W.eq (g2 := F0 m 39 ls [.int (tWanted (sI S1 20 i 0) i)]) rfl ?_
            refine lv_if_lt (tgt := 46) hx hb dX6_asking_39 (by decide) (fun c_32 => ?_) (fun c_32 => ?_)
            · skip
              refine lv_iconst (v := 0) hx hb dX6_asking_46 (by decide) ?_
              refine lv_istore_n (lv' := [(2, .int 0), (0, .ref T), (1, .int (nI i))]) hx hb dX6_asking_47 rfl hl (by decide) rfl (fun ls hl => ?_)
              refine lv_iload_n hx hb dX6_asking_48 rfl (lv_at hl 0 rfl) ?_
              refine lv_if_eq (tgt := 74) hx hb dX6_asking_49 (by decide) (fun c_33 => ?_) (fun c_33 => ?_)
              · skip
                refine lv_iload_n hx hb dX6_asking_74 rfl (lv_at hl 0 rfl) ?_
                refine lv_if_eq (tgt := 92) hx hb dX6_asking_75 (by decide) (fun c_34 => ?_) (fun c_34 => ?_)
                · skip
                  refine lv_iinc (v := nI (i + 1)) (lv' := [(1, .int (nI (i + 1))), (2, .int 0), (0, .ref T)]) hx hb dX6_asking_92 hl (k := 2) rfl (addN rfl rfl) (by decide) rfl (fun ls hl => ?_)
                  refine lv_goto (tgt := 2) hx hb dX6_asking_95 (by decide) ?_
                  exact ih_k2 (i + 1) (sI S1 20 i 0) _ _ _ _ (by omega) (by omega) (it_next hX ((if_pos c_26).trans ((if_pos c_29).trans ((if_pos c_32).trans (rfl))))) hW hR hS (lv_sub hl [2, 0] rfl)
                · skip
                  exact absurd c_34 (by decide)
              · skip
                exact absurd c_33 (by decide)
            · skip
              refine lv_iconst (v := 1) hx hb dX6_asking_42 (by decide) ?_
              refine lv_goto (tgt := 47) hx hb dX6_asking_43 (by decide) ?_
              refine lv_istore_n (lv' := [(2, .int 1), (0, .ref T), (1, .int (nI i))]) hx hb dX6_asking_47 rfl hl (by decide) rfl (fun ls hl => ?_)
              refine lv_iload_n hx hb dX6_asking_48 rfl (lv_at hl 0 rfl) ?_
              refine lv_if_eq (tgt := 74) hx hb dX6_asking_49 (by decide) (fun c_35 => ?_) (fun c_35 => ?_)
              · skip
                exact absurd c_35 (by decide)
              · skip
                refine lv_aload_n hx hb dX6_asking_52 rfl (lv_at hl 1 rfl) ?_
                refine va_get (D := G.1) (ci := 10) (v := .ref (ta 10)) (C := RX6) (T := TX6) (N := 33) hx hb hts in_X6 hown hT.1 (hR.one hW.1) 0 rfl rfl 10 (by decide) (hts _ q1042) (fun _ h9 => h9) rfl dX6_asking_53 ?_
                refine lv_iload_n hx hb dX6_asking_56 rfl (lv_at hl 2 rfl) ?_
                refine r_iald hx hb hT hR (hW.i 10 6 (by decide) (by decide) rfl) (j := i) rfl (by omega) (by decide) dX6_asking_57 ?_
                refine W.eq (g2 := F0 m 58 ls (.int (gI S1 10 i) :: [])) rfl ?_
                refine lv_if_le (tgt := 74) hx hb dX6_asking_58 (by decide) (fun c_36 => ?_) (fun c_36 => ?_)
                · skip
                  refine lv_iload_n hx hb dX6_asking_74 rfl (lv_at hl 0 rfl) ?_
                  refine lv_if_eq (tgt := 92) hx hb dX6_asking_75 (by decide) (fun c_37 => ?_) (fun c_37 => ?_)
                  · skip
                    exact absurd c_37 (by decide)
                  · skip
                    refine lv_aload_n hx hb dX6_asking_78 rfl (lv_at hl 1 rfl) ?_
                    refine va_get (D := G.1) (ci := 10) (v := .ref (ta 20)) (C := RX6) (T := TX6) (N := 33) hx hb hts in_X6 hown hT.1 (hR.one hW.1) 0 rfl rfl 20 (by decide) (hts _ q1052) (fun _ h9 => h9) rfl dX6_asking_79 ?_
                    refine lv_iload_n hx hb dX6_asking_82 rfl (lv_at hl 2 rfl) ?_
                    refine lv_iconst (v := 1) hx hb dX6_asking_83 (by decide) ?_
                    refine lv_aload_n hx hb dX6_asking_84 rfl (lv_at hl 1 rfl) ?_
                    refine lv_iload_n hx hb dX6_asking_85 rfl (lv_at hl 2 rfl) ?_
                    refine lv_iconst (v := 2) hx hb dX6_asking_86 (by decide) ?_
                    refine g_call (va_runV (As := [.int (nI i), .int 2]) (rest := [.int 1, .int (nI i), .ref (ta 20)]) ⟨hx, hb, hml, hown, hts⟩ (tm_draw l G M _ T ta (sI S1 20 i 0) Y hW i 2 (by omega) (by decide)) (cwV 2 hts (lw_V q1194 q1196 qs27 q61 q1197) rfl rfl rfl (by decide +kernel) ⟨Nat.le_of_ble_eq_true rfl, Nat.le_of_ble_eq_true rfl⟩) (preV hT hR hS hW.1 rfl rfl) rfl rfl hl.1 rfl (lv_room (Nat.le_of_ble_eq_true rfl)) dX6_asking_87 ⟨Nat.le_of_ble_eq_true rfl, Nat.le_of_ble_eq_true rfl⟩) hS (fun v M H locs hq hR hz hS => ?_)
                    obtain ⟨rfl, hW⟩ := hq
                    refine W.eq (g2 := F0 m 90 ls [.int (drawR (gI (sI S1 20 i 0) 7 i) 2), .int 1, .int (nI i), .ref (ta 20)]) rfl ?_
                    refine lv_iadd hx hb dX6_asking_90 ?_
                    refine r_iastj hx hb hT hR hS (hW.i 20 6 (by decide) (by decide) rfl) (j := i) rfl (by omega) (by decide) dX6_asking_91 (fun H locs hz hR hS => ?_)
                    obtain ⟨M, hR, hW⟩ : ∃ M1 : Mp, Rp G M1 H ∧ TR G T ta (sI (tDraw (sI S1 20 i 0) i) 20 i (1 + (drawR (gI (sI S1 20 i 0) 7 i) 2))) Y M1 := ⟨_, hR, hW.setI 20 (by decide) (by decide) i (1 + (drawR (gI (sI S1 20 i 0) 7 i) 2))⟩
                    refine lv_iinc (v := nI (i + 1)) (lv' := [(1, .int (nI (i + 1))), (2, .int 1), (0, .ref T)]) hx hb dX6_asking_92 hl (k := 2) rfl (addN rfl rfl) (by decide) rfl (fun ls hl => ?_)
                    refine lv_goto (tgt := 2) hx hb dX6_asking_95 (by decide) ?_
                    exact ih_k2 (i + 1) (sI (tDraw (sI S1 20 i 0) i) 20 i (1 + (drawR (gI (sI S1 20 i 0) 7 i) 2))) _ _ _ _ (by omega) (by omega) (it_next hX ((if_pos c_26).trans ((if_pos c_29).trans ((if_neg c_32).trans ((if_pos c_36).trans (rfl)))))) hW hR hS (lv_sub hl [2, 0] rfl)
                · skip
                  refine lv_aload_n hx hb dX6_asking_61 rfl (lv_at hl 1 rfl) ?_
                  refine va_get (D := G.1) (ci := 10) (v := .ref (ta 10)) (C := RX6) (T := TX6) (N := 33) hx hb hts in_X6 hown hT.1 (hR.one hW.1) 0 rfl rfl 10 (by decide) (hts _ q1042) (fun _ h9 => h9) rfl dX6_asking_62 ?_
                  refine lv_iload_n hx hb dX6_asking_65 rfl (lv_at hl 2 rfl) ?_
                  refine lv_dup2_11 hx hb dX6_asking_66 rfl rfl ?_
                  refine r_iald hx hb hT hR (hW.i 10 6 (by decide) (by decide) rfl) (j := i) rfl (by omega) (by decide) dX6_asking_67 ?_
                  refine W.eq (g2 := F0 m 68 ls (.int (gI S1 10 i) :: [.int (nI i), .ref (ta 10)])) rfl ?_
                  refine lv_iconst (v := 1) hx hb dX6_asking_68 (by decide) ?_
                  refine lv_isub hx hb dX6_asking_69 ?_
                  refine r_iastj hx hb hT hR hS (hW.i 10 6 (by decide) (by decide) rfl) (j := i) rfl (by omega) (by decide) dX6_asking_70 (fun H locs hz hR hS => ?_)
                  obtain ⟨M, hR, hW⟩ : ∃ M1 : Mp, Rp G M1 H ∧ TR G T ta (sI (sI S1 20 i 0) 10 i ((gI S1 10 i) - 1)) Y M1 := ⟨_, hR, hW.setI 10 (by decide) (by decide) i ((gI S1 10 i) - 1)⟩
                  refine lv_goto (tgt := 92) hx hb dX6_asking_71 (by decide) ?_
                  refine lv_iinc (v := nI (i + 1)) (lv' := [(1, .int (nI (i + 1))), (2, .int 1), (0, .ref T)]) hx hb dX6_asking_92 hl (k := 2) rfl (addN rfl rfl) (by decide) rfl (fun ls hl => ?_)
                  refine lv_goto (tgt := 2) hx hb dX6_asking_95 (by decide) ?_
                  exact ih_k2 (i + 1) (sI (sI S1 20 i 0) 10 i ((gI S1 10 i) - 1)) _ _ _ _ (by omega) (by omega) (it_next hX ((if_pos c_26).trans ((if_pos c_29).trans ((if_neg c_32).trans ((if_neg c_36).trans (rfl)))))) hW hR hS (lv_sub hl [2, 0] rfl)
  exact k2 7 0 S _ _ _ _ (by omega) (by omega) rfl hW hR hS (lv_sub hl [1, 0] rfl)
set_option maxHeartbeats 4000000 in
set_option maxRecDepth 100000 in
theorem tm_deliver (l : Launch) (G : Gw) (M : Mp) (sz : Nat) (T : Nat) (ta : Nat → Nat) (S : Tw) (Y : Mp) (hW : TR G T ta S Y M) (j : Nat) (hj : j < 6) (hd : delOK S j) : Ct l yX6_deliver cX6_deliver 4 none 2 0 0 [.ref T, .int (nI j)] G M sz (fun v M1 _ => v = none ∧ TR G T ta (tDeliver S j) Y M1) := by
  refine Met.ofW (cc := cX6_deliver) (maxL := 4) (ret := none) (by decide) rfl ?_
  intro p e s m args below meth c s₁ B hml hv
  obtain ⟨rfl, hT, hR, hsz⟩ := hv
  have hx := B.exec
  have hb := B.bytes
  have hr := B.returns
  have hts := atoms_spec (ws := ws_ yX6_deliver cX6_deliver 4 none) B.pre
  have hts : ∀ w ∈ lw_all, w.before _ s = true := fun w h => hts w (List.mem_cons_of_mem _ h)
  have hown : s.vm.findClass RX6 = some m.cls := findClass_of_methodNamed B.named
  have hlocks := B.notSynchronized
  have hS : va_S (Af G) s.heap s.heap [] := va_S.rf
  have hl := lv_entry ([.ref T, .int (nI j)]) (n := 4) (Nat.le_of_ble_eq_true rfl)
  rw [lg_entry_eq]
  generalize (lg_sl ([.ref T, .int (nI j)]) ++ List.replicate (4 - (lg_sl ([.ref T, .int (nI j)])).length) Slot.unset).toArray = ls at hl ⊢
  have hl : lv_has ls 4 [(0, .ref T), (1, .int (nI j))] := hl
  refine lv_aload_n hx hb dX6_deliver_0 rfl (lv_at hl 0 rfl) ?_
  refine lv_iload_n hx hb dX6_deliver_1 rfl (lv_at hl 1 rfl) ?_
  refine g_pure (va_runV (As := [.int (nI j)]) (rest := []) ⟨hx, hb, hml, hown, hts⟩ (tm_fine l G M _ T ta S Y hW j (by omega) hd.1) (cwV 1 hts (lw_V q1175 q1177 qs23 q61 q1178) rfl rfl rfl (by decide +kernel) ⟨Nat.le_of_ble_eq_true rfl, Nat.le_of_ble_eq_true rfl⟩) (preV hT hR hS hW.1 rfl rfl) rfl rfl hl.1 rfl (lv_room (Nat.le_of_ble_eq_true rfl)) dX6_deliver_2 ⟨Nat.le_of_ble_eq_true rfl, Nat.le_of_ble_eq_true rfl⟩) ?_
  refine W.eq (g2 := F0 m 5 ls [.int (bI (tFine S j))]) rfl ?_
  refine lv_if_ne (tgt := 14) hx hb dX6_deliver_5 (by decide) (fun c_1 => ?_) (fun c_1 => ?_)
  · skip
    have c_1 := b_n0 c_1
    obtain ⟨hq1, hq2, ⟨hq3, hq4⟩, hq5⟩ := hd.2 c_1
    obtain ⟨f, hfe⟩ : ∃ f, f = ix (gI S 17 j) := ⟨_, rfl⟩
    rw [← hfe] at hq3 hq4 hq5
    have hf1 : gI S 17 j = nI f := by rw [hfe]; exact hq1.1
    have hf2 : f ≤ 11 := by rw [hfe]; exact hq1.2
    refine lv_aload_n hx hb dX6_deliver_14 rfl (lv_at hl 0 rfl) ?_
    refine va_get (D := G.1) (ci := 10) (v := .ref (ta 17)) (C := RX6) (T := TX6) (N := 33) hx hb hts in_X6 hown hT.1 (hR.one hW.1) 0 rfl rfl 17 (by decide) (hts _ q1049) (fun _ h9 => h9) rfl dX6_deliver_15 ?_
    refine lv_iload_n hx hb dX6_deliver_18 rfl (lv_at hl 1 rfl) ?_
    refine r_iald hx hb hT hR (hW.i 17 6 (by decide) (by decide) rfl) (j := j) rfl (by omega) (by decide) dX6_deliver_19 ?_
    refine W.eq (g2 := F0 m 20 ls (.int (gI S 17 j) :: [])) rfl ?_
    refine W.eq (g2 := F0 m 20 ls (.int (nI f) :: [])) (by rw [hf1]) ?_
    refine lv_istore_n (lv' := [(2, .int (nI f)), (0, .ref T), (1, .int (nI j))]) hx hb dX6_deliver_20 rfl hl (by decide) rfl (fun ls hl => ?_)
    have k77 : ∀ (S1 : Tw) (M : Mp) (H : Heap) (locs : List Loc) (ls : Array Slot), (tDeliver S j = tDel S1 j f) → (nb (gF S1 23) 5) → (nb (gI S1 13 f) 4) → (1 ≤ ix (gI S1 13 f)) → (vf_n64 (FP.dsub (gD S1 5 f) (FP.i2d (gI S1 14 (f * 4))))) → (TR G T ta S1 Y M) → Rp G M H → va_S (Af G) s.heap H locs → lv_has ls 4 [(0, .ref T), (1, .int (nI j)), (2, .int (nI f))] → W p l e (headSpec (ws_ yX6_deliver cX6_deliver 4 none) (rmL 2 0 0)).room s m ([.ref T, .int (nI j)] : List Value).toArray below meth c H locs 0 0 (MQ below (Qg G (fun v M1 _ => v = none ∧ TR G T ta (tDeliver S j) Y M1)) ([.ref T, .int (nI j)] : List Value).toArray s 0 0 (Af G)) (F0 m 77 ls []) := by
      intro S1 M H locs ls hE hl1 hp hp1 hv hW hR hS hl
      refine lv_aload_n hx hb dX6_deliver_77 rfl (lv_at hl 0 rfl) ?_
      have hl2 := hl1.2
      refine va_get (D := G.1) (ci := 10) (v := .ref (ta 21)) (C := RX6) (T := TX6) (N := 33) hx hb hts in_X6 hown hT.1 (hR.one hW.1) 0 rfl rfl 21 (by decide) (hts _ q1053) (fun _ h9 => h9) rfl dX6_deliver_78 ?_
      refine lv_aload_n hx hb dX6_deliver_81 rfl (lv_at hl 0 rfl) ?_
      refine lv_dup hx hb dX6_deliver_82 rfl ?_
      refine va_get (D := G.1) (ci := 10) (v := .int (gF S1 23)) (C := RX6) (T := TX6) (N := 33) hx hb hts in_X6 hown hT.1 (hR.one hW.1) 0 rfl rfl 23 (by decide) (hts _ q1055) (fun _ h9 => h9) rfl dX6_deliver_83 ?_
      refine lv_dup_x1 hx hb dX6_deliver_86 rfl rfl ?_
      refine lv_iconst (v := 1) hx hb dX6_deliver_87 (by decide) ?_
      refine lv_iadd hx hb dX6_deliver_88 ?_
      refine r_put (ci := 10) (v := .int ((gF S1 23) + 1)) (ty := .int) (C := RX6) (T := TX6) (N := 33) hx hb hts in_X6 tyX6 tyX6_ok nmX6 hown hT hR hS hW.1 rfl 23 (by decide) (hts _ q1055) (fun _ h9 => h9) rfl (by decide +kernel) rfl rfl (Nat.le_of_ble_eq_true rfl) dX6_deliver_89 (fun H locs hz hR hS => ?_)
      obtain ⟨M, hR, hW⟩ : ∃ M1 : Mp, Rp G M1 H ∧ TR G T ta (sF S1 23 ((gF S1 23) + 1)) Y M1 := ⟨_, hR, hW.setF 23 (by decide) (by decide) ((gF S1 23) + 1)⟩
      refine lv_aload_n hx hb dX6_deliver_92 rfl (lv_at hl 0 rfl) ?_
      refine va_get (D := G.1) (ci := 10) (v := .ref (ta 15)) (C := RX6) (T := TX6) (N := 33) hx hb hts in_X6 hown hT.1 (hR.one hW.1) 0 rfl rfl 15 (by decide) (hts _ q1047) (fun _ h9 => h9) rfl dX6_deliver_93 ?_
      refine lv_iload_n hx hb dX6_deliver_96 rfl (lv_at hl 2 rfl) ?_
      refine lv_iconst (v := 4) hx hb dX6_deliver_97 (by decide) ?_
      refine lv_imul hx hb dX6_deliver_98 ?_
      refine W.eq (g2 := F0 m 99 ls (.int (nI (f * 4)) :: [.ref (ta 15), .int (gF S1 23), .ref (ta 21)])) (congrArg (fun z => F0 m 99 ls (.int z :: [.ref (ta 15), .int (gF S1 23), .ref (ta 21)])) (mulN rfl rfl)) ?_
      refine r_iald hx hb hT hR (hW.i 15 48 (by decide) (by decide) rfl) (j := (f * 4)) rfl (by omega) (by decide) dX6_deliver_99 ?_
      refine W.eq (g2 := F0 m 100 ls (.int (gI S1 15 (f * 4)) :: [.int (gF S1 23), .ref (ta 21)])) rfl ?_
      refine lv_aload_n hx hb dX6_deliver_100 rfl (lv_at hl 0 rfl) ?_
      refine va_get (D := G.1) (ci := 10) (v := .ref (ta 8)) (C := RX6) (T := TX6) (N := 33) hx hb hts in_X6 hown hT.1 (hR.one hW.1) 0 rfl rfl 8 (by decide) (hts _ q1040) (fun _ h9 => h9) rfl dX6_deliver_101 ?_
      refine lv_iload_n hx hb dX6_deliver_104 rfl (lv_at hl 1 rfl) ?_
      refine r_iald hx hb hT hR (hW.i 8 6 (by decide) (by decide) rfl) (j := j) rfl (by omega) (by decide) dX6_deliver_105 ?_
      refine W.eq (g2 := F0 m 106 ls (.int (gI S1 8 j) :: [.int (gI S1 15 (f * 4)), .int (gF S1 23), .ref (ta 21)])) rfl ?_
      refine lv_ixor hx hb dX6_deliver_106 ?_
      refine lv_aload_n hx hb dX6_deliver_107 rfl (lv_at hl 0 rfl) ?_
      refine va_get (D := G.1) (ci := 10) (v := .int (gF S1 22)) (C := RX6) (T := TX6) (N := 33) hx hb hts in_X6 hown hT.1 (hR.one hW.1) 0 rfl rfl 22 (by decide) (hts _ q1054) (fun _ h9 => h9) rfl dX6_deliver_108 ?_
      refine lv_ixor hx hb dX6_deliver_111 ?_
      refine r_iastj hx hb hT hR hS (hW.i 21 6 (by decide) (by decide) rfl) (j := (ix (gF S1 23))) hl1.1 (by omega) (by decide) dX6_deliver_112 (fun H locs hz hR hS => ?_)
      obtain ⟨M, hR, hW⟩ : ∃ M1 : Mp, Rp G M1 H ∧ TR G T ta (sI (sF S1 23 ((gF S1 23) + 1)) 21 (ix (gF S1 23)) (((gI S1 15 (f * 4)) ^^^ (gI S1 8 j)) ^^^ (gF S1 22))) Y M1 := ⟨_, hR, hW.setI 21 (by decide) (by decide) (ix (gF S1 23)) (((gI S1 15 (f * 4)) ^^^ (gI S1 8 j)) ^^^ (gF S1 22))⟩
      refine lv_aload_n hx hb dX6_deliver_113 rfl (lv_at hl 0 rfl) ?_
      refine va_get (D := G.1) (ci := 10) (v := .ref (ta 5)) (C := RX6) (T := TX6) (N := 33) hx hb hts in_X6 hown hT.1 (hR.one hW.1) 0 rfl rfl 5 (by decide) (hts _ q1037) (fun _ h9 => h9) rfl dX6_deliver_114 ?_
      refine lv_iload_n hx hb dX6_deliver_117 rfl (lv_at hl 2 rfl) ?_
      refine lv_aload_n hx hb dX6_deliver_118 rfl (lv_at hl 0 rfl) ?_
      refine va_get (D := G.1) (ci := 10) (v := .ref (ta 5)) (C := RX6) (T := TX6) (N := 33) hx hb hts in_X6 hown hT.1 (hR.one hW.1) 0 rfl rfl 5 (by decide) (hts _ q1037) (fun _ h9 => h9) rfl dX6_deliver_119 ?_
      refine lv_iload_n hx hb dX6_deliver_122 rfl (lv_at hl 2 rfl) ?_
      refine r_dald hx hb hT hR (hW.d 5 12 (by decide) rfl) (j := f) rfl (by omega) (by decide) dX6_deliver_123 ?_
      refine W.eq (g2 := F0 m 124 ls (.double (gD S1 5 f) :: [.int (nI f), .ref (ta 5)])) rfl ?_
      refine lv_aload_n hx hb dX6_deliver_124 rfl (lv_at hl 0 rfl) ?_
      refine va_get (D := G.1) (ci := 10) (v := .ref (ta 14)) (C := RX6) (T := TX6) (N := 33) hx hb hts in_X6 hown hT.1 (hR.one hW.1) 0 rfl rfl 14 (by decide) (hts _ q1046) (fun _ h9 => h9) rfl dX6_deliver_125 ?_
      refine lv_iload_n hx hb dX6_deliver_128 rfl (lv_at hl 2 rfl) ?_
      refine lv_iconst (v := 4) hx hb dX6_deliver_129 (by decide) ?_
      refine lv_imul hx hb dX6_deliver_130 ?_
      refine W.eq (g2 := F0 m 131 ls (.int (nI (f * 4)) :: [.ref (ta 14), .double (gD S1 5 f), .int (nI f), .ref (ta 5)])) (congrArg (fun z => F0 m 131 ls (.int z :: [.ref (ta 14), .double (gD S1 5 f), .int (nI f), .ref (ta 5)])) (mulN rfl rfl)) ?_
      refine r_iald hx hb hT hR (hW.i 14 48 (by decide) (by decide) rfl) (j := (f * 4)) rfl (by omega) (by decide) dX6_deliver_131 ?_
      refine W.eq (g2 := F0 m 132 ls (.int (gI S1 14 (f * 4)) :: [.double (gD S1 5 f), .int (nI f), .ref (ta 5)])) rfl ?_
      refine lv_i2d hx hb dX6_deliver_132 ?_
      refine lv_dsub hx hb dX6_deliver_133 hv ?_
      refine r_dastj hx hb hT hR hS (hW.d 5 12 (by decide) rfl) (j := f) rfl (by omega) (by decide) dX6_deliver_134 (fun H locs hz hR hS => ?_)
      obtain ⟨M, hR, hW⟩ : ∃ M1 : Mp, Rp G M1 H ∧ TR G T ta (sD (sI (sF S1 23 ((gF S1 23) + 1)) 21 (ix (gF S1 23)) (((gI S1 15 (f * 4)) ^^^ (gI S1 8 j)) ^^^ (gF S1 22))) 5 f (FP.dsub (gD S1 5 f) (FP.i2d (gI S1 14 (f * 4))))) Y M1 := ⟨_, hR, hW.setD 5 (by decide) f (FP.dsub (gD S1 5 f) (FP.i2d (gI S1 14 (f * 4))))⟩
      refine lv_aload_n hx hb dX6_deliver_135 rfl (lv_at hl 0 rfl) ?_
      refine va_get (D := G.1) (ci := 10) (v := .ref (ta 13)) (C := RX6) (T := TX6) (N := 33) hx hb hts in_X6 hown hT.1 (hR.one hW.1) 0 rfl rfl 13 (by decide) (hts _ q1045) (fun _ h9 => h9) rfl dX6_deliver_136 ?_
      refine lv_iload_n hx hb dX6_deliver_139 rfl (lv_at hl 2 rfl) ?_
      refine lv_dup2_11 hx hb dX6_deliver_140 rfl rfl ?_
      refine r_iald hx hb hT hR (hW.i 13 12 (by decide) (by decide) rfl) (j := f) rfl (by omega) (by decide) dX6_deliver_141 ?_
      refine W.eq (g2 := F0 m 142 ls (.int (gI S1 13 f) :: [.int (nI f), .ref (ta 13)])) rfl ?_
      refine lv_iconst (v := 1) hx hb dX6_deliver_142 (by decide) ?_
      refine lv_isub hx hb dX6_deliver_143 ?_
      refine r_iastj hx hb hT hR hS (hW.i 13 12 (by decide) (by decide) rfl) (j := f) rfl (by omega) (by decide) dX6_deliver_144 (fun H locs hz hR hS => ?_)
      obtain ⟨M, hR, hW⟩ : ∃ M1 : Mp, Rp G M1 H ∧ TR G T ta (sI (sD (sI (sF S1 23 ((gF S1 23) + 1)) 21 (ix (gF S1 23)) (((gI S1 15 (f * 4)) ^^^ (gI S1 8 j)) ^^^ (gF S1 22))) 5 f (FP.dsub (gD S1 5 f) (FP.i2d (gI S1 14 (f * 4))))) 13 f ((gI S1 13 f) - 1)) Y M1 := ⟨_, hR, hW.setI 13 (by decide) (by decide) f ((gI S1 13 f) - 1)⟩
      refine lv_iconst (v := 0) hx hb dX6_deliver_145 (by decide) ?_
      refine lv_istore_n (lv' := [(3, .int 0), (0, .ref T), (1, .int (nI j)), (2, .int (nI f))]) hx hb dX6_deliver_146 rfl hl (by decide) rfl (fun ls hl => ?_)
      have hW : TR G T ta (tDel1 S1 j f) Y M := hW
      have hnp := del_np (j := j) hp hp1
      have hnp2 := hnp.2
      have k147 : ∀ (n : Nat) (i : Nat) (S3 : Tw) (M : Mp) (H : Heap) (locs : List Loc) (ls : Array Slot), (i ≤ ix (gI (tDel1 S1 j f) 13 f)) → (ix (gI (tDel1 S1 j f) 13 f) < i + n) → (S3 = it (tShP f) i (tDel1 S1 j f)) → (gI S3 13 f = nI (ix (gI (tDel1 S1 j f) 13 f))) → (TR G T ta S3 Y M) → Rp G M H → va_S (Af G) s.heap H locs → lv_has ls 4 [(0, .ref T), (1, .int (nI j)), (2, .int (nI f)), (3, .int (nI i))] → W p l e (headSpec (ws_ yX6_deliver cX6_deliver 4 none) (rmL 2 0 0)).room s m ([.ref T, .int (nI j)] : List Value).toArray below meth c H locs 0 0 (MQ below (Qg G (fun v M1 _ => v = none ∧ TR G T ta (tDeliver S j) Y M1)) ([.ref T, .int (nI j)] : List Value).toArray s 0 0 (Af G)) (F0 m 147 ls []) := by
        intro n
        induction n with
        | zero =>
          intro i S3 M H locs ls hi hf hX h13 hW hR hS hl
          exact absurd hf (by omega)
        | succ n ih_k147 =>
          intro i S3 M H locs ls hi hf hX h13 hW hR hS hl
          refine lv_iload_n hx hb dX6_deliver_147 rfl (lv_at hl 3 rfl) ?_
          refine lv_aload_n hx hb dX6_deliver_148 rfl (lv_at hl 0 rfl) ?_
          refine va_get (D := G.1) (ci := 10) (v := .ref (ta 13)) (C := RX6) (T := TX6) (N := 33) hx hb hts in_X6 hown hT.1 (hR.one hW.1) 0 rfl rfl 13 (by decide) (hts _ q1045) (fun _ h9 => h9) rfl dX6_deliver_149 ?_
          refine lv_iload_n hx hb dX6_deliver_152 rfl (lv_at hl 2 rfl) ?_
          refine r_iald hx hb hT hR (hW.i 13 12 (by decide) (by decide) rfl) (j := f) rfl (by omega) (by decide) dX6_deliver_153 ?_
          refine W.eq (g2 := F0 m 154 ls (.int (gI S3 13 f) :: [.int (nI i)])) rfl ?_
          refine lv_icmp_ge (tgt := 207) hx hb dX6_deliver_154 (by decide) (fun c_2 => ?_) (fun c_2 => ?_)
          · skip
            have c_2 := (leN (a := ix (gI (tDel1 S1 j f) 13 f)) (b := i) h13 rfl (by omega) (by omega)).mp c_2
            obtain rfl : i = ix (gI (tDel1 S1 j f) 13 f) := by omega
            subst hX
            have hl : lv_has ls 4 [(0, .ref T), (1, .int (nI j)), (2, .int (nI f))] := lv_sub hl [0, 1, 2] rfl
            refine lv_aload_n hx hb dX6_deliver_207 rfl (lv_at hl 0 rfl) ?_
            refine lv_dup hx hb dX6_deliver_208 rfl ?_
            refine va_get (D := G.1) (ci := 10) (v := .int (gF (it (tShP f) (ix (gI (tDel1 S1 j f) 13 f)) (tDel1 S1 j f)) 29)) (C := RX6) (T := TX6) (N := 33) hx hb hts in_X6 hown hT.1 (hR.one hW.1) 0 rfl rfl 29 (by decide) (hts _ q1061) (fun _ h9 => h9) rfl dX6_deliver_209 ?_
            refine lv_iconst (v := 1) hx hb dX6_deliver_212 (by decide) ?_
            refine lv_iadd hx hb dX6_deliver_213 ?_
            refine r_put (ci := 10) (v := .int ((gF (it (tShP f) (ix (gI (tDel1 S1 j f) 13 f)) (tDel1 S1 j f)) 29) + 1)) (ty := .int) (C := RX6) (T := TX6) (N := 33) hx hb hts in_X6 tyX6 tyX6_ok nmX6 hown hT hR hS hW.1 rfl 29 (by decide) (hts _ q1061) (fun _ h9 => h9) rfl (by decide +kernel) rfl rfl (Nat.le_of_ble_eq_true rfl) dX6_deliver_214 (fun H locs hz hR hS => ?_)
            obtain ⟨M, hR, hW⟩ : ∃ M1 : Mp, Rp G M1 H ∧ TR G T ta (sF (it (tShP f) (ix (gI (tDel1 S1 j f) 13 f)) (tDel1 S1 j f)) 29 ((gF (it (tShP f) (ix (gI (tDel1 S1 j f) 13 f)) (tDel1 S1 j f)) 29) + 1)) Y M1 := ⟨_, hR, hW.setF 29 (by decide) (by decide) ((gF (it (tShP f) (ix (gI (tDel1 S1 j f) 13 f)) (tDel1 S1 j f)) 29) + 1)⟩
            exact W.vret hx hb hr (q_ret (⟨rfl, TR.eq hE hW⟩) hR hS) hS.2.2 dX6_deliver_217
          · skip
            have c_2 := (not_congr (leN (a := ix (gI (tDel1 S1 j f) 13 f)) (b := i) h13 rfl (by omega) (by omega))).mp c_2
            refine lv_aload_n hx hb dX6_deliver_157 rfl (lv_at hl 0 rfl) ?_
            refine va_get (D := G.1) (ci := 10) (v := .ref (ta 14)) (C := RX6) (T := TX6) (N := 33) hx hb hts in_X6 hown hT.1 (hR.one hW.1) 0 rfl rfl 14 (by decide) (hts _ q1046) (fun _ h9 => h9) rfl dX6_deliver_158 ?_
            refine lv_iload_n hx hb dX6_deliver_161 rfl (lv_at hl 2 rfl) ?_
            refine lv_iconst (v := 4) hx hb dX6_deliver_162 (by decide) ?_
            refine lv_imul hx hb dX6_deliver_163 ?_
            refine W.eq (g2 := F0 m 164 ls (.int (nI (f * 4)) :: [.ref (ta 14)])) (congrArg (fun z => F0 m 164 ls (.int z :: [.ref (ta 14)])) (mulN rfl rfl)) ?_
            refine lv_iload_n hx hb dX6_deliver_164 rfl (lv_at hl 3 rfl) ?_
            refine lv_iadd hx hb dX6_deliver_165 ?_
            refine W.eq (g2 := F0 m 166 ls (.int (nI (f * 4 + i)) :: [.ref (ta 14)])) (congrArg (fun z => F0 m 166 ls (.int z :: [.ref (ta 14)])) (addN rfl rfl)) ?_
            refine lv_aload_n hx hb dX6_deliver_166 rfl (lv_at hl 0 rfl) ?_
            refine va_get (D := G.1) (ci := 10) (v := .ref (ta 14)) (C := RX6) (T := TX6) (N := 33) hx hb hts in_X6 hown hT.1 (hR.one hW.1) 0 rfl rfl 14 (by decide) (hts _ q1046) (fun _ h9 => h9) rfl dX6_deliver_167 ?_
            refine lv_iload_n hx hb dX6_deliver_170 rfl (lv_at hl 2 rfl) ?_
            refine lv_iconst (v := 4) hx hb dX6_deliver_171 (by decide) ?_
            refine lv_imul hx hb dX6_deliver_172 ?_
            refine W.eq (g2 := F0 m 173 ls (.int (nI (f * 4)) :: [.ref (ta 14), .int (nI (f * 4 + i)), .ref (ta 14)])) (congrArg (fun z => F0 m 173 ls (.int z :: [.ref (ta 14), .int (nI (f * 4 + i)), .ref (ta 14)])) (mulN rfl rfl)) ?_
            refine lv_iload_n hx hb dX6_deliver_173 rfl (lv_at hl 3 rfl) ?_
            refine lv_iadd hx hb dX6_deliver_174 ?_
            refine W.eq (g2 := F0 m 175 ls (.int (nI (f * 4 + i)) :: [.ref (ta 14), .int (nI (f * 4 + i)), .ref (ta 14)])) (congrArg (fun z => F0 m 175 ls (.int z :: [.ref (ta 14), .int (nI (f * 4 + i)), .ref (ta 14)])) (addN rfl rfl)) ?_
            refine lv_iconst (v := 1) hx hb dX6_deliver_175 (by decide) ?_
            refine lv_iadd hx hb dX6_deliver_176 ?_
            refine W.eq (g2 := F0 m 177 ls (.int (nI (f * 4 + i + 1)) :: [.ref (ta 14), .int (nI (f * 4 + i)), .ref (ta 14)])) (congrArg (fun z => F0 m 177 ls (.int z :: [.ref (ta 14), .int (nI (f * 4 + i)), .ref (ta 14)])) (addN rfl rfl)) ?_
            refine r_iald hx hb hT hR (hW.i 14 48 (by decide) (by decide) rfl) (j := (f * 4 + i + 1)) rfl (by omega) (by decide) dX6_deliver_177 ?_
            refine W.eq (g2 := F0 m 178 ls (.int (gI S3 14 (f * 4 + i + 1)) :: [.int (nI (f * 4 + i)), .ref (ta 14)])) rfl ?_
            refine r_iastj hx hb hT hR hS (hW.i 14 48 (by decide) (by decide) rfl) (j := (f * 4 + i)) rfl (by omega) (by decide) dX6_deliver_178 (fun H locs hz hR hS => ?_)
            obtain ⟨M, hR, hW⟩ : ∃ M1 : Mp, Rp G M1 H ∧ TR G T ta (sI S3 14 (f * 4 + i) (gI S3 14 (f * 4 + i + 1))) Y M1 := ⟨_, hR, hW.setI 14 (by decide) (by decide) (f * 4 + i) (gI S3 14 (f * 4 + i + 1))⟩
            refine lv_aload_n hx hb dX6_deliver_179 rfl (lv_at hl 0 rfl) ?_
            refine va_get (D := G.1) (ci := 10) (v := .ref (ta 15)) (C := RX6) (T := TX6) (N := 33) hx hb hts in_X6 hown hT.1 (hR.one hW.1) 0 rfl rfl 15 (by decide) (hts _ q1047) (fun _ h9 => h9) rfl dX6_deliver_180 ?_
            refine lv_iload_n hx hb dX6_deliver_183 rfl (lv_at hl 2 rfl) ?_
            refine lv_iconst (v := 4) hx hb dX6_deliver_184 (by decide) ?_
            refine lv_imul hx hb dX6_deliver_185 ?_
            refine W.eq (g2 := F0 m 186 ls (.int (nI (f * 4)) :: [.ref (ta 15)])) (congrArg (fun z => F0 m 186 ls (.int z :: [.ref (ta 15)])) (mulN rfl rfl)) ?_
            refine lv_iload_n hx hb dX6_deliver_186 rfl (lv_at hl 3 rfl) ?_
            refine lv_iadd hx hb dX6_deliver_187 ?_
            refine W.eq (g2 := F0 m 188 ls (.int (nI (f * 4 + i)) :: [.ref (ta 15)])) (congrArg (fun z => F0 m 188 ls (.int z :: [.ref (ta 15)])) (addN rfl rfl)) ?_
            refine lv_aload_n hx hb dX6_deliver_188 rfl (lv_at hl 0 rfl) ?_
            refine va_get (D := G.1) (ci := 10) (v := .ref (ta 15)) (C := RX6) (T := TX6) (N := 33) hx hb hts in_X6 hown hT.1 (hR.one hW.1) 0 rfl rfl 15 (by decide) (hts _ q1047) (fun _ h9 => h9) rfl dX6_deliver_189 ?_
            refine lv_iload_n hx hb dX6_deliver_192 rfl (lv_at hl 2 rfl) ?_
            refine lv_iconst (v := 4) hx hb dX6_deliver_193 (by decide) ?_
            refine lv_imul hx hb dX6_deliver_194 ?_
            refine W.eq (g2 := F0 m 195 ls (.int (nI (f * 4)) :: [.ref (ta 15), .int (nI (f * 4 + i)), .ref (ta 15)])) (congrArg (fun z => F0 m 195 ls (.int z :: [.ref (ta 15), .int (nI (f * 4 + i)), .ref (ta 15)])) (mulN rfl rfl)) ?_
            refine lv_iload_n hx hb dX6_deliver_195 rfl (lv_at hl 3 rfl) ?_
            refine lv_iadd hx hb dX6_deliver_196 ?_
            refine W.eq (g2 := F0 m 197 ls (.int (nI (f * 4 + i)) :: [.ref (ta 15), .int (nI (f * 4 + i)), .ref (ta 15)])) (congrArg (fun z => F0 m 197 ls (.int z :: [.ref (ta 15), .int (nI (f * 4 + i)), .ref (ta 15)])) (addN rfl rfl)) ?_
            refine lv_iconst (v := 1) hx hb dX6_deliver_197 (by decide) ?_
            refine lv_iadd hx hb dX6_deliver_198 ?_
            refine W.eq (g2 := F0 m 199 ls (.int (nI (f * 4 + i + 1)) :: [.ref (ta 15), .int (nI (f * 4 + i)), .ref (ta 15)])) (congrArg (fun z => F0 m 199 ls (.int z :: [.ref (ta 15), .int (nI (f * 4 + i)), .ref (ta 15)])) (addN rfl rfl)) ?_
            refine r_iald hx hb hT hR (hW.i 15 48 (by decide) (by decide) rfl) (j := (f * 4 + i + 1)) rfl (by omega) (by decide) dX6_deliver_199 ?_
            refine W.eq (g2 := F0 m 200 ls (.int (gI S3 15 (f * 4 + i + 1)) :: [.int (nI (f * 4 + i)), .ref (ta 15)])) rfl ?_
            refine r_iastj hx hb hT hR hS (hW.i 15 48 (by decide) (by decide) rfl) (j := (f * 4 + i)) rfl (by omega) (by decide) dX6_deliver_200 (fun H locs hz hR hS => ?_)
            obtain ⟨M, hR, hW⟩ : ∃ M1 : Mp, Rp G M1 H ∧ TR G T ta (sI (sI S3 14 (f * 4 + i) (gI S3 14 (f * 4 + i + 1))) 15 (f * 4 + i) (gI S3 15 (f * 4 + i + 1))) Y M1 := ⟨_, hR, hW.setI 15 (by decide) (by decide) (f * 4 + i) (gI S3 15 (f * 4 + i + 1))⟩
            refine lv_iinc (v := nI (i + 1)) (lv' := [(3, .int (nI (i + 1))), (0, .ref T), (1, .int (nI j)), (2, .int (nI f))]) hx hb dX6_deliver_201 hl (k := 3) rfl (addN rfl rfl) (by decide) rfl (fun ls hl => ?_)
            refine lv_goto (tgt := 147) hx hb dX6_deliver_204 (by decide) ?_
            exact ih_k147 (i + 1) (sI (sI S3 14 (f * 4 + i) (gI S3 14 (f * 4 + i + 1))) 15 (f * 4 + i) (gI S3 15 (f * 4 + i + 1))) _ _ _ _ (by omega) (by omega) (it_next hX rfl) h13 hW hR hS (lv_sub hl [1, 2, 3, 0] rfl)
      exact k147 (ix (gI (tDel1 S1 j f) 13 f) + 1) 0 _ _ _ _ _ (Nat.zero_le _) (by omega) rfl hnp.1 hW hR hS (lv_sub hl [1, 2, 3, 0] rfl)
    refine lv_aload_n hx hb dX6_deliver_21 rfl (lv_at hl 1 rfl) ?_
    refine va_get (D := G.1) (ci := 10) (v := .int (gF S 23)) (C := RX6) (T := TX6) (N := 33) hx hb hts in_X6 hown hT.1 (hR.one hW.1) 0 rfl rfl 23 (by decide) (hts _ q1055) (fun _ h9 => h9) rfl dX6_deliver_22 ?_
    refine lv_bipush (v := 6) hx hb dX6_deliver_25 (by decide) ?_
    refine lv_icmp_ne (tgt := 77) hx hb dX6_deliver_27 (by decide) (fun c_3 => ?_) (fun c_3 => ?_)
    · skip
      exact k77 S _ _ _ _ (by rw [hfe]; exact (if_pos c_1).trans ((if_neg c_3).trans (rfl))) (nb_pred hq2 c_3) hq3 hq4 hq5 hW hR hS (lv_sub hl [1, 2, 0] rfl)
    · skip
      refine lv_iconst (v := 0) hx hb dX6_deliver_30 (by decide) ?_
      refine lv_istore_n (lv' := [(3, .int 0), (2, .int (nI f)), (0, .ref T), (1, .int (nI j))]) hx hb dX6_deliver_31 rfl hl (by decide) rfl (fun ls hl => ?_)
      have k32 : ∀ (n : Nat) (i : Nat) (S2 : Tw) (M : Mp) (H : Heap) (locs : List Loc) (ls : Array Slot), (i ≤ 5) → (5 < i + n) → (S2 = it tShL i S) → (TR G T ta S2 Y M) → Rp G M H → va_S (Af G) s.heap H locs → lv_has ls 4 [(0, .ref T), (1, .int (nI j)), (2, .int (nI f)), (3, .int (nI i))] → W p l e (headSpec (ws_ yX6_deliver cX6_deliver 4 none) (rmL 2 0 0)).room s m ([.ref T, .int (nI j)] : List Value).toArray below meth c H locs 0 0 (MQ below (Qg G (fun v M1 _ => v = none ∧ TR G T ta (tDeliver S j) Y M1)) ([.ref T, .int (nI j)] : List Value).toArray s 0 0 (Af G)) (F0 m 32 ls []) := by
        intro n
        induction n with
        | zero =>
          intro i S2 M H locs ls hi hf hX hW hR hS hl
          exact absurd hf (by omega)
        | succ n ih_k32 =>
          intro i S2 M H locs ls hi hf hX hW hR hS hl
          refine lv_iload_n hx hb dX6_deliver_32 rfl (lv_at hl 3 rfl) ?_
          refine lv_iconst (v := 5) hx hb dX6_deliver_33 (by decide) ?_
          refine lv_icmp_ge (tgt := 57) hx hb dX6_deliver_34 (by decide) (fun c_4 => ?_) (fun c_4 => ?_)
          · skip
            have c_4 := (leN (a := 5) (b := i) rfl rfl (by omega) (by omega)).mp c_4
            obtain rfl : i = 5 := by omega
            subst hX
            have hl : lv_has ls 4 [(0, .ref T), (1, .int (nI j)), (2, .int (nI f))] := lv_sub hl [0, 1, 2] rfl
            refine lv_aload_n hx hb dX6_deliver_57 rfl (lv_at hl 0 rfl) ?_
            refine lv_dup hx hb dX6_deliver_58 rfl ?_
            refine va_get (D := G.1) (ci := 10) (v := .int (gF (it tShL 5 S) 23)) (C := RX6) (T := TX6) (N := 33) hx hb hts in_X6 hown hT.1 (hR.one hW.1) 0 rfl rfl 23 (by decide) (hts _ q1055) (fun _ h9 => h9) rfl dX6_deliver_59 ?_
            refine lv_iconst (v := 1) hx hb dX6_deliver_62 (by decide) ?_
            refine lv_isub hx hb dX6_deliver_63 ?_
            refine r_put (ci := 10) (v := .int ((gF (it tShL 5 S) 23) - 1)) (ty := .int) (C := RX6) (T := TX6) (N := 33) hx hb hts in_X6 tyX6 tyX6_ok nmX6 hown hT hR hS hW.1 rfl 23 (by decide) (hts _ q1055) (fun _ h9 => h9) rfl (by decide +kernel) rfl rfl (Nat.le_of_ble_eq_true rfl) dX6_deliver_64 (fun H locs hz hR hS => ?_)
            obtain ⟨M, hR, hW⟩ : ∃ M1 : Mp, Rp G M1 H ∧ TR G T ta (sF (it tShL 5 S) 23 ((gF (it tShL 5 S) 23) - 1)) Y M1 := ⟨_, hR, hW.setF 23 (by decide) (by decide) ((gF (it tShL 5 S) 23) - 1)⟩
            refine lv_aload_n hx hb dX6_deliver_67 rfl (lv_at hl 0 rfl) ?_
            refine lv_dup hx hb dX6_deliver_68 rfl ?_
            refine va_get (D := G.1) (ci := 10) (v := .int (gF (it tShL 5 S) 31)) (C := RX6) (T := TX6) (N := 33) hx hb hts in_X6 hown hT.1 (hR.one hW.1) 0 rfl rfl 31 (by decide) (hts _ q1063) (fun _ h9 => h9) rfl dX6_deliver_69 ?_
            refine lv_iconst (v := 1) hx hb dX6_deliver_72 (by decide) ?_
            refine lv_iadd hx hb dX6_deliver_73 ?_
            refine r_put (ci := 10) (v := .int ((gF (it tShL 5 S) 31) + 1)) (ty := .int) (C := RX6) (T := TX6) (N := 33) hx hb hts in_X6 tyX6 tyX6_ok nmX6 hown hT hR hS hW.1 rfl 31 (by decide) (hts _ q1063) (fun _ h9 => h9) rfl (by decide +kernel) rfl rfl (Nat.le_of_ble_eq_true rfl) dX6_deliver_74 (fun H locs hz hR hS => ?_)
            obtain ⟨M, hR, hW⟩ : ∃ M1 : Mp, Rp G M1 H ∧ TR G T ta (sF (sF (it tShL 5 S) 23 ((gF (it tShL 5 S) 23) - 1)) 31 ((gF (it tShL 5 S) 31) + 1)) Y M1 := ⟨_, hR, hW.setF 31 (by decide) (by decide) ((gF (it tShL 5 S) 31) + 1)⟩
            exact k77 (sF (sF (it tShL 5 S) 23 ((gF (it tShL 5 S) 23) - 1)) 31 ((gF (it tShL 5 S) 31) + 1)) _ _ _ _ (by rw [hfe]; exact (if_pos c_1).trans ((if_pos c_3).trans (rfl))) (by
              show nb (gF (it tShL 5 S) 23 - 1) 5
              rw [shl_F, c_3]
              exact nb_nI (n := 5) (by decide) (by decide)) (show nb (gI (it tShL 5 S) 13 f) 4 by rw [shl_I _ _ _ (by decide)]; exact hq3) (show 1 ≤ ix (gI (it tShL 5 S) 13 f) by rw [shl_I _ _ _ (by decide)]; exact hq4) (show vf_n64 (FP.dsub (gD (it tShL 5 S) 5 f) (FP.i2d (gI (it tShL 5 S) 14 (f * 4)))) by rw [shl_I _ _ _ (by decide), shl_D]; exact hq5) hW hR hS (lv_sub hl [0, 1, 2] rfl)
          · skip
            have c_4 := (not_congr (leN (a := 5) (b := i) rfl rfl (by omega) (by omega))).mp c_4
            refine lv_aload_n hx hb dX6_deliver_37 rfl (lv_at hl 0 rfl) ?_
            refine va_get (D := G.1) (ci := 10) (v := .ref (ta 21)) (C := RX6) (T := TX6) (N := 33) hx hb hts in_X6 hown hT.1 (hR.one hW.1) 0 rfl rfl 21 (by decide) (hts _ q1053) (fun _ h9 => h9) rfl dX6_deliver_38 ?_
            refine lv_iload_n hx hb dX6_deliver_41 rfl (lv_at hl 3 rfl) ?_
            refine lv_aload_n hx hb dX6_deliver_42 rfl (lv_at hl 0 rfl) ?_
            refine va_get (D := G.1) (ci := 10) (v := .ref (ta 21)) (C := RX6) (T := TX6) (N := 33) hx hb hts in_X6 hown hT.1 (hR.one hW.1) 0 rfl rfl 21 (by decide) (hts _ q1053) (fun _ h9 => h9) rfl dX6_deliver_43 ?_
            refine lv_iload_n hx hb dX6_deliver_46 rfl (lv_at hl 3 rfl) ?_
            refine lv_iconst (v := 1) hx hb dX6_deliver_47 (by decide) ?_
            refine lv_iadd hx hb dX6_deliver_48 ?_
            refine W.eq (g2 := F0 m 49 ls (.int (nI (i + 1)) :: [.ref (ta 21), .int (nI i), .ref (ta 21)])) (congrArg (fun z => F0 m 49 ls (.int z :: [.ref (ta 21), .int (nI i), .ref (ta 21)])) (addN rfl rfl)) ?_
            refine r_iald hx hb hT hR (hW.i 21 6 (by decide) (by decide) rfl) (j := (i + 1)) rfl (by omega) (by decide) dX6_deliver_49 ?_
            refine W.eq (g2 := F0 m 50 ls (.int (gI S2 21 (i + 1)) :: [.int (nI i), .ref (ta 21)])) rfl ?_
            refine r_iastj hx hb hT hR hS (hW.i 21 6 (by decide) (by decide) rfl) (j := i) rfl (by omega) (by decide) dX6_deliver_50 (fun H locs hz hR hS => ?_)
            obtain ⟨M, hR, hW⟩ : ∃ M1 : Mp, Rp G M1 H ∧ TR G T ta (sI S2 21 i (gI S2 21 (i + 1))) Y M1 := ⟨_, hR, hW.setI 21 (by decide) (by decide) i (gI S2 21 (i + 1))⟩
            refine lv_iinc (v := nI (i + 1)) (lv' := [(3, .int (nI (i + 1))), (0, .ref T), (1, .int (nI j)), (2, .int (nI f))]) hx hb dX6_deliver_51 hl (k := 3) rfl (addN rfl rfl) (by decide) rfl (fun ls hl => ?_)
            refine lv_goto (tgt := 32) hx hb dX6_deliver_54 (by decide) ?_
            exact ih_k32 (i + 1) (sI S2 21 i (gI S2 21 (i + 1))) _ _ _ _ (by omega) (by omega) (it_next hX (rfl)) hW hR hS (lv_sub hl [1, 2, 3, 0] rfl)
      exact k32 6 0 S _ _ _ _ (by omega) (by omega) rfl hW hR hS (lv_sub hl [2, 3, 1, 0] rfl)
  · skip
    have c_1 := b_0 c_1
    refine lv_aload_n hx hb dX6_deliver_8 rfl (lv_at hl 0 rfl) ?_
    refine lv_iload_n hx hb dX6_deliver_9 rfl (lv_at hl 1 rfl) ?_
    refine g_call (va_runV (As := [.int (nI j)]) (rest := []) ⟨hx, hb, hml, hown, hts⟩ (tm_missed l G M _ T ta S Y hW j (by omega)) (cwV 1 hts (lw_V q1207 q1209 qs30 q61 q1210) rfl rfl rfl (by decide +kernel) ⟨Nat.le_of_ble_eq_true rfl, Nat.le_of_ble_eq_true rfl⟩) (preV hT hR hS hW.1 rfl rfl) rfl rfl hl.1 rfl (lv_room (Nat.le_of_ble_eq_true rfl)) dX6_deliver_10 ⟨Nat.le_of_ble_eq_true rfl, Nat.le_of_ble_eq_true rfl⟩) hS (fun v M H locs hq hR hz hS => ?_)
    obtain ⟨rfl, hW⟩ := hq
    refine W.eq (g2 := F0 m 13 ls []) rfl ?_
    exact W.vret hx hb hr (q_ret (⟨rfl, TR.eq ((if_neg c_1).trans (rfl)) hW⟩) hR hS) hS.2.2 dX6_deliver_13
set_option maxHeartbeats 4000000 in
set_option maxRecDepth 100000 in
theorem tm_granting (l : Launch) (G : Gw) (M : Mp) (sz : Nat) (T : Nat) (ta : Nat → Nat) (S : Tw) (Y : Mp) (hW : TR G T ta S Y M) (hg : grOK S) : Ct l yX6_granting cX6_granting 7 none 3 0 0 [.ref T] G M sz (fun v M1 _ => v = none ∧ TR G T ta (tGranting S) Y M1) := by
  refine Met.ofW (cc := cX6_granting) (maxL := 7) (ret := none) (by decide) rfl ?_
  intro p e s m args below meth c s₁ B hml hv
  obtain ⟨rfl, hT, hR, hsz⟩ := hv
  have hx := B.exec
  have hb := B.bytes
  have hr := B.returns
  have hts := atoms_spec (ws := ws_ yX6_granting cX6_granting 7 none) B.pre
  have hts : ∀ w ∈ lw_all, w.before _ s = true := fun w h => hts w (List.mem_cons_of_mem _ h)
  have hown : s.vm.findClass RX6 = some m.cls := findClass_of_methodNamed B.named
  have hlocks := B.notSynchronized
  have hS : va_S (Af G) s.heap s.heap [] := va_S.rf
  have hl := lv_entry ([.ref T]) (n := 7) (Nat.le_of_ble_eq_true rfl)
  rw [lg_entry_eq]
  generalize (lg_sl ([.ref T]) ++ List.replicate (7 - (lg_sl ([.ref T])).length) Slot.unset).toArray = ls at hl ⊢
  have hl : lv_has ls 7 [(0, .ref T)] := hl
  refine lv_iconst (v := 5) hx hb dX6_granting_0 (by decide) ?_
  refine lv_istore_n (lv' := [(1, .int 5), (0, .ref T)]) hx hb dX6_granting_1 rfl hl (by decide) rfl (fun ls hl => ?_)
  refine lv_iconst (v := 0) hx hb dX6_granting_2 (by decide) ?_
  refine lv_istore_n (lv' := [(2, .int 0), (1, .int 5), (0, .ref T)]) hx hb dX6_granting_3 rfl hl (by decide) rfl (fun ls hl => ?_)
  have hc6 := tCnt_le S
  refine lv_aload_n hx hb dX6_granting_4 rfl (lv_at hl 2 rfl) ?_
  refine g_pure (va_runV (As := []) (rest := []) ⟨hx, hb, hml, hown, hts⟩ (tm_requests l G M _ T ta S Y hW) (cwV 0 hts (lw_V q1215 q1217 qs32 q61 q1218) rfl rfl rfl (by decide +kernel) ⟨Nat.le_of_ble_eq_true rfl, Nat.le_of_ble_eq_true rfl⟩) (preV hT hR hS hW.1 rfl rfl) rfl rfl hl.1 rfl (lv_room (Nat.le_of_ble_eq_true rfl)) dX6_granting_5 ⟨Nat.le_of_ble_eq_true rfl, Nat.le_of_ble_eq_true rfl⟩) ?_
  refine W.eq (g2 := F0 m 8 ls [.int (nI (tCnt S))]) rfl ?_
  refine lv_istore_n (lv' := [(3, .int (nI (tCnt S))), (2, .int 0), (1, .int 5), (0, .ref T)]) hx hb dX6_granting_8 rfl hl (by decide) rfl (fun ls hl => ?_)
  refine lv_iconst (v := 0) hx hb dX6_granting_9 (by decide) ?_
  refine lv_istore (lv' := [(4, .int 0), (3, .int (nI (tCnt S))), (2, .int 0), (1, .int 5), (0, .ref T)]) hx hb dX6_granting_10 hl (by decide) rfl (fun ls hl => ?_)
  have k12 : ∀ (n : Nat) (k : Nat) (S1 : Tw) (M : Mp) (H : Heap) (locs : List Loc) (ls : Array Slot), (k ≤ tCnt S) → (tCnt S < k + n) → (S1 = it tGrA k S) → (TR G T ta S1 Y M) → Rp G M H → va_S (Af G) s.heap H locs → lv_has ls 7 [(0, .ref T), (1, .int 5), (2, .int 0), (3, .int (nI (tCnt S))), (4, .int (nI k))] → W p l e (headSpec (ws_ yX6_granting cX6_granting 7 none) (rmL 3 0 0)).room s m ([.ref T] : List Value).toArray below meth c H locs 0 0 (MQ below (Qg G (fun v M1 _ => v = none ∧ TR G T ta (tGranting S) Y M1)) ([.ref T] : List Value).toArray s 0 0 (Af G)) (F0 m 12 ls []) := by
    intro n
    induction n with
    | zero =>
      intro k S1 M H locs ls hk hf hX hW hR hS hl
      exact absurd hf (by omega)
    | succ n ih_k12 =>
      intro k S1 M H locs ls hk hf hX hW hR hS hl
      refine lv_iload hx hb dX6_granting_12 (lv_at hl 4 rfl) ?_
      refine lv_iload_n hx hb dX6_granting_14 rfl (lv_at hl 3 rfl) ?_
      refine lv_icmp_ge (tgt := 37) hx hb dX6_granting_15 (by decide) (fun c_1 => ?_) (fun c_1 => ?_)
      · skip
        have c_1 := (leN (a := tCnt S) (b := k) rfl rfl (by omega) (by omega)).mp c_1
        obtain rfl : k = tCnt S := by omega
        subst hX
        have hl : lv_has ls 7 [(0, .ref T), (1, .int 5), (2, .int 0), (3, .int (nI (tCnt S)))] := lv_sub hl [0, 1, 2, 3] rfl
        have k130 : ∀ (S3 : Tw) (nd : Nat) (M : Mp) (H : Heap) (locs : List Loc) (ls : Array Slot), (tGrB (tCnt S) 0 (it tGrA (tCnt S) S) 5 0 = (S3, nd)) → (nd ≤ 6) → (TR G T ta S3 Y M) → Rp G M H → va_S (Af G) s.heap H locs → lv_has ls 7 [(0, .ref T), (2, .int (nI nd))] → W p l e (headSpec (ws_ yX6_granting cX6_granting 7 none) (rmL 3 0 0)).room s m ([.ref T] : List Value).toArray below meth c H locs 0 0 (MQ below (Qg G (fun v M1 _ => v = none ∧ TR G T ta (tGranting S) Y M1)) ([.ref T] : List Value).toArray s 0 0 (Af G)) (F0 m 130 ls []) := by
          intro S3 nd M H locs ls hC hnd hW hR hS hl
          refine lv_iconst (v := 0) hx hb dX6_granting_130 (by decide) ?_
          refine lv_istore (lv' := [(4, .int 0), (0, .ref T), (2, .int (nI nd))]) hx hb dX6_granting_131 hl (by decide) rfl (fun ls hl => ?_)
          have hdel := hg.2
          rw [hC] at hdel
          have hE : tGranting S = it tGrC nd S3 := by unfold tGranting; rw [hC]
          have k133 : ∀ (n : Nat) (k : Nat) (S4 : Tw) (M : Mp) (H : Heap) (locs : List Loc) (ls : Array Slot), (k ≤ nd) → (nd < k + n) → (S4 = it tGrC k S3) → (TR G T ta S4 Y M) → Rp G M H → va_S (Af G) s.heap H locs → lv_has ls 7 [(0, .ref T), (2, .int (nI nd)), (4, .int (nI k))] → W p l e (headSpec (ws_ yX6_granting cX6_granting 7 none) (rmL 3 0 0)).room s m ([.ref T] : List Value).toArray below meth c H locs 0 0 (MQ below (Qg G (fun v M1 _ => v = none ∧ TR G T ta (tGranting S) Y M1)) ([.ref T] : List Value).toArray s 0 0 (Af G)) (F0 m 133 ls []) := by
            intro n
            induction n with
            | zero =>
              intro k S4 M H locs ls hk hf hX hW hR hS hl
              exact absurd hf (by omega)
            | succ n ih_k133 =>
              intro k S4 M H locs ls hk hf hX hW hR hS hl
              refine lv_iload hx hb dX6_granting_133 (lv_at hl 2 rfl) ?_
              refine lv_iload_n hx hb dX6_granting_135 rfl (lv_at hl 1 rfl) ?_
              refine lv_icmp_ge (tgt := 156) hx hb dX6_granting_136 (by decide) (fun c_2 => ?_) (fun c_2 => ?_)
              · skip
                have c_2 := (leN (a := nd) (b := k) rfl rfl (by omega) (by omega)).mp c_2
                obtain rfl : k = nd := by omega
                exact W.vret hx hb hr (q_ret (⟨rfl, TR.eq (hE.trans hX.symm) hW⟩) hR hS) hS.2.2 dX6_granting_156
              · skip
                have c_2 := (not_congr (leN (a := nd) (b := k) rfl rfl (by omega) (by omega))).mp c_2
                obtain ⟨hk0, hdk⟩ := hdel k (by omega)
                rw [← hX] at hk0 hdk
                have hk1 := hk0.1
                have hk2 := hk0.2
                refine lv_aload_n hx hb dX6_granting_139 rfl (lv_at hl 0 rfl) ?_
                refine lv_aload_n hx hb dX6_granting_140 rfl (lv_at hl 0 rfl) ?_
                refine va_get (D := G.1) (ci := 10) (v := .ref (ta 20)) (C := RX6) (T := TX6) (N := 33) hx hb hts in_X6 hown hT.1 (hR.one hW.1) 0 rfl rfl 20 (by decide) (hts _ q1052) (fun _ h9 => h9) rfl dX6_granting_141 ?_
                refine lv_iload hx hb dX6_granting_144 (lv_at hl 2 rfl) ?_
                refine r_iald hx hb hT hR (hW.i 20 6 (by decide) (by decide) rfl) (j := k) rfl (by omega) (by decide) dX6_granting_146 ?_
                refine W.eq (g2 := F0 m 147 ls (.int (gI S4 20 k) :: [.ref T])) rfl ?_
                refine W.eq (g2 := F0 m 147 ls [.int (nI (ix (gI S4 20 k))), .ref T]) (congrArg (fun z9 => F0 m 147 ls [.int z9, .ref T]) (hk1)) ?_
                refine g_call (va_runV (As := [.int (nI (ix (gI S4 20 k)))]) (rest := []) ⟨hx, hb, hml, hown, hts⟩ (tm_deliver l G M _ T ta S4 Y hW (ix (gI S4 20 k)) (by omega) hdk) (cwV 1 hts (lw_V q1227 q1229 qs35 q61 q1230) rfl rfl rfl (by decide +kernel) ⟨Nat.le_of_ble_eq_true rfl, Nat.le_of_ble_eq_true rfl⟩) (preV hT hR hS hW.1 rfl rfl) rfl rfl hl.1 rfl (lv_room (Nat.le_of_ble_eq_true rfl)) dX6_granting_147 ⟨Nat.le_of_ble_eq_true rfl, Nat.le_of_ble_eq_true rfl⟩) hS (fun v M H locs hq hR hz hS => ?_)
                obtain ⟨rfl, hW⟩ := hq
                refine W.eq (g2 := F0 m 150 ls []) rfl ?_
                refine lv_iinc (v := nI (k + 1)) (lv' := [(4, .int (nI (k + 1))), (0, .ref T), (2, .int (nI nd))]) hx hb dX6_granting_150 hl (k := 2) rfl (addN rfl rfl) (by decide) rfl (fun ls hl => ?_)
                refine lv_goto (tgt := 133) hx hb dX6_granting_153 (by decide) ?_
                exact ih_k133 (k + 1) (tDeliver S4 (ix (gI S4 20 k))) _ _ _ _ (by omega) (by omega) (it_next hX rfl) hW hR hS (lv_sub hl [1, 2, 0] rfl)
          exact k133 (nd + 1) 0 _ _ _ _ _ (by omega) (by omega) rfl hW hR hS (lv_sub hl [1, 2, 0] rfl)
        refine lv_iconst (v := 0) hx hb dX6_granting_37 (by decide) ?_
        refine lv_istore (lv' := [(4, .int 0), (0, .ref T), (1, .int 5), (2, .int 0), (3, .int (nI (tCnt S)))]) hx hb dX6_granting_38 hl (by decide) rfl (fun ls hl => ?_)
        have k40 : ∀ (n : Nat) (k : Nat) (S2 : Tw) (left : Int32) (nd : Nat) (M : Mp) (H : Heap) (locs : List Loc) (ls : Array Slot), (k ≤ tCnt S) → (tCnt S < k + n) → (tGrB (tCnt S) 0 (it tGrA (tCnt S) S) 5 0 = tGrB (tCnt S - k) k S2 left nd) → (gI S2 20 = gI (it tGrA (tCnt S) S) 20) → (nd ≤ k) → (TR G T ta S2 Y M) → Rp G M H → va_S (Af G) s.heap H locs → lv_has ls 7 [(0, .ref T), (1, .int left), (2, .int (nI nd)), (3, .int (nI (tCnt S))), (4, .int (nI k))] → W p l e (headSpec (ws_ yX6_granting cX6_granting 7 none) (rmL 3 0 0)).room s m ([.ref T] : List Value).toArray below meth c H locs 0 0 (MQ below (Qg G (fun v M1 _ => v = none ∧ TR G T ta (tGranting S) Y M1)) ([.ref T] : List Value).toArray s 0 0 (Af G)) (F0 m 40 ls []) := by
          intro n
          induction n with
          | zero =>
            intro k S2 left nd M H locs ls hk hf hB h20 hnd hW hR hS hl
            exact absurd hf (by omega)
          | succ n ih_k40 =>
            intro k S2 left nd M H locs ls hk hf hB h20 hnd hW hR hS hl
            refine lv_iload hx hb dX6_granting_40 (lv_at hl 4 rfl) ?_
            refine lv_iload_n hx hb dX6_granting_42 rfl (lv_at hl 3 rfl) ?_
            refine lv_icmp_ge (tgt := 130) hx hb dX6_granting_43 (by decide) (fun c_3 => ?_) (fun c_3 => ?_)
            · skip
              have c_3 := (leN (a := tCnt S) (b := k) rfl rfl (by omega) (by omega)).mp c_3
              obtain rfl : k = tCnt S := by omega
              have hB0 : tGrB (tCnt S) 0 (it tGrA (tCnt S) S) 5 0 = (S2, nd) := by rw [hB, Nat.sub_self]; rfl
              exact k130 S2 nd _ _ _ _ hB0 (by omega) hW hR hS (lv_sub hl [0, 2] rfl)
            · skip
              have c_3 := (not_congr (leN (a := tCnt S) (b := k) rfl rfl (by omega) (by omega))).mp c_3
              refine lv_iload_n hx hb dX6_granting_46 rfl (lv_at hl 1 rfl) ?_
              refine lv_if_le (tgt := 130) hx hb dX6_granting_47 (by decide) (fun c_4 => ?_) (fun c_4 => ?_)
              · skip
                exact k130 S2 nd _ _ _ _ (hB.trans ((congrArg (fun z9 => tGrB z9 k S2 left nd) (show tCnt S - k = tCnt S - (k + 1) + 1 by omega)).trans ((if_pos c_4).trans (rfl)))) (by omega) hW hR hS (lv_sub hl [0, 2] rfl)
              · skip
                have hk5 : nb (gI S2 20 k) 5 := by rw [h20]; exact hg.1 k (by omega)
                have hk51 := hk5.1
                have hk52 := hk5.2
                refine lv_aload_n hx hb dX6_granting_50 rfl (lv_at hl 0 rfl) ?_
                refine va_get (D := G.1) (ci := 10) (v := .ref (ta 20)) (C := RX6) (T := TX6) (N := 33) hx hb hts in_X6 hown hT.1 (hR.one hW.1) 0 rfl rfl 20 (by decide) (hts _ q1052) (fun _ h9 => h9) rfl dX6_granting_51 ?_
                refine lv_iload hx hb dX6_granting_54 (lv_at hl 4 rfl) ?_
                refine r_iald hx hb hT hR (hW.i 20 6 (by decide) (by decide) rfl) (j := k) rfl (by omega) (by decide) dX6_granting_56 ?_
                refine W.eq (g2 := F0 m 57 ls (.int (gI S2 20 k) :: [])) rfl ?_
                refine lv_istore (lv' := [(5, .int (gI S2 20 k)), (0, .ref T), (1, .int left), (2, .int (nI nd)), (3, .int (nI (tCnt S))), (4, .int (nI k))]) hx hb dX6_granting_57 hl (by decide) rfl (fun ls hl => ?_)
                refine lv_aload_n hx hb dX6_granting_59 rfl (lv_at hl 1 rfl) ?_
                refine va_get (D := G.1) (ci := 10) (v := .ref (ta 16)) (C := RX6) (T := TX6) (N := 33) hx hb hts in_X6 hown hT.1 (hR.one hW.1) 0 rfl rfl 16 (by decide) (hts _ q1048) (fun _ h9 => h9) rfl dX6_granting_60 ?_
                refine lv_iload hx hb dX6_granting_63 (lv_at hl 0 rfl) ?_
                refine r_iald hx hb hT hR (hW.i 16 6 (by decide) (by decide) rfl) (j := (ix (gI S2 20 k))) hk51 (by omega) (by decide) dX6_granting_65 ?_
                refine W.eq (g2 := F0 m 66 ls (.int (gI S2 16 (ix (gI S2 20 k))) :: [])) rfl ?_
                refine lv_iload_n hx hb dX6_granting_66 rfl (lv_at hl 2 rfl) ?_
                refine lv_icmp_ge (tgt := 80) hx hb dX6_granting_67 (by decide) (fun c_5 => ?_) (fun c_5 => ?_)
                · skip
                  refine lv_iload_n hx hb dX6_granting_80 rfl (lv_at hl 2 rfl) ?_
                  refine W.eq (g2 := F0 m 81 ls [.int (tMin (gI S2 16 (ix (gI S2 20 k))) left)]) (congrArg (fun z9 => F0 m 81 ls [.int z9]) (show tMin (gI S2 16 (ix (gI S2 20 k))) left = left from if_pos c_5).symm) ?_
                  refine lv_istore (lv' := [(6, .int (tMin (gI S2 16 (ix (gI S2 20 k))) left)), (5, .int (gI S2 20 k)), (0, .ref T), (1, .int left), (2, .int (nI nd)), (3, .int (nI (tCnt S))), (4, .int (nI k))]) hx hb dX6_granting_81 hl (by decide) rfl (fun ls hl => ?_)
                  refine lv_aload_n hx hb dX6_granting_83 rfl (lv_at hl 2 rfl) ?_
                  refine va_get (D := G.1) (ci := 10) (v := .ref (ta 16)) (C := RX6) (T := TX6) (N := 33) hx hb hts in_X6 hown hT.1 (hR.one hW.1) 0 rfl rfl 16 (by decide) (hts _ q1048) (fun _ h9 => h9) rfl dX6_granting_84 ?_
                  refine lv_iload hx hb dX6_granting_87 (lv_at hl 1 rfl) ?_
                  refine lv_dup2_11 hx hb dX6_granting_89 rfl rfl ?_
                  refine r_iald hx hb hT hR (hW.i 16 6 (by decide) (by decide) rfl) (j := (ix (gI S2 20 k))) hk51 (by omega) (by decide) dX6_granting_90 ?_
                  refine W.eq (g2 := F0 m 91 ls (.int (gI S2 16 (ix (gI S2 20 k))) :: [.int (gI S2 20 k), .ref (ta 16)])) rfl ?_
                  refine lv_iload hx hb dX6_granting_91 (lv_at hl 0 rfl) ?_
                  refine lv_isub hx hb dX6_granting_93 ?_
                  refine r_iastj hx hb hT hR hS (hW.i 16 6 (by decide) (by decide) rfl) (j := (ix (gI S2 20 k))) hk51 (by omega) (by decide) dX6_granting_94 (fun H locs hz hR hS => ?_)
                  obtain ⟨M, hR, hW⟩ : ∃ M1 : Mp, Rp G M1 H ∧ TR G T ta (sI S2 16 (ix (gI S2 20 k)) ((gI S2 16 (ix (gI S2 20 k))) - (tMin (gI S2 16 (ix (gI S2 20 k))) left))) Y M1 := ⟨_, hR, hW.setI 16 (by decide) (by decide) (ix (gI S2 20 k)) ((gI S2 16 (ix (gI S2 20 k))) - (tMin (gI S2 16 (ix (gI S2 20 k))) left))⟩
                  refine lv_iload_n hx hb dX6_granting_95 rfl (lv_at hl 3 rfl) ?_
                  refine lv_iload hx hb dX6_granting_96 (lv_at hl 0 rfl) ?_
                  refine lv_isub hx hb dX6_granting_98 ?_
                  refine lv_istore_n (lv' := [(1, .int (left - (tMin (gI S2 16 (ix (gI S2 20 k))) left))), (6, .int (tMin (gI S2 16 (ix (gI S2 20 k))) left)), (5, .int (gI S2 20 k)), (0, .ref T), (2, .int (nI nd)), (3, .int (nI (tCnt S))), (4, .int (nI k))]) hx hb dX6_granting_99 rfl hl (by decide) rfl (fun ls hl => ?_)
                  refine lv_aload_n hx hb dX6_granting_100 rfl (lv_at hl 3 rfl) ?_
                  refine lv_dup hx hb dX6_granting_101 rfl ?_
                  refine va_get (D := G.1) (ci := 10) (v := .int (gF S2 30)) (C := RX6) (T := TX6) (N := 33) hx hb hts in_X6 hown hT.1 (hR.one hW.1) 0 rfl rfl 30 (by decide) (hts _ q1062) (fun _ h9 => h9) rfl dX6_granting_102 ?_
                  refine lv_iload hx hb dX6_granting_105 (lv_at hl 1 rfl) ?_
                  refine lv_iadd hx hb dX6_granting_107 ?_
                  refine r_put (ci := 10) (v := .int ((gF S2 30) + (tMin (gI S2 16 (ix (gI S2 20 k))) left))) (ty := .int) (C := RX6) (T := TX6) (N := 33) hx hb hts in_X6 tyX6 tyX6_ok nmX6 hown hT hR hS hW.1 rfl 30 (by decide) (hts _ q1062) (fun _ h9 => h9) rfl (by decide +kernel) rfl rfl (Nat.le_of_ble_eq_true rfl) dX6_granting_108 (fun H locs hz hR hS => ?_)
                  obtain ⟨M, hR, hW⟩ : ∃ M1 : Mp, Rp G M1 H ∧ TR G T ta (sF (sI S2 16 (ix (gI S2 20 k)) ((gI S2 16 (ix (gI S2 20 k))) - (tMin (gI S2 16 (ix (gI S2 20 k))) left))) 30 ((gF S2 30) + (tMin (gI S2 16 (ix (gI S2 20 k))) left))) Y M1 := ⟨_, hR, hW.setF 30 (by decide) (by decide) ((gF S2 30) + (tMin (gI S2 16 (ix (gI S2 20 k))) left))⟩
                  refine lv_aload_n hx hb dX6_granting_111 rfl (lv_at hl 3 rfl) ?_
                  refine va_get (D := G.1) (ci := 10) (v := .ref (ta 16)) (C := RX6) (T := TX6) (N := 33) hx hb hts in_X6 hown hT.1 (hR.one hW.1) 0 rfl rfl 16 (by decide) (hts _ q1048) (fun _ h9 => h9) rfl dX6_granting_112 ?_
                  refine lv_iload hx hb dX6_granting_115 (lv_at hl 2 rfl) ?_
                  refine r_iald hx hb hT hR (hW.i 16 6 (by decide) (by decide) rfl) (j := (ix (gI S2 20 k))) hk51 (by omega) (by decide) dX6_granting_117 ?_
                  refine W.eq (g2 := F0 m 118 ls (.int ((gI S2 16 (ix (gI S2 20 k))) - (tMin (gI S2 16 (ix (gI S2 20 k))) left)) :: [])) (by simp [gI, sI, gD, sD, sF, va_up, upd, vf_upd]) ?_
                  refine lv_if_ne (tgt := 124) hx hb dX6_granting_118 (by decide) (fun c_6 => ?_) (fun c_6 => ?_)
                  · skip
                    refine lv_iinc (v := nI (k + 1)) (lv' := [(4, .int (nI (k + 1))), (1, .int (left - (tMin (gI S2 16 (ix (gI S2 20 k))) left))), (6, .int (tMin (gI S2 16 (ix (gI S2 20 k))) left)), (5, .int (gI S2 20 k)), (0, .ref T), (2, .int (nI nd)), (3, .int (nI (tCnt S)))]) hx hb dX6_granting_124 hl (k := 6) rfl (addN rfl rfl) (by decide) rfl (fun ls hl => ?_)
                    refine lv_goto (tgt := 40) hx hb dX6_granting_127 (by decide) ?_
                    exact ih_k40 (k + 1) (sF (sI S2 16 (ix (gI S2 20 k)) ((gI S2 16 (ix (gI S2 20 k))) - (tMin (gI S2 16 (ix (gI S2 20 k))) left))) 30 ((gF S2 30) + (tMin (gI S2 16 (ix (gI S2 20 k))) left))) (left - (tMin (gI S2 16 (ix (gI S2 20 k))) left)) nd _ _ _ _ (by omega) (by omega) (hB.trans ((congrArg (fun z9 => tGrB z9 k S2 left nd) (show tCnt S - k = tCnt S - (k + 1) + 1 by omega)).trans ((if_neg c_4).trans ((if_neg c_6).trans (rfl))))) h20 (by omega) hW hR hS (lv_sub hl [4, 1, 5, 6, 0] rfl)
                  · skip
                    refine lv_iinc (v := nI (nd + 1)) (lv' := [(2, .int (nI (nd + 1))), (1, .int (left - (tMin (gI S2 16 (ix (gI S2 20 k))) left))), (6, .int (tMin (gI S2 16 (ix (gI S2 20 k))) left)), (5, .int (gI S2 20 k)), (0, .ref T), (3, .int (nI (tCnt S))), (4, .int (nI k))]) hx hb dX6_granting_121 hl (k := 4) rfl (addN rfl rfl) (by decide) rfl (fun ls hl => ?_)
                    refine lv_iinc (v := nI (k + 1)) (lv' := [(4, .int (nI (k + 1))), (2, .int (nI (nd + 1))), (1, .int (left - (tMin (gI S2 16 (ix (gI S2 20 k))) left))), (6, .int (tMin (gI S2 16 (ix (gI S2 20 k))) left)), (5, .int (gI S2 20 k)), (0, .ref T), (3, .int (nI (tCnt S)))]) hx hb dX6_granting_124 hl (k := 6) rfl (addN rfl rfl) (by decide) rfl (fun ls hl => ?_)
                    refine lv_goto (tgt := 40) hx hb dX6_granting_127 (by decide) ?_
                    exact ih_k40 (k + 1) (sF (sI S2 16 (ix (gI S2 20 k)) ((gI S2 16 (ix (gI S2 20 k))) - (tMin (gI S2 16 (ix (gI S2 20 k))) left))) 30 ((gF S2 30) + (tMin (gI S2 16 (ix (gI S2 20 k))) left))) (left - (tMin (gI S2 16 (ix (gI S2 20 k))) left)) (nd + 1) _ _ _ _ (by omega) (by omega) (hB.trans ((congrArg (fun z9 => tGrB z9 k S2 left nd) (show tCnt S - k = tCnt S - (k + 1) + 1 by omega)).trans ((if_neg c_4).trans ((if_pos c_6).trans (rfl))))) h20 (by omega) hW hR hS (lv_sub hl [5, 2, 1, 6, 0] rfl)
                · skip
                  refine lv_aload_n hx hb dX6_granting_70 rfl (lv_at hl 1 rfl) ?_
                  refine va_get (D := G.1) (ci := 10) (v := .ref (ta 16)) (C := RX6) (T := TX6) (N := 33) hx hb hts in_X6 hown hT.1 (hR.one hW.1) 0 rfl rfl 16 (by decide) (hts _ q1048) (fun _ h9 => h9) rfl dX6_granting_71 ?_
                  refine lv_iload hx hb dX6_granting_74 (lv_at hl 0 rfl) ?_
                  refine r_iald hx hb hT hR (hW.i 16 6 (by decide) (by decide) rfl) (j := (ix (gI S2 20 k))) hk51 (by omega) (by decide) dX6_granting_76 ?_
                  refine W.eq (g2 := F0 m 77 ls (.int (gI S2 16 (ix (gI S2 20 k))) :: [])) rfl ?_
                  refine lv_goto (tgt := 81) hx hb dX6_granting_77 (by decide) ?_
                  refine W.eq (g2 := F0 m 81 ls [.int (tMin (gI S2 16 (ix (gI S2 20 k))) left)]) (congrArg (fun z9 => F0 m 81 ls [.int z9]) (show tMin (gI S2 16 (ix (gI S2 20 k))) left = gI S2 16 (ix (gI S2 20 k)) from if_neg c_5).symm) ?_
                  refine lv_istore (lv' := [(6, .int (tMin (gI S2 16 (ix (gI S2 20 k))) left)), (5, .int (gI S2 20 k)), (0, .ref T), (1, .int left), (2, .int (nI nd)), (3, .int (nI (tCnt S))), (4, .int (nI k))]) hx hb dX6_granting_81 hl (by decide) rfl (fun ls hl => ?_)
                  refine lv_aload_n hx hb dX6_granting_83 rfl (lv_at hl 2 rfl) ?_
                  refine va_get (D := G.1) (ci := 10) (v := .ref (ta 16)) (C := RX6) (T := TX6) (N := 33) hx hb hts in_X6 hown hT.1 (hR.one hW.1) 0 rfl rfl 16 (by decide) (hts _ q1048) (fun _ h9 => h9) rfl dX6_granting_84 ?_
                  refine lv_iload hx hb dX6_granting_87 (lv_at hl 1 rfl) ?_
                  refine lv_dup2_11 hx hb dX6_granting_89 rfl rfl ?_
                  refine r_iald hx hb hT hR (hW.i 16 6 (by decide) (by decide) rfl) (j := (ix (gI S2 20 k))) hk51 (by omega) (by decide) dX6_granting_90 ?_
                  refine W.eq (g2 := F0 m 91 ls (.int (gI S2 16 (ix (gI S2 20 k))) :: [.int (gI S2 20 k), .ref (ta 16)])) rfl ?_
                  refine lv_iload hx hb dX6_granting_91 (lv_at hl 0 rfl) ?_
                  refine lv_isub hx hb dX6_granting_93 ?_
                  refine r_iastj hx hb hT hR hS (hW.i 16 6 (by decide) (by decide) rfl) (j := (ix (gI S2 20 k))) hk51 (by omega) (by decide) dX6_granting_94 (fun H locs hz hR hS => ?_)
                  obtain ⟨M, hR, hW⟩ : ∃ M1 : Mp, Rp G M1 H ∧ TR G T ta (sI S2 16 (ix (gI S2 20 k)) ((gI S2 16 (ix (gI S2 20 k))) - (tMin (gI S2 16 (ix (gI S2 20 k))) left))) Y M1 := ⟨_, hR, hW.setI 16 (by decide) (by decide) (ix (gI S2 20 k)) ((gI S2 16 (ix (gI S2 20 k))) - (tMin (gI S2 16 (ix (gI S2 20 k))) left))⟩
                  refine lv_iload_n hx hb dX6_granting_95 rfl (lv_at hl 3 rfl) ?_
                  refine lv_iload hx hb dX6_granting_96 (lv_at hl 0 rfl) ?_
                  refine lv_isub hx hb dX6_granting_98 ?_
                  refine lv_istore_n (lv' := [(1, .int (left - (tMin (gI S2 16 (ix (gI S2 20 k))) left))), (6, .int (tMin (gI S2 16 (ix (gI S2 20 k))) left)), (5, .int (gI S2 20 k)), (0, .ref T), (2, .int (nI nd)), (3, .int (nI (tCnt S))), (4, .int (nI k))]) hx hb dX6_granting_99 rfl hl (by decide) rfl (fun ls hl => ?_)
                  refine lv_aload_n hx hb dX6_granting_100 rfl (lv_at hl 3 rfl) ?_
                  refine lv_dup hx hb dX6_granting_101 rfl ?_
                  refine va_get (D := G.1) (ci := 10) (v := .int (gF S2 30)) (C := RX6) (T := TX6) (N := 33) hx hb hts in_X6 hown hT.1 (hR.one hW.1) 0 rfl rfl 30 (by decide) (hts _ q1062) (fun _ h9 => h9) rfl dX6_granting_102 ?_
                  refine lv_iload hx hb dX6_granting_105 (lv_at hl 1 rfl) ?_
                  refine lv_iadd hx hb dX6_granting_107 ?_
                  refine r_put (ci := 10) (v := .int ((gF S2 30) + (tMin (gI S2 16 (ix (gI S2 20 k))) left))) (ty := .int) (C := RX6) (T := TX6) (N := 33) hx hb hts in_X6 tyX6 tyX6_ok nmX6 hown hT hR hS hW.1 rfl 30 (by decide) (hts _ q1062) (fun _ h9 => h9) rfl (by decide +kernel) rfl rfl (Nat.le_of_ble_eq_true rfl) dX6_granting_108 (fun H locs hz hR hS => ?_)
                  obtain ⟨M, hR, hW⟩ : ∃ M1 : Mp, Rp G M1 H ∧ TR G T ta (sF (sI S2 16 (ix (gI S2 20 k)) ((gI S2 16 (ix (gI S2 20 k))) - (tMin (gI S2 16 (ix (gI S2 20 k))) left))) 30 ((gF S2 30) + (tMin (gI S2 16 (ix (gI S2 20 k))) left))) Y M1 := ⟨_, hR, hW.setF 30 (by decide) (by decide) ((gF S2 30) + (tMin (gI S2 16 (ix (gI S2 20 k))) left))⟩
                  refine lv_aload_n hx hb dX6_granting_111 rfl (lv_at hl 3 rfl) ?_
                  refine va_get (D := G.1) (ci := 10) (v := .ref (ta 16)) (C := RX6) (T := TX6) (N := 33) hx hb hts in_X6 hown hT.1 (hR.one hW.1) 0 rfl rfl 16 (by decide) (hts _ q1048) (fun _ h9 => h9) rfl dX6_granting_112 ?_
                  refine lv_iload hx hb dX6_granting_115 (lv_at hl 2 rfl) ?_
                  refine r_iald hx hb hT hR (hW.i 16 6 (by decide) (by decide) rfl) (j := (ix (gI S2 20 k))) hk51 (by omega) (by decide) dX6_granting_117 ?_
                  refine W.eq (g2 := F0 m 118 ls (.int ((gI S2 16 (ix (gI S2 20 k))) - (tMin (gI S2 16 (ix (gI S2 20 k))) left)) :: [])) (by simp [gI, sI, gD, sD, sF, va_up, upd, vf_upd]) ?_
                  refine lv_if_ne (tgt := 124) hx hb dX6_granting_118 (by decide) (fun c_7 => ?_) (fun c_7 => ?_)
                  · skip
                    refine lv_iinc (v := nI (k + 1)) (lv' := [(4, .int (nI (k + 1))), (1, .int (left - (tMin (gI S2 16 (ix (gI S2 20 k))) left))), (6, .int (tMin (gI S2 16 (ix (gI S2 20 k))) left)), (5, .int (gI S2 20 k)), (0, .ref T), (2, .int (nI nd)), (3, .int (nI (tCnt S)))]) hx hb dX6_granting_124 hl (k := 6) rfl (addN rfl rfl) (by decide) rfl (fun ls hl => ?_)
                    refine lv_goto (tgt := 40) hx hb dX6_granting_127 (by decide) ?_
                    exact ih_k40 (k + 1) (sF (sI S2 16 (ix (gI S2 20 k)) ((gI S2 16 (ix (gI S2 20 k))) - (tMin (gI S2 16 (ix (gI S2 20 k))) left))) 30 ((gF S2 30) + (tMin (gI S2 16 (ix (gI S2 20 k))) left))) (left - (tMin (gI S2 16 (ix (gI S2 20 k))) left)) nd _ _ _ _ (by omega) (by omega) (hB.trans ((congrArg (fun z9 => tGrB z9 k S2 left nd) (show tCnt S - k = tCnt S - (k + 1) + 1 by omega)).trans ((if_neg c_4).trans ((if_neg c_7).trans (rfl))))) h20 (by omega) hW hR hS (lv_sub hl [4, 1, 5, 6, 0] rfl)
                  · skip
                    refine lv_iinc (v := nI (nd + 1)) (lv' := [(2, .int (nI (nd + 1))), (1, .int (left - (tMin (gI S2 16 (ix (gI S2 20 k))) left))), (6, .int (tMin (gI S2 16 (ix (gI S2 20 k))) left)), (5, .int (gI S2 20 k)), (0, .ref T), (3, .int (nI (tCnt S))), (4, .int (nI k))]) hx hb dX6_granting_121 hl (k := 4) rfl (addN rfl rfl) (by decide) rfl (fun ls hl => ?_)
                    refine lv_iinc (v := nI (k + 1)) (lv' := [(4, .int (nI (k + 1))), (2, .int (nI (nd + 1))), (1, .int (left - (tMin (gI S2 16 (ix (gI S2 20 k))) left))), (6, .int (tMin (gI S2 16 (ix (gI S2 20 k))) left)), (5, .int (gI S2 20 k)), (0, .ref T), (3, .int (nI (tCnt S)))]) hx hb dX6_granting_124 hl (k := 6) rfl (addN rfl rfl) (by decide) rfl (fun ls hl => ?_)
                    refine lv_goto (tgt := 40) hx hb dX6_granting_127 (by decide) ?_
                    exact ih_k40 (k + 1) (sF (sI S2 16 (ix (gI S2 20 k)) ((gI S2 16 (ix (gI S2 20 k))) - (tMin (gI S2 16 (ix (gI S2 20 k))) left))) 30 ((gF S2 30) + (tMin (gI S2 16 (ix (gI S2 20 k))) left))) (left - (tMin (gI S2 16 (ix (gI S2 20 k))) left)) (nd + 1) _ _ _ _ (by omega) (by omega) (hB.trans ((congrArg (fun z9 => tGrB z9 k S2 left nd) (show tCnt S - k = tCnt S - (k + 1) + 1 by omega)).trans ((if_neg c_4).trans ((if_pos c_7).trans (rfl))))) h20 (by omega) hW hR hS (lv_sub hl [5, 2, 1, 6, 0] rfl)
        exact k40 (tCnt S + 1) 0 _ 5 0 _ _ _ _ (by omega) (by omega) rfl rfl (Nat.le_refl 0) hW hR hS (lv_sub hl [1, 2, 3, 4, 0] rfl)
      · skip
        have c_1 := (not_congr (leN (a := tCnt S) (b := k) rfl rfl (by omega) (by omega))).mp c_1
        refine lv_aload_n hx hb dX6_granting_18 rfl (lv_at hl 0 rfl) ?_
        refine va_get (D := G.1) (ci := 10) (v := .ref (ta 20)) (C := RX6) (T := TX6) (N := 33) hx hb hts in_X6 hown hT.1 (hR.one hW.1) 0 rfl rfl 20 (by decide) (hts _ q1052) (fun _ h9 => h9) rfl dX6_granting_19 ?_
        refine lv_iload hx hb dX6_granting_22 (lv_at hl 4 rfl) ?_
        refine lv_aload_n hx hb dX6_granting_24 rfl (lv_at hl 0 rfl) ?_
        refine lv_iload hx hb dX6_granting_25 (lv_at hl 4 rfl) ?_
        refine g_pure (va_runV (As := [.int (nI k)]) (rest := [.int (nI k), .ref (ta 20)]) ⟨hx, hb, hml, hown, hts⟩ (tm_request l G M _ T ta S1 Y hW (nI k)) (cwV 1 hts (lw_V q1219 q1221 qs33 q61 q1222) rfl rfl rfl (by decide +kernel) ⟨Nat.le_of_ble_eq_true rfl, Nat.le_of_ble_eq_true rfl⟩) (preV hT hR hS hW.1 rfl rfl) rfl rfl hl.1 rfl (lv_room (Nat.le_of_ble_eq_true rfl)) dX6_granting_27 ⟨Nat.le_of_ble_eq_true rfl, Nat.le_of_ble_eq_true rfl⟩) ?_
        refine W.eq (g2 := F0 m 30 ls [.int (tReq S1 (nI k)), .int (nI k), .ref (ta 20)]) rfl ?_
        refine r_iastj hx hb hT hR hS (hW.i 20 6 (by decide) (by decide) rfl) (j := k) rfl (by omega) (by decide) dX6_granting_30 (fun H locs hz hR hS => ?_)
        obtain ⟨M, hR, hW⟩ : ∃ M1 : Mp, Rp G M1 H ∧ TR G T ta (sI S1 20 k (tReq S1 (nI k))) Y M1 := ⟨_, hR, hW.setI 20 (by decide) (by decide) k (tReq S1 (nI k))⟩
        refine lv_iinc (v := nI (k + 1)) (lv' := [(4, .int (nI (k + 1))), (0, .ref T), (1, .int 5), (2, .int 0), (3, .int (nI (tCnt S)))]) hx hb dX6_granting_31 hl (k := 4) rfl (addN rfl rfl) (by decide) rfl (fun ls hl => ?_)
        refine lv_goto (tgt := 12) hx hb dX6_granting_34 (by decide) ?_
        exact ih_k12 (k + 1) (sI S1 20 k (tReq S1 (nI k))) _ _ _ _ (by omega) (by omega) (it_next hX rfl) hW hR hS (lv_sub hl [1, 2, 3, 4, 0] rfl)
  exact k12 (tCnt S + 1) 0 S _ _ _ _ (by omega) (by omega) rfl hW hR hS (lv_sub hl [4, 3, 2, 1, 0] rfl)
