set_option maxHeartbeats 4000000 in
set_option maxRecDepth 100000 in
theorem tm_round (l : Launch) (G : Gw) (M : Mp) (sz : Nat) (T : Nat) (ta : Nat → Nat) (S : Tw) (Y : Mp) (hW : TR G T ta S Y M) (rn : Int32) (hro : ∀ i, i < ix rn → rndOK (it tRnd i (sF S 32 0))) : Ct l yX6_round cX6_round 7 (some .int) 4 0 0 [.ref T, .int rn] G M sz (fun v M1 _ => v = some (.int (gF (tRound S rn) 29 - gF S 29)) ∧ TR G T ta (tRound S rn) Y M1) := by
  refine Met.ofW (cc := cX6_round) (maxL := 7) (ret := (some .int)) (by decide) rfl ?_
  intro p e s m args below meth c s₁ B hml hv
  obtain ⟨rfl, hT, hR, hsz⟩ := hv
  have hx := B.exec
  have hb := B.bytes
  have hr := B.returns
  have hts := atoms_spec (ws := ws_ yX6_round cX6_round 7 (some .int)) B.pre
  have hts : ∀ w ∈ lw_all, w.before _ s = true := fun w h => hts w (List.mem_cons_of_mem _ h)
  have hown : s.vm.findClass RX6 = some m.cls := findClass_of_methodNamed B.named
  have hlocks := B.notSynchronized
  have hS : va_S (Af G) s.heap s.heap [] := va_S.rf
  have hl := lv_entry ([.ref T, .int rn]) (n := 7) (Nat.le_of_ble_eq_true rfl)
  rw [lg_entry_eq]
  generalize (lg_sl ([.ref T, .int rn]) ++ List.replicate (7 - (lg_sl ([.ref T, .int rn])).length) Slot.unset).toArray = ls at hl ⊢
  have hl : lv_has ls 7 [(0, .ref T), (1, .int rn)] := hl
  refine lv_aload_n hx hb dX6_round_0 rfl (lv_at hl 0 rfl) ?_
  refine lv_iload_n hx hb dX6_round_1 rfl (lv_at hl 1 rfl) ?_
  refine lv_iconst (v := 1) hx hb dX6_round_2 (by decide) ?_
  refine lv_icmp_lt (tgt := 12) hx hb dX6_round_3 (by decide) (fun c_1 => ?_) (fun c_1 => ?_)
  · skip
    refine lv_iconst (v := 1) hx hb dX6_round_12 (by decide) ?_
    refine lv_goto (tgt := 17) hx hb dX6_round_13 (by decide) ?_
    refine r_put (ci := 10) (v := .int 1) (ty := .int) (C := RX6) (T := TX6) (N := 33) hx hb hts in_X6 tyX6 tyX6_ok nmX6 hown hT hR hS hW.1 rfl 32 (by decide) (hts _ q1064) (fun _ h9 => h9) rfl (by decide +kernel) rfl rfl (Nat.le_of_ble_eq_true rfl) dX6_round_17 (fun H locs hz hR hS => ?_)
    obtain ⟨M, hR, hW⟩ : ∃ M1 : Mp, Rp G M1 H ∧ TR G T ta (sF S 32 1) Y M1 := ⟨_, hR, hW.setF 32 (by decide) (by decide) 1⟩
    refine lv_aload_n hx hb dX6_round_20 rfl (lv_at hl 0 rfl) ?_
    refine va_get (D := G.1) (ci := 10) (v := .int (gF S 29)) (C := RX6) (T := TX6) (N := 33) hx hb hts in_X6 hown hT.1 (hR.one hW.1) 0 rfl rfl 29 (by decide) (hts _ q1061) (fun _ h9 => h9) rfl dX6_round_21 ?_
    refine lv_istore_n (lv' := [(2, .int (gF S 29)), (0, .ref T), (1, .int rn)]) hx hb dX6_round_24 rfl hl (by decide) rfl (fun ls hl => ?_)
    refine lv_iconst (v := 0) hx hb dX6_round_25 (by decide) ?_
    refine lv_istore_n (lv' := [(3, .int 0), (2, .int (gF S 29)), (0, .ref T), (1, .int rn)]) hx hb dX6_round_26 rfl hl (by decide) rfl (fun ls hl => ?_)
    refine lv_iload_n hx hb dX6_round_27 rfl (lv_at hl 0 rfl) ?_
    refine lv_iload_n hx hb dX6_round_28 rfl (lv_at hl 3 rfl) ?_
    refine lv_icmp_ge (tgt := 137) hx hb dX6_round_29 (by decide) (fun c_2 => ?_) (fun c_2 => ?_)
    · skip
      refine lv_aload_n hx hb dX6_round_137 rfl (lv_at hl 2 rfl) ?_
      refine va_get (D := G.1) (ci := 10) (v := .int (gF S 29)) (C := RX6) (T := TX6) (N := 33) hx hb hts in_X6 hown hT.1 (hR.one hW.1) 0 rfl rfl 29 (by decide) (hts _ q1061) (fun _ h9 => h9) rfl dX6_round_138 ?_
      refine lv_iload_n hx hb dX6_round_141 rfl (lv_at hl 1 rfl) ?_
      refine lv_isub hx hb dX6_round_142 ?_
      exact W.iret hx hb hr (q_ret (⟨(show some (Value.int (gF (sF S 32 1) 29 - gF S 29)) = some (Value.int (gF (tRound S rn) 29 - gF S 29)) from congrArg (fun z9 => some (Value.int (gF z9 29 - gF S 29))) (show sF S 32 1 = tRound S rn from Eq.symm ((if_pos c_1).trans (rfl)))), TR.eq ((if_pos c_1).trans (rfl)) hW⟩) hR hS) hS.2.2 dX6_round_143
    · skip
      refine lv_aload_n hx hb dX6_round_32 rfl (lv_at hl 2 rfl) ?_
      refine va_get (D := G.1) (ci := 10) (v := .int 1) (C := RX6) (T := TX6) (N := 33) hx hb hts in_X6 hown hT.1 (hR.one hW.1) 0 rfl rfl 32 (by decide) (hts _ q1064) (fun _ h9 => h9) rfl dX6_round_33 ?_
      refine lv_if_ne (tgt := 137) hx hb dX6_round_36 (by decide) (fun c_3 => ?_) (fun c_3 => ?_)
      · skip
        refine lv_aload_n hx hb dX6_round_137 rfl (lv_at hl 2 rfl) ?_
        refine va_get (D := G.1) (ci := 10) (v := .int (gF S 29)) (C := RX6) (T := TX6) (N := 33) hx hb hts in_X6 hown hT.1 (hR.one hW.1) 0 rfl rfl 29 (by decide) (hts _ q1061) (fun _ h9 => h9) rfl dX6_round_138 ?_
        refine lv_iload_n hx hb dX6_round_141 rfl (lv_at hl 1 rfl) ?_
        refine lv_isub hx hb dX6_round_142 ?_
        exact W.iret hx hb hr (q_ret (⟨(show some (Value.int (gF (sF S 32 1) 29 - gF S 29)) = some (Value.int (gF (tRound S rn) 29 - gF S 29)) from congrArg (fun z9 => some (Value.int (gF z9 29 - gF S 29))) (show sF S 32 1 = tRound S rn from Eq.symm ((if_pos c_1).trans (rfl)))), TR.eq ((if_pos c_1).trans (rfl)) hW⟩) hR hS) hS.2.2 dX6_round_143
      · skip
        exact absurd c_3 (by decide)
  · skip
    refine lv_iload_n hx hb dX6_round_6 rfl (lv_at hl 1 rfl) ?_
    refine lv_bipush (v := 50) hx hb dX6_round_7 (by decide) ?_
    refine lv_icmp_le (tgt := 16) hx hb dX6_round_9 (by decide) (fun c_4 => ?_) (fun c_4 => ?_)
    · skip
      have hn0 : nb rn 50 := outP_nb 50 (by decide) (fun h => h.elim (fun h => absurd (Int32.lt_trans h (by decide)) c_1) (fun h => h c_4))
      have hn1 := hn0.1
      have hn2 := hn0.2
      refine lv_iconst (v := 0) hx hb dX6_round_16 (by decide) ?_
      refine r_put (ci := 10) (v := .int 0) (ty := .int) (C := RX6) (T := TX6) (N := 33) hx hb hts in_X6 tyX6 tyX6_ok nmX6 hown hT hR hS hW.1 rfl 32 (by decide) (hts _ q1064) (fun _ h9 => h9) rfl (by decide +kernel) rfl rfl (Nat.le_of_ble_eq_true rfl) dX6_round_17 (fun H locs hz hR hS => ?_)
      obtain ⟨M, hR, hW⟩ : ∃ M1 : Mp, Rp G M1 H ∧ TR G T ta (sF S 32 0) Y M1 := ⟨_, hR, hW.setF 32 (by decide) (by decide) 0⟩
      refine lv_aload_n hx hb dX6_round_20 rfl (lv_at hl 0 rfl) ?_
      refine va_get (D := G.1) (ci := 10) (v := .int (gF S 29)) (C := RX6) (T := TX6) (N := 33) hx hb hts in_X6 hown hT.1 (hR.one hW.1) 0 rfl rfl 29 (by decide) (hts _ q1061) (fun _ h9 => h9) rfl dX6_round_21 ?_
      refine lv_istore_n (lv' := [(2, .int (gF S 29)), (0, .ref T), (1, .int rn)]) hx hb dX6_round_24 rfl hl (by decide) rfl (fun ls hl => ?_)
      refine lv_iconst (v := 0) hx hb dX6_round_25 (by decide) ?_
      refine lv_istore_n (lv' := [(3, .int 0), (2, .int (gF S 29)), (0, .ref T), (1, .int rn)]) hx hb dX6_round_26 rfl hl (by decide) rfl (fun ls hl => ?_)
      have hE : tRound S rn = it tRnd (ix rn) (sF S 32 0) := (if_neg c_1).trans ((if_pos c_4).trans (rfl))
      have k27 : ∀ (n : Nat) (i : Nat) (S1 : Tw) (M : Mp) (H : Heap) (locs : List Loc) (ls : Array Slot), (i ≤ ix rn) → (ix rn < i + n) → (S1 = it tRnd i (sF S 32 0)) → (gF S1 32 = 0) → (TR G T ta S1 Y M) → Rp G M H → va_S (Af G) s.heap H locs → lv_has ls 7 [(0, .ref T), (1, .int rn), (2, .int (gF S 29)), (3, .int (nI i))] → W p l e (headSpec (ws_ yX6_round cX6_round 7 (some .int)) (rmL 4 0 0)).room s m ([.ref T, .int rn] : List Value).toArray below meth c H locs 0 0 (MQ below (Qg G (fun v M1 _ => v = some (.int (gF (tRound S rn) 29 - gF S 29)) ∧ TR G T ta (tRound S rn) Y M1)) ([.ref T, .int rn] : List Value).toArray s 0 0 (Af G)) (F0 m 27 ls []) := by
        intro n
        induction n with
        | zero =>
          intro i S1 M H locs ls hi hf hX hth hW hR hS hl
          exact absurd hf (by omega)
        | succ n ih_k27 =>
          intro i S1 M H locs ls hi hf hX hth hW hR hS hl
          refine lv_iload_n hx hb dX6_round_27 rfl (lv_at hl 3 rfl) ?_
          refine lv_iload_n hx hb dX6_round_28 rfl (lv_at hl 1 rfl) ?_
          refine lv_icmp_ge (tgt := 137) hx hb dX6_round_29 (by decide) (fun c_5 => ?_) (fun c_5 => ?_)
          · skip
            have c_5 := (leN (a := ix rn) (b := i) hn1 rfl (by omega) (by omega)).mp c_5
            obtain rfl : i = ix rn := by omega
            refine lv_aload_n hx hb dX6_round_137 rfl (lv_at hl 0 rfl) ?_
            refine va_get (D := G.1) (ci := 10) (v := .int (gF S1 29)) (C := RX6) (T := TX6) (N := 33) hx hb hts in_X6 hown hT.1 (hR.one hW.1) 0 rfl rfl 29 (by decide) (hts _ q1061) (fun _ h9 => h9) rfl dX6_round_138 ?_
            refine lv_iload_n hx hb dX6_round_141 rfl (lv_at hl 2 rfl) ?_
            refine lv_isub hx hb dX6_round_142 ?_
            exact W.iret hx hb hr (q_ret (⟨(show some (Value.int (gF (S1) 29 - gF S 29)) = some (Value.int (gF (tRound S rn) 29 - gF S 29)) from congrArg (fun z9 => some (Value.int (gF z9 29 - gF S 29))) (show S1 = tRound S rn from Eq.symm (hE.trans hX.symm))), TR.eq (hE.trans hX.symm) hW⟩) hR hS) hS.2.2 dX6_round_143
          · skip
            have c_5 := (not_congr (leN (a := ix rn) (b := i) hn1 rfl (by omega) (by omega))).mp c_5
            have hrd := hro i (by omega)
            rw [← hX] at hrd
            refine lv_aload_n hx hb dX6_round_32 rfl (lv_at hl 0 rfl) ?_
            refine va_get (D := G.1) (ci := 10) (v := .int (gF S1 32)) (C := RX6) (T := TX6) (N := 33) hx hb hts in_X6 hown hT.1 (hR.one hW.1) 0 rfl rfl 32 (by decide) (hts _ q1064) (fun _ h9 => h9) rfl dX6_round_33 ?_
            refine lv_if_ne (tgt := 137) hx hb dX6_round_36 (by decide) (fun c_6 => ?_) (fun c_6 => ?_)
            · skip
              exact absurd hth c_6
            · skip
              refine lv_aload_n hx hb dX6_round_39 rfl (lv_at hl 0 rfl) ?_
              refine lv_dup hx hb dX6_round_40 rfl ?_
              refine va_get (D := G.1) (ci := 10) (v := .int (gF S1 25)) (C := RX6) (T := TX6) (N := 33) hx hb hts in_X6 hown hT.1 (hR.one hW.1) 0 rfl rfl 25 (by decide) (hts _ q1057) (fun _ h9 => h9) rfl dX6_round_41 ?_
              refine lv_iconst (v := 1) hx hb dX6_round_44 (by decide) ?_
              refine lv_iadd hx hb dX6_round_45 ?_
              refine r_put (ci := 10) (v := .int ((gF S1 25) + 1)) (ty := .int) (C := RX6) (T := TX6) (N := 33) hx hb hts in_X6 tyX6 tyX6_ok nmX6 hown hT hR hS hW.1 rfl 25 (by decide) (hts _ q1057) (fun _ h9 => h9) rfl (by decide +kernel) rfl rfl (Nat.le_of_ble_eq_true rfl) dX6_round_46 (fun H locs hz hR hS => ?_)
              obtain ⟨M, hR, hW⟩ : ∃ M1 : Mp, Rp G M1 H ∧ TR G T ta (sF S1 25 ((gF S1 25) + 1)) Y M1 := ⟨_, hR, hW.setF 25 (by decide) (by decide) ((gF S1 25) + 1)⟩
              refine lv_iconst (v := 0) hx hb dX6_round_49 (by decide) ?_
              refine lv_istore (lv' := [(4, .int 0), (0, .ref T), (1, .int rn), (2, .int (gF S 29)), (3, .int (nI i))]) hx hb dX6_round_50 hl (by decide) rfl (fun ls hl => ?_)
              have k52 : ∀ (n : Nat) (f : Nat) (S2 : Tw) (M : Mp) (H : Heap) (locs : List Loc) (ls : Array Slot), (f ≤ 12) → (12 < f + n) → (S2 = it tEarn1 f (rnd0 S1)) → (TR G T ta S2 Y M) → Rp G M H → va_S (Af G) s.heap H locs → lv_has ls 7 [(0, .ref T), (1, .int rn), (2, .int (gF S 29)), (3, .int (nI i)), (4, .int (nI f))] → W p l e (headSpec (ws_ yX6_round cX6_round 7 (some .int)) (rmL 4 0 0)).room s m ([.ref T, .int rn] : List Value).toArray below meth c H locs 0 0 (MQ below (Qg G (fun v M1 _ => v = some (.int (gF (tRound S rn) 29 - gF S 29)) ∧ TR G T ta (tRound S rn) Y M1)) ([.ref T, .int rn] : List Value).toArray s 0 0 (Af G)) (F0 m 52 ls []) := by
                intro n
                induction n with
                | zero =>
                  intro f S2 M H locs ls hi2 hf hX2 hW hR hS hl
                  exact absurd hf (by omega)
                | succ n ih_k52 =>
                  intro f S2 M H locs ls hi2 hf hX2 hW hR hS hl
                  refine lv_iload hx hb dX6_round_52 (lv_at hl 4 rfl) ?_
                  refine lv_bipush (v := 12) hx hb dX6_round_54 (by decide) ?_
                  refine lv_icmp_ge (tgt := 119) hx hb dX6_round_56 (by decide) (fun c_7 => ?_) (fun c_7 => ?_)
                  · skip
                    have c_7 := (leN (a := 12) (b := f) rfl rfl (by omega) (by omega)).mp c_7
                    obtain rfl : f = 12 := by omega
                    have hW : TR G T ta (rnd1 S1) Y M := TR.eq (show rnd1 S1 = S2 from hX2.symm) hW
                    have hq1 := hrd.2.1
                    have hq2 := hrd.2.2.1
                    have hq3 := hrd.2.2.2
                    have hl : lv_has ls 7 [(0, .ref T), (1, .int rn), (2, .int (gF S 29)), (3, .int (nI i))] := lv_sub hl [0, 1, 2, 3] rfl
                    refine lv_aload_n hx hb dX6_round_119 rfl (lv_at hl 0 rfl) ?_
                    refine g_call (va_runV (As := []) (rest := []) ⟨hx, hb, hml, hown, hts⟩ (tm_seeking l G M _ T ta (rnd1 S1) Y hW hq1) (cwV 0 hts (lw_V q1167 q1169 qs21 q61 q1170) rfl rfl rfl (by decide +kernel) ⟨Nat.le_of_ble_eq_true rfl, Nat.le_of_ble_eq_true rfl⟩) (preV hT hR hS hW.1 rfl rfl) rfl rfl hl.1 rfl (lv_room (Nat.le_of_ble_eq_true rfl)) dX6_round_120 ⟨Nat.le_of_ble_eq_true rfl, Nat.le_of_ble_eq_true rfl⟩) hS (fun v M H locs hq hR hz hS => ?_)
                    obtain ⟨rfl, hW⟩ := hq
                    refine W.eq (g2 := F0 m 123 ls []) rfl ?_
                    refine lv_aload_n hx hb dX6_round_123 rfl (lv_at hl 0 rfl) ?_
                    refine g_call (va_runV (As := []) (rest := []) ⟨hx, hb, hml, hown, hts⟩ (tm_asking l G M _ T ta (tSeeking (rnd1 S1)) Y hW hq2) (cwV 0 hts (lw_V q1199 q1201 qs28 q61 q1202) rfl rfl rfl (by decide +kernel) ⟨Nat.le_of_ble_eq_true rfl, Nat.le_of_ble_eq_true rfl⟩) (preV hT hR hS hW.1 rfl rfl) rfl rfl hl.1 rfl (lv_room (Nat.le_of_ble_eq_true rfl)) dX6_round_124 ⟨Nat.le_of_ble_eq_true rfl, Nat.le_of_ble_eq_true rfl⟩) hS (fun v M H locs hq hR hz hS => ?_)
                    obtain ⟨rfl, hW⟩ := hq
                    refine W.eq (g2 := F0 m 127 ls []) rfl ?_
                    refine lv_aload_n hx hb dX6_round_127 rfl (lv_at hl 0 rfl) ?_
                    refine g_call (va_runV (As := []) (rest := []) ⟨hx, hb, hml, hown, hts⟩ (tm_granting l G M _ T ta (tAsking (tSeeking (rnd1 S1))) Y hW hq3) (cwV 0 hts (lw_V q1211 q1213 qs31 q61 q1214) rfl rfl rfl (by decide +kernel) ⟨Nat.le_of_ble_eq_true rfl, Nat.le_of_ble_eq_true rfl⟩) (preV hT hR hS hW.1 rfl rfl) rfl rfl hl.1 rfl (lv_room (Nat.le_of_ble_eq_true rfl)) dX6_round_128 ⟨Nat.le_of_ble_eq_true rfl, Nat.le_of_ble_eq_true rfl⟩) hS (fun v M H locs hq hR hz hS => ?_)
                    obtain ⟨rfl, hW⟩ := hq
                    refine W.eq (g2 := F0 m 131 ls []) rfl ?_
                    refine lv_iinc (v := nI (i + 1)) (lv' := [(3, .int (nI (i + 1))), (0, .ref T), (1, .int rn), (2, .int (gF S 29))]) hx hb dX6_round_131 hl (k := 3) rfl (addN rfl rfl) (by decide) rfl (fun ls hl => ?_)
                    refine lv_goto (tgt := 27) hx hb dX6_round_134 (by decide) ?_
                    exact ih_k27 (i + 1) (tGranting (tAsking (tSeeking (rnd1 S1)))) _ _ _ _ (by omega) (by omega) (it_next hX rfl) ((th_rnd i S1).trans hth) hW hR hS (lv_sub hl [1, 2, 3, 0] rfl)
                  · skip
                    have c_7 := (not_congr (leN (a := 12) (b := f) rfl rfl (by omega) (by omega))).mp c_7
                    refine lv_aload_n hx hb dX6_round_59 rfl (lv_at hl 0 rfl) ?_
                    refine va_get (D := G.1) (ci := 10) (v := .ref (ta 5)) (C := RX6) (T := TX6) (N := 33) hx hb hts in_X6 hown hT.1 (hR.one hW.1) 0 rfl rfl 5 (by decide) (hts _ q1037) (fun _ h9 => h9) rfl dX6_round_60 ?_
                    refine lv_iload hx hb dX6_round_63 (lv_at hl 4 rfl) ?_
                    refine r_dald hx hb hT hR (hW.d 5 12 (by decide) rfl) (j := f) rfl (by omega) (by decide) dX6_round_65 ?_
                    refine W.eq (g2 := F0 m 66 ls (.double (gD S2 5 f) :: [])) rfl ?_
                    refine lv_aload_n hx hb dX6_round_66 rfl (lv_at hl 0 rfl) ?_
                    refine va_get (D := G.1) (ci := 10) (v := .ref (ta 4)) (C := RX6) (T := TX6) (N := 33) hx hb hts in_X6 hown hT.1 (hR.one hW.1) 0 rfl rfl 4 (by decide) (hts _ q1036) (fun _ h9 => h9) rfl dX6_round_67 ?_
                    refine lv_iload hx hb dX6_round_70 (lv_at hl 4 rfl) ?_
                    refine r_dald hx hb hT hR (hW.d 4 12 (by decide) rfl) (j := f) rfl (by omega) (by decide) dX6_round_72 ?_
                    refine W.eq (g2 := F0 m 73 ls (.double (gD S2 4 f) :: [.double (gD S2 5 f)])) rfl ?_
                    refine lv_dadd hx hb dX6_round_73 (by rw [hX2]; exact hrd.1 f (by omega)) ?_
                    refine lv_dstore (lv' := [(5, .double (FP.dadd (gD S2 5 f) (gD S2 4 f))), (0, .ref T), (1, .int rn), (2, .int (gF S 29)), (3, .int (nI i)), (4, .int (nI f))]) hx hb dX6_round_74 hl (by decide) rfl (fun ls hl => ?_)
                    refine lv_aload_n hx hb dX6_round_76 rfl (lv_at hl 1 rfl) ?_
                    refine va_get (D := G.1) (ci := 10) (v := .ref (ta 6)) (C := RX6) (T := TX6) (N := 33) hx hb hts in_X6 hown hT.1 (hR.one hW.1) 0 rfl rfl 6 (by decide) (hts _ q1038) (fun _ h9 => h9) rfl dX6_round_77 ?_
                    refine lv_iload hx hb dX6_round_80 (lv_at hl 5 rfl) ?_
                    refine lv_iconst (v := 2) hx hb dX6_round_82 (by decide) ?_
                    refine lv_idiv hx hb dX6_round_83 (by decide) ?_
                    refine W.eq (g2 := F0 m 84 ls (.int (nI (f / 2)) :: [.ref (ta 6)])) (congrArg (fun z => F0 m 84 ls (.int z :: [.ref (ta 6)])) (divN rfl rfl (by omega) (by decide) (by decide))) ?_
                    refine r_iald hx hb hT hR (hW.i 6 6 (by decide) (by decide) rfl) (j := (f / 2)) rfl (by omega) (by decide) dX6_round_84 ?_
                    refine W.eq (g2 := F0 m 85 ls (.int (gI S2 6 (f / 2)) :: [])) rfl ?_
                    refine lv_iconst (v := 2) hx hb dX6_round_85 (by decide) ?_
                    refine lv_icmp_ne (tgt := 113) hx hb dX6_round_86 (by decide) (fun c_8 => ?_) (fun c_8 => ?_)
                    · skip
                      refine lv_iinc (v := nI (f + 1)) (lv' := [(4, .int (nI (f + 1))), (5, .double (FP.dadd (gD S2 5 f) (gD S2 4 f))), (0, .ref T), (1, .int rn), (2, .int (gF S 29)), (3, .int (nI i))]) hx hb dX6_round_113 hl (k := 5) rfl (addN rfl rfl) (by decide) rfl (fun ls hl => ?_)
                      refine lv_goto (tgt := 52) hx hb dX6_round_116 (by decide) ?_
                      exact ih_k52 (f + 1) S2 _ _ _ _ (by omega) (by omega) (it_next hX2 ((if_neg c_8).trans (rfl))) hW hR hS (lv_sub hl [2, 3, 4, 5, 0] rfl)
                    · skip
                      refine lv_aload_n hx hb dX6_round_89 rfl (lv_at hl 1 rfl) ?_
                      refine va_get (D := G.1) (ci := 10) (v := .ref (ta 5)) (C := RX6) (T := TX6) (N := 33) hx hb hts in_X6 hown hT.1 (hR.one hW.1) 0 rfl rfl 5 (by decide) (hts _ q1037) (fun _ h9 => h9) rfl dX6_round_90 ?_
                      refine lv_iload hx hb dX6_round_93 (lv_at hl 5 rfl) ?_
                      refine lv_dload hx hb dX6_round_95 (lv_at hl 0 rfl) ?_
                      refine lv_ldc2d (v := c8) hx hb hown (hts _ q1158) dX6_round_97 ?_
                      refine lv_dcmp hx hb dX6_round_100 ?_
                      refine lv_if_le (tgt := 110) hx hb dX6_round_101 (by decide) (fun c_9 => ?_) (fun c_9 => ?_)
                      · skip
                        refine lv_dload hx hb dX6_round_110 (lv_at hl 0 rfl) ?_
                        refine r_dastj hx hb hT hR hS (hW.d 5 12 (by decide) rfl) (j := f) rfl (by omega) (by decide) dX6_round_112 (fun H locs hz hR hS => ?_)
                        obtain ⟨M, hR, hW⟩ : ∃ M1 : Mp, Rp G M1 H ∧ TR G T ta (sD S2 5 f (FP.dadd (gD S2 5 f) (gD S2 4 f))) Y M1 := ⟨_, hR, hW.setD 5 (by decide) f (FP.dadd (gD S2 5 f) (gD S2 4 f))⟩
                        refine lv_iinc (v := nI (f + 1)) (lv' := [(4, .int (nI (f + 1))), (5, .double (FP.dadd (gD S2 5 f) (gD S2 4 f))), (0, .ref T), (1, .int rn), (2, .int (gF S 29)), (3, .int (nI i))]) hx hb dX6_round_113 hl (k := 5) rfl (addN rfl rfl) (by decide) rfl (fun ls hl => ?_)
                        refine lv_goto (tgt := 52) hx hb dX6_round_116 (by decide) ?_
                        exact ih_k52 (f + 1) (sD S2 5 f (FP.dadd (gD S2 5 f) (gD S2 4 f))) _ _ _ _ (by omega) (by omega) (it_next hX2 ((if_pos c_8).trans ((if_pos c_9).trans (rfl)))) hW hR hS (lv_sub hl [2, 3, 4, 5, 0] rfl)
                      · skip
                        refine lv_ldc2d (v := c8) hx hb hown (hts _ q1158) dX6_round_104 ?_
                        refine lv_goto (tgt := 112) hx hb dX6_round_107 (by decide) ?_
                        refine r_dastj hx hb hT hR hS (hW.d 5 12 (by decide) rfl) (j := f) rfl (by omega) (by decide) dX6_round_112 (fun H locs hz hR hS => ?_)
                        obtain ⟨M, hR, hW⟩ : ∃ M1 : Mp, Rp G M1 H ∧ TR G T ta (sD S2 5 f c8) Y M1 := ⟨_, hR, hW.setD 5 (by decide) f c8⟩
                        refine lv_iinc (v := nI (f + 1)) (lv' := [(4, .int (nI (f + 1))), (5, .double (FP.dadd (gD S2 5 f) (gD S2 4 f))), (0, .ref T), (1, .int rn), (2, .int (gF S 29)), (3, .int (nI i))]) hx hb dX6_round_113 hl (k := 5) rfl (addN rfl rfl) (by decide) rfl (fun ls hl => ?_)
                        refine lv_goto (tgt := 52) hx hb dX6_round_116 (by decide) ?_
                        exact ih_k52 (f + 1) (sD S2 5 f c8) _ _ _ _ (by omega) (by omega) (it_next hX2 ((if_pos c_8).trans ((if_neg c_9).trans (rfl)))) hW hR hS (lv_sub hl [2, 3, 4, 5, 0] rfl)
              exact k52 13 0 _ _ _ _ _ (by omega) (by omega) rfl hW hR hS (lv_sub hl [1, 2, 3, 4, 0] rfl)
      exact k27 (ix rn + 1) 0 _ _ _ _ _ (by omega) (by omega) rfl rfl hW hR hS (lv_sub hl [2, 3, 1, 0] rfl)
    · skip
      refine lv_iconst (v := 1) hx hb dX6_round_12 (by decide) ?_
      refine lv_goto (tgt := 17) hx hb dX6_round_13 (by decide) ?_
      refine r_put (ci := 10) (v := .int 1) (ty := .int) (C := RX6) (T := TX6) (N := 33) hx hb hts in_X6 tyX6 tyX6_ok nmX6 hown hT hR hS hW.1 rfl 32 (by decide) (hts _ q1064) (fun _ h9 => h9) rfl (by decide +kernel) rfl rfl (Nat.le_of_ble_eq_true rfl) dX6_round_17 (fun H locs hz hR hS => ?_)
      obtain ⟨M, hR, hW⟩ : ∃ M1 : Mp, Rp G M1 H ∧ TR G T ta (sF S 32 1) Y M1 := ⟨_, hR, hW.setF 32 (by decide) (by decide) 1⟩
      refine lv_aload_n hx hb dX6_round_20 rfl (lv_at hl 0 rfl) ?_
      refine va_get (D := G.1) (ci := 10) (v := .int (gF S 29)) (C := RX6) (T := TX6) (N := 33) hx hb hts in_X6 hown hT.1 (hR.one hW.1) 0 rfl rfl 29 (by decide) (hts _ q1061) (fun _ h9 => h9) rfl dX6_round_21 ?_
      refine lv_istore_n (lv' := [(2, .int (gF S 29)), (0, .ref T), (1, .int rn)]) hx hb dX6_round_24 rfl hl (by decide) rfl (fun ls hl => ?_)
      refine lv_iconst (v := 0) hx hb dX6_round_25 (by decide) ?_
      refine lv_istore_n (lv' := [(3, .int 0), (2, .int (gF S 29)), (0, .ref T), (1, .int rn)]) hx hb dX6_round_26 rfl hl (by decide) rfl (fun ls hl => ?_)
      refine lv_iload_n hx hb dX6_round_27 rfl (lv_at hl 0 rfl) ?_
      refine lv_iload_n hx hb dX6_round_28 rfl (lv_at hl 3 rfl) ?_
      refine lv_icmp_ge (tgt := 137) hx hb dX6_round_29 (by decide) (fun c_10 => ?_) (fun c_10 => ?_)
      · skip
        refine lv_aload_n hx hb dX6_round_137 rfl (lv_at hl 2 rfl) ?_
        refine va_get (D := G.1) (ci := 10) (v := .int (gF S 29)) (C := RX6) (T := TX6) (N := 33) hx hb hts in_X6 hown hT.1 (hR.one hW.1) 0 rfl rfl 29 (by decide) (hts _ q1061) (fun _ h9 => h9) rfl dX6_round_138 ?_
        refine lv_iload_n hx hb dX6_round_141 rfl (lv_at hl 1 rfl) ?_
        refine lv_isub hx hb dX6_round_142 ?_
        exact W.iret hx hb hr (q_ret (⟨(show some (Value.int (gF (sF S 32 1) 29 - gF S 29)) = some (Value.int (gF (tRound S rn) 29 - gF S 29)) from congrArg (fun z9 => some (Value.int (gF z9 29 - gF S 29))) (show sF S 32 1 = tRound S rn from Eq.symm ((if_neg c_1).trans ((if_neg c_4).trans (rfl))))), TR.eq ((if_neg c_1).trans ((if_neg c_4).trans (rfl))) hW⟩) hR hS) hS.2.2 dX6_round_143
      · skip
        refine lv_aload_n hx hb dX6_round_32 rfl (lv_at hl 2 rfl) ?_
        refine va_get (D := G.1) (ci := 10) (v := .int 1) (C := RX6) (T := TX6) (N := 33) hx hb hts in_X6 hown hT.1 (hR.one hW.1) 0 rfl rfl 32 (by decide) (hts _ q1064) (fun _ h9 => h9) rfl dX6_round_33 ?_
        refine lv_if_ne (tgt := 137) hx hb dX6_round_36 (by decide) (fun c_11 => ?_) (fun c_11 => ?_)
        · skip
          refine lv_aload_n hx hb dX6_round_137 rfl (lv_at hl 2 rfl) ?_
          refine va_get (D := G.1) (ci := 10) (v := .int (gF S 29)) (C := RX6) (T := TX6) (N := 33) hx hb hts in_X6 hown hT.1 (hR.one hW.1) 0 rfl rfl 29 (by decide) (hts _ q1061) (fun _ h9 => h9) rfl dX6_round_138 ?_
          refine lv_iload_n hx hb dX6_round_141 rfl (lv_at hl 1 rfl) ?_
          refine lv_isub hx hb dX6_round_142 ?_
          exact W.iret hx hb hr (q_ret (⟨(show some (Value.int (gF (sF S 32 1) 29 - gF S 29)) = some (Value.int (gF (tRound S rn) 29 - gF S 29)) from congrArg (fun z9 => some (Value.int (gF z9 29 - gF S 29))) (show sF S 32 1 = tRound S rn from Eq.symm ((if_neg c_1).trans ((if_neg c_4).trans (rfl))))), TR.eq ((if_neg c_1).trans ((if_neg c_4).trans (rfl))) hW⟩) hR hS) hS.2.2 dX6_round_143
        · skip
          exact absurd c_11 (by decide)
set_option maxHeartbeats 4000000 in
set_option maxRecDepth 100000 in
theorem tm_key (l : Launch) (G : Gw) (M : Mp) (sz : Nat) (T : Nat) (ta : Nat → Nat) (S : Tw) (Y : Mp) (hW : TR G T ta S Y M) (kk : Int32) (hok : OkD S) : Ct l yX6_key cX6_key 4 (some .int) 2 0 0 [.ref T, .int kk] G M sz (fun v M1 _ => v = some (.int (nI (tKey S kk).2)) ∧ TR G T ta ((tKey S kk).1) Y M1) := by
  refine Met.ofW (cc := cX6_key) (maxL := 4) (ret := (some .int)) (by decide) rfl ?_
  intro p e s m args below meth c s₁ B hml hv
  obtain ⟨rfl, hT, hR, hsz⟩ := hv
  have hx := B.exec
  have hb := B.bytes
  have hr := B.returns
  have hts := atoms_spec (ws := ws_ yX6_key cX6_key 4 (some .int)) B.pre
  have hts : ∀ w ∈ lw_all, w.before _ s = true := fun w h => hts w (List.mem_cons_of_mem _ h)
  have hown : s.vm.findClass RX6 = some m.cls := findClass_of_methodNamed B.named
  have hlocks := B.notSynchronized
  have hS : va_S (Af G) s.heap s.heap [] := va_S.rf
  have hl := lv_entry ([.ref T, .int kk]) (n := 4) (Nat.le_of_ble_eq_true rfl)
  rw [lg_entry_eq]
  generalize (lg_sl ([.ref T, .int kk]) ++ List.replicate (4 - (lg_sl ([.ref T, .int kk])).length) Slot.unset).toArray = ls at hl ⊢
  have hl : lv_has ls 4 [(0, .ref T), (1, .int kk)] := hl
  refine lv_aload_n hx hb dX6_key_0 rfl (lv_at hl 0 rfl) ?_
  refine lv_iconst (v := 0) hx hb dX6_key_1 (by decide) ?_
  refine r_put (ci := 10) (v := .int 0) (ty := .int) (C := RX6) (T := TX6) (N := 33) hx hb hts in_X6 tyX6 tyX6_ok nmX6 hown hT hR hS hW.1 rfl 32 (by decide) (hts _ q1064) (fun _ h9 => h9) rfl (by decide +kernel) rfl rfl (Nat.le_of_ble_eq_true rfl) dX6_key_2 (fun H locs hz hR hS => ?_)
  obtain ⟨M, hR, hW⟩ : ∃ M1 : Mp, Rp G M1 H ∧ TR G T ta (sF S 32 0) Y M1 := ⟨_, hR, hW.setF 32 (by decide) (by decide) 0⟩
  refine lv_aload_n hx hb dX6_key_5 rfl (lv_at hl 0 rfl) ?_
  refine lv_iload_n hx hb dX6_key_6 rfl (lv_at hl 1 rfl) ?_
  refine r_put (ci := 10) (v := .int kk) (ty := .int) (C := RX6) (T := TX6) (N := 33) hx hb hts in_X6 tyX6 tyX6_ok nmX6 hown hT hR hS hW.1 rfl 22 (by decide) (hts _ q1054) (fun _ h9 => h9) rfl (by decide +kernel) rfl rfl (Nat.le_of_ble_eq_true rfl) dX6_key_7 (fun H locs hz hR hS => ?_)
  obtain ⟨M, hR, hW⟩ : ∃ M1 : Mp, Rp G M1 H ∧ TR G T ta (sF (sF S 32 0) 22 kk) Y M1 := ⟨_, hR, hW.setF 22 (by decide) (by decide) kk⟩
  refine lv_iconst (v := 0) hx hb dX6_key_10 (by decide) ?_
  refine lv_istore_n (lv' := [(2, .int 0), (0, .ref T), (1, .int kk)]) hx hb dX6_key_11 rfl hl (by decide) rfl (fun ls hl => ?_)
  refine lv_iconst (v := 0) hx hb dX6_key_12 (by decide) ?_
  refine lv_istore_n (lv' := [(3, .int 0), (2, .int 0), (0, .ref T), (1, .int kk)]) hx hb dX6_key_13 rfl hl (by decide) rfl (fun ls hl => ?_)
  have k14 : ∀ (n : Nat) (i : Nat) (x : Tw × Nat) (M : Mp) (H : Heap) (locs : List Loc) (ls : Array Slot), (i ≤ 6) → (6 < i + n) → (x = it (tKey1 kk) i (sF (sF S 32 0) 22 kk, 0)) → (OkD x.1) → (TR G T ta x.1 Y M) → Rp G M H → va_S (Af G) s.heap H locs → lv_has ls 4 [(0, .ref T), (1, .int kk), (2, .int (nI x.2)), (3, .int (nI i))] → W p l e (headSpec (ws_ yX6_key cX6_key 4 (some .int)) (rmL 2 0 0)).room s m ([.ref T, .int kk] : List Value).toArray below meth c H locs 0 0 (MQ below (Qg G (fun v M1 _ => v = some (.int (nI (tKey S kk).2)) ∧ TR G T ta ((tKey S kk).1) Y M1)) ([.ref T, .int kk] : List Value).toArray s 0 0 (Af G)) (F0 m 14 ls []) := by
    intro n
    induction n with
    | zero =>
      intro i x M H locs ls hi hf hX hok hW hR hS hl
      exact absurd hf (by omega)
    | succ n ih_k14 =>
      intro i x M H locs ls hi hf hX hok hW hR hS hl
      refine lv_iload_n hx hb dX6_key_14 rfl (lv_at hl 3 rfl) ?_
      refine lv_bipush (v := 6) hx hb dX6_key_15 (by decide) ?_
      refine lv_icmp_ge (tgt := 54) hx hb dX6_key_17 (by decide) (fun c_1 => ?_) (fun c_1 => ?_)
      · skip
        have c_1 := (leN (a := 6) (b := i) rfl rfl (by omega) (by omega)).mp c_1
        obtain rfl : i = 6 := by omega
        refine lv_iload_n hx hb dX6_key_54 rfl (lv_at hl 2 rfl) ?_
        exact W.iret hx hb hr (q_ret (⟨by rw [show tKey S kk = x from hX.symm], TR.eq (congrArg Prod.fst hX.symm) hW⟩) hR hS) hS.2.2 dX6_key_55
      · skip
        have c_1 := (not_congr (leN (a := 6) (b := i) rfl rfl (by omega) (by omega))).mp c_1
        refine lv_aload_n hx hb dX6_key_20 rfl (lv_at hl 0 rfl) ?_
        refine va_get (D := G.1) (ci := 10) (v := .ref (ta 6)) (C := RX6) (T := TX6) (N := 33) hx hb hts in_X6 hown hT.1 (hR.one hW.1) 0 rfl rfl 6 (by decide) (hts _ q1038) (fun _ h9 => h9) rfl dX6_key_21 ?_
        refine lv_iload_n hx hb dX6_key_24 rfl (lv_at hl 3 rfl) ?_
        refine r_iald hx hb hT hR (hW.i 6 6 (by decide) (by decide) rfl) (j := i) rfl (by omega) (by decide) dX6_key_25 ?_
        refine W.eq (g2 := F0 m 26 ls (.int (gI x.1 6 i) :: [])) rfl ?_
        refine lv_iconst (v := 2) hx hb dX6_key_26 (by decide) ?_
        refine lv_icmp_ne (tgt := 48) hx hb dX6_key_27 (by decide) (fun c_2 => ?_) (fun c_2 => ?_)
        · skip
          refine lv_iinc (v := nI (i + 1)) (lv' := [(3, .int (nI (i + 1))), (0, .ref T), (1, .int kk), (2, .int (nI x.2))]) hx hb dX6_key_48 hl (k := 3) rfl (addN rfl rfl) (by decide) rfl (fun ls hl => ?_)
          refine lv_goto (tgt := 14) hx hb dX6_key_51 (by decide) ?_
          exact ih_k14 (i + 1) x _ _ _ _ (by omega) (by omega) (it_next hX ((if_neg c_2).trans (rfl))) hok hW hR hS (lv_sub hl [1, 2, 3, 0] rfl)
        · skip
          refine lv_aload_n hx hb dX6_key_30 rfl (lv_at hl 0 rfl) ?_
          refine lv_iload_n hx hb dX6_key_31 rfl (lv_at hl 3 rfl) ?_
          refine g_pure (va_runV (As := [.int (nI i)]) (rest := []) ⟨hx, hb, hml, hown, hts⟩ (tm_fine l G M _ T ta x.1 Y hW i (by omega) (hok i (by omega))) (cwV 1 hts (lw_V q1175 q1177 qs23 q61 q1178) rfl rfl rfl (by decide +kernel) ⟨Nat.le_of_ble_eq_true rfl, Nat.le_of_ble_eq_true rfl⟩) (preV hT hR hS hW.1 rfl rfl) rfl rfl hl.1 rfl (lv_room (Nat.le_of_ble_eq_true rfl)) dX6_key_32 ⟨Nat.le_of_ble_eq_true rfl, Nat.le_of_ble_eq_true rfl⟩) ?_
          refine W.eq (g2 := F0 m 35 ls [.int (bI (tFine x.1 i))]) rfl ?_
          refine lv_if_eq (tgt := 48) hx hb dX6_key_35 (by decide) (fun c_3 => ?_) (fun c_3 => ?_)
          · skip
            have c_3 := b_0 c_3
            refine lv_iinc (v := nI (i + 1)) (lv' := [(3, .int (nI (i + 1))), (0, .ref T), (1, .int kk), (2, .int (nI x.2))]) hx hb dX6_key_48 hl (k := 3) rfl (addN rfl rfl) (by decide) rfl (fun ls hl => ?_)
            refine lv_goto (tgt := 14) hx hb dX6_key_51 (by decide) ?_
            exact ih_k14 (i + 1) x _ _ _ _ (by omega) (by omega) (it_next hX ((if_pos c_2).trans ((if_neg c_3).trans (rfl)))) hok hW hR hS (lv_sub hl [1, 2, 3, 0] rfl)
          · skip
            have c_3 := b_n0 c_3
            refine lv_aload_n hx hb dX6_key_38 rfl (lv_at hl 0 rfl) ?_
            refine va_get (D := G.1) (ci := 10) (v := .ref (ta 8)) (C := RX6) (T := TX6) (N := 33) hx hb hts in_X6 hown hT.1 (hR.one hW.1) 0 rfl rfl 8 (by decide) (hts _ q1040) (fun _ h9 => h9) rfl dX6_key_39 ?_
            refine lv_iload_n hx hb dX6_key_42 rfl (lv_at hl 3 rfl) ?_
            refine lv_iload_n hx hb dX6_key_43 rfl (lv_at hl 1 rfl) ?_
            refine r_iastj hx hb hT hR hS (hW.i 8 6 (by decide) (by decide) rfl) (j := i) rfl (by omega) (by decide) dX6_key_44 (fun H locs hz hR hS => ?_)
            obtain ⟨M, hR, hW⟩ : ∃ M1 : Mp, Rp G M1 H ∧ TR G T ta (sI x.1 8 i kk) Y M1 := ⟨_, hR, hW.setI 8 (by decide) (by decide) i kk⟩
            refine lv_iinc (v := nI (x.2 + 1)) (lv' := [(2, .int (nI (x.2 + 1))), (0, .ref T), (1, .int kk), (3, .int (nI i))]) hx hb dX6_key_45 hl (k := 2) rfl (addN rfl rfl) (by decide) rfl (fun ls hl => ?_)
            refine lv_iinc (v := nI (i + 1)) (lv' := [(3, .int (nI (i + 1))), (2, .int (nI (x.2 + 1))), (0, .ref T), (1, .int kk)]) hx hb dX6_key_48 hl (k := 3) rfl (addN rfl rfl) (by decide) rfl (fun ls hl => ?_)
            refine lv_goto (tgt := 14) hx hb dX6_key_51 (by decide) ?_
            exact ih_k14 (i + 1) (sI x.1 8 i kk, x.2 + 1) _ _ _ _ (by omega) (by omega) (it_next hX ((if_pos c_2).trans ((if_pos c_3).trans (rfl)))) hok hW hR hS (lv_sub hl [2, 3, 1, 0] rfl)
  exact k14 7 0 (sF (sF S 32 0) 22 kk, 0) _ _ _ _ (by omega) (by omega) rfl hok hW hR hS (lv_sub hl [2, 3, 1, 0] rfl)
set_option maxHeartbeats 4000000 in
set_option maxRecDepth 100000 in
theorem tm_take (l : Launch) (G : Gw) (M : Mp) (sz : Nat) (T : Nat) (ta : Nat → Nat) (S : Tw) (Y : Mp) (hW : TR G T ta S Y M) (hls : nb (gF S 23) 6) : Ct l yX6_take cX6_take 3 (some .int) 0 0 0 [.ref T] G M sz (fun v M1 _ => v = some (.int (tTake S).2) ∧ TR G T ta ((tTake S).1) Y M1) := by
  refine Met.ofW (cc := cX6_take) (maxL := 3) (ret := (some .int)) (by decide) rfl ?_
  intro p e s m args below meth c s₁ B hml hv
  obtain ⟨rfl, hT, hR, hsz⟩ := hv
  have hx := B.exec
  have hb := B.bytes
  have hr := B.returns
  have hts := atoms_spec (ws := ws_ yX6_take cX6_take 3 (some .int)) B.pre
  have hts : ∀ w ∈ lw_all, w.before _ s = true := fun w h => hts w (List.mem_cons_of_mem _ h)
  have hown : s.vm.findClass RX6 = some m.cls := findClass_of_methodNamed B.named
  have hlocks := B.notSynchronized
  have hS : va_S (Af G) s.heap s.heap [] := va_S.rf
  have hl := lv_entry ([.ref T]) (n := 3) (Nat.le_of_ble_eq_true rfl)
  rw [lg_entry_eq]
  generalize (lg_sl ([.ref T]) ++ List.replicate (3 - (lg_sl ([.ref T])).length) Slot.unset).toArray = ls at hl ⊢
  have hl : lv_has ls 3 [(0, .ref T)] := hl
  refine lv_aload_n hx hb dX6_take_0 rfl (lv_at hl 0 rfl) ?_
  refine lv_aload_n hx hb dX6_take_1 rfl (lv_at hl 0 rfl) ?_
  refine va_get (D := G.1) (ci := 10) (v := .int (gF S 23)) (C := RX6) (T := TX6) (N := 33) hx hb hts in_X6 hown hT.1 (hR.one hW.1) 0 rfl rfl 23 (by decide) (hts _ q1055) (fun _ h9 => h9) rfl dX6_take_2 ?_
  refine lv_if_ne (tgt := 12) hx hb dX6_take_5 (by decide) (fun c_1 => ?_) (fun c_1 => ?_)
  · skip
    have hls2 := hls.2
    have h1 : 1 ≤ ix (gF S 23) := by
      rcases Nat.eq_zero_or_pos (ix (gF S 23)) with h | h
      · exact absurd (hls.1.trans (congrArg nI h)) c_1
      · exact h
    refine lv_iconst (v := 0) hx hb dX6_take_12 (by decide) ?_
    refine r_put (ci := 10) (v := .int 0) (ty := .int) (C := RX6) (T := TX6) (N := 33) hx hb hts in_X6 tyX6 tyX6_ok nmX6 hown hT hR hS hW.1 rfl 32 (by decide) (hts _ q1064) (fun _ h9 => h9) rfl (by decide +kernel) rfl rfl (Nat.le_of_ble_eq_true rfl) dX6_take_13 (fun H locs hz hR hS => ?_)
    obtain ⟨M, hR, hW⟩ : ∃ M1 : Mp, Rp G M1 H ∧ TR G T ta (sF S 32 0) Y M1 := ⟨_, hR, hW.setF 32 (by decide) (by decide) 0⟩
    refine lv_aload_n hx hb dX6_take_16 rfl (lv_at hl 0 rfl) ?_
    refine va_get (D := G.1) (ci := 10) (v := .int 0) (C := RX6) (T := TX6) (N := 33) hx hb hts in_X6 hown hT.1 (hR.one hW.1) 0 rfl rfl 32 (by decide) (hts _ q1064) (fun _ h9 => h9) rfl dX6_take_17 ?_
    refine lv_if_eq (tgt := 25) hx hb dX6_take_20 (by decide) (fun c_2 => ?_) (fun c_2 => ?_)
    · skip
      refine lv_aload_n hx hb dX6_take_25 rfl (lv_at hl 0 rfl) ?_
      refine va_get (D := G.1) (ci := 10) (v := .ref (ta 21)) (C := RX6) (T := TX6) (N := 33) hx hb hts in_X6 hown hT.1 (hR.one hW.1) 0 rfl rfl 21 (by decide) (hts _ q1053) (fun _ h9 => h9) rfl dX6_take_26 ?_
      refine lv_iconst (v := 0) hx hb dX6_take_29 (by decide) ?_
      refine r_iald hx hb hT hR (hW.i 21 6 (by decide) (by decide) rfl) (j := 0) rfl (by decide) (by decide) dX6_take_30 ?_
      refine W.eq (g2 := F0 m 31 ls (.int (gI S 21 0) :: [])) rfl ?_
      refine lv_istore_n (lv' := [(1, .int (gI S 21 0)), (0, .ref T)]) hx hb dX6_take_31 rfl hl (by decide) rfl (fun ls hl => ?_)
      refine lv_aload_n hx hb dX6_take_32 rfl (lv_at hl 1 rfl) ?_
      refine lv_dup hx hb dX6_take_33 rfl ?_
      refine va_get (D := G.1) (ci := 10) (v := .int (gF S 23)) (C := RX6) (T := TX6) (N := 33) hx hb hts in_X6 hown hT.1 (hR.one hW.1) 0 rfl rfl 23 (by decide) (hts _ q1055) (fun _ h9 => h9) rfl dX6_take_34 ?_
      refine lv_iconst (v := 1) hx hb dX6_take_37 (by decide) ?_
      refine lv_isub hx hb dX6_take_38 ?_
      refine r_put (ci := 10) (v := .int ((gF S 23) - 1)) (ty := .int) (C := RX6) (T := TX6) (N := 33) hx hb hts in_X6 tyX6 tyX6_ok nmX6 hown hT hR hS hW.1 rfl 23 (by decide) (hts _ q1055) (fun _ h9 => h9) rfl (by decide +kernel) rfl rfl (Nat.le_of_ble_eq_true rfl) dX6_take_39 (fun H locs hz hR hS => ?_)
      obtain ⟨M, hR, hW⟩ : ∃ M1 : Mp, Rp G M1 H ∧ TR G T ta (sF (sF S 32 0) 23 ((gF S 23) - 1)) Y M1 := ⟨_, hR, hW.setF 23 (by decide) (by decide) ((gF S 23) - 1)⟩
      refine lv_iconst (v := 0) hx hb dX6_take_42 (by decide) ?_
      refine lv_istore_n (lv' := [(2, .int 0), (1, .int (gI S 21 0)), (0, .ref T)]) hx hb dX6_take_43 rfl hl (by decide) rfl (fun ls hl => ?_)
      have hE : tTake S = (it tShL (ix (gF S 23) - 1) (sF (sF S 32 0) 23 ((gF S 23) - 1)), gI S 21 0) := (if_neg c_1).trans (rfl)
      have k44 : ∀ (n : Nat) (i : Nat) (S1 : Tw) (M : Mp) (H : Heap) (locs : List Loc) (ls : Array Slot), (i ≤ ix (gF S 23) - 1) → (ix (gF S 23) - 1 < i + n) → (S1 = it tShL i (sF (sF S 32 0) 23 ((gF S 23) - 1))) → (gF S1 23 = nI (ix (gF S 23) - 1)) → (TR G T ta S1 Y M) → Rp G M H → va_S (Af G) s.heap H locs → lv_has ls 3 [(0, .ref T), (1, .int (gI S 21 0)), (2, .int (nI i))] → W p l e (headSpec (ws_ yX6_take cX6_take 3 (some .int)) (rmL 0 0 0)).room s m ([.ref T] : List Value).toArray below meth c H locs 0 0 (MQ below (Qg G (fun v M1 _ => v = some (.int (tTake S).2) ∧ TR G T ta ((tTake S).1) Y M1)) ([.ref T] : List Value).toArray s 0 0 (Af G)) (F0 m 44 ls []) := by
        intro n
        induction n with
        | zero =>
          intro i S1 M H locs ls hi hf hX hl9 hW hR hS hl
          exact absurd hf (by omega)
        | succ n ih_k44 =>
          intro i S1 M H locs ls hi hf hX hl9 hW hR hS hl
          refine lv_iload_n hx hb dX6_take_44 rfl (lv_at hl 2 rfl) ?_
          refine lv_aload_n hx hb dX6_take_45 rfl (lv_at hl 0 rfl) ?_
          refine va_get (D := G.1) (ci := 10) (v := .int (gF S1 23)) (C := RX6) (T := TX6) (N := 33) hx hb hts in_X6 hown hT.1 (hR.one hW.1) 0 rfl rfl 23 (by decide) (hts _ q1055) (fun _ h9 => h9) rfl dX6_take_46 ?_
          refine lv_icmp_ge (tgt := 72) hx hb dX6_take_49 (by decide) (fun c_3 => ?_) (fun c_3 => ?_)
          · skip
            have c_3 := (leN (a := ix (gF S 23) - 1) (b := i) hl9 rfl (by omega) (by omega)).mp c_3
            obtain rfl : i = ix (gF S 23) - 1 := by omega
            subst hX
            refine lv_iload_n hx hb dX6_take_72 rfl (lv_at hl 1 rfl) ?_
            exact W.iret hx hb hr (q_ret (⟨congrArg (fun z9 : Tw × Int32 => some (Value.int z9.2)) hE.symm, TR.eq (congrArg Prod.fst hE) hW⟩) hR hS) hS.2.2 dX6_take_73
          · skip
            have c_3 := (not_congr (leN (a := ix (gF S 23) - 1) (b := i) hl9 rfl (by omega) (by omega))).mp c_3
            refine lv_aload_n hx hb dX6_take_52 rfl (lv_at hl 0 rfl) ?_
            refine va_get (D := G.1) (ci := 10) (v := .ref (ta 21)) (C := RX6) (T := TX6) (N := 33) hx hb hts in_X6 hown hT.1 (hR.one hW.1) 0 rfl rfl 21 (by decide) (hts _ q1053) (fun _ h9 => h9) rfl dX6_take_53 ?_
            refine lv_iload_n hx hb dX6_take_56 rfl (lv_at hl 2 rfl) ?_
            refine lv_aload_n hx hb dX6_take_57 rfl (lv_at hl 0 rfl) ?_
            refine va_get (D := G.1) (ci := 10) (v := .ref (ta 21)) (C := RX6) (T := TX6) (N := 33) hx hb hts in_X6 hown hT.1 (hR.one hW.1) 0 rfl rfl 21 (by decide) (hts _ q1053) (fun _ h9 => h9) rfl dX6_take_58 ?_
            refine lv_iload_n hx hb dX6_take_61 rfl (lv_at hl 2 rfl) ?_
            refine lv_iconst (v := 1) hx hb dX6_take_62 (by decide) ?_
            refine lv_iadd hx hb dX6_take_63 ?_
            refine W.eq (g2 := F0 m 64 ls (.int (nI (i + 1)) :: [.ref (ta 21), .int (nI i), .ref (ta 21)])) (congrArg (fun z => F0 m 64 ls (.int z :: [.ref (ta 21), .int (nI i), .ref (ta 21)])) (addN rfl rfl)) ?_
            refine r_iald hx hb hT hR (hW.i 21 6 (by decide) (by decide) rfl) (j := (i + 1)) rfl (by omega) (by decide) dX6_take_64 ?_
            refine W.eq (g2 := F0 m 65 ls (.int (gI S1 21 (i + 1)) :: [.int (nI i), .ref (ta 21)])) rfl ?_
            refine r_iastj hx hb hT hR hS (hW.i 21 6 (by decide) (by decide) rfl) (j := i) rfl (by omega) (by decide) dX6_take_65 (fun H locs hz hR hS => ?_)
            obtain ⟨M, hR, hW⟩ : ∃ M1 : Mp, Rp G M1 H ∧ TR G T ta (sI S1 21 i (gI S1 21 (i + 1))) Y M1 := ⟨_, hR, hW.setI 21 (by decide) (by decide) i (gI S1 21 (i + 1))⟩
            refine lv_iinc (v := nI (i + 1)) (lv' := [(2, .int (nI (i + 1))), (0, .ref T), (1, .int (gI S 21 0))]) hx hb dX6_take_66 hl (k := 2) rfl (addN rfl rfl) (by decide) rfl (fun ls hl => ?_)
            refine lv_goto (tgt := 44) hx hb dX6_take_69 (by decide) ?_
            exact ih_k44 (i + 1) (sI S1 21 i (gI S1 21 (i + 1))) _ _ _ _ (by omega) (by omega) (it_next hX rfl) hl9 hW hR hS (lv_sub hl [1, 2, 0] rfl)
      exact k44 (ix (gF S 23) + 1) 0 _ _ _ _ _ (Nat.zero_le _) (by omega) rfl (subN (b := 1) hls.1 rfl h1) hW hR hS (lv_sub hl [2, 1, 0] rfl)
    · skip
      exact absurd c_2 (by decide)
  · skip
    refine lv_iconst (v := 1) hx hb dX6_take_8 (by decide) ?_
    refine lv_goto (tgt := 13) hx hb dX6_take_9 (by decide) ?_
    refine r_put (ci := 10) (v := .int 1) (ty := .int) (C := RX6) (T := TX6) (N := 33) hx hb hts in_X6 tyX6 tyX6_ok nmX6 hown hT hR hS hW.1 rfl 32 (by decide) (hts _ q1064) (fun _ h9 => h9) rfl (by decide +kernel) rfl rfl (Nat.le_of_ble_eq_true rfl) dX6_take_13 (fun H locs hz hR hS => ?_)
    obtain ⟨M, hR, hW⟩ : ∃ M1 : Mp, Rp G M1 H ∧ TR G T ta (sF S 32 1) Y M1 := ⟨_, hR, hW.setF 32 (by decide) (by decide) 1⟩
    refine lv_aload_n hx hb dX6_take_16 rfl (lv_at hl 0 rfl) ?_
    refine va_get (D := G.1) (ci := 10) (v := .int 1) (C := RX6) (T := TX6) (N := 33) hx hb hts in_X6 hown hT.1 (hR.one hW.1) 0 rfl rfl 32 (by decide) (hts _ q1064) (fun _ h9 => h9) rfl dX6_take_17 ?_
    refine lv_if_eq (tgt := 25) hx hb dX6_take_20 (by decide) (fun c_4 => ?_) (fun c_4 => ?_)
    · skip
      exact absurd c_4 (by decide)
    · skip
      refine lv_iconst (v := 0) hx hb dX6_take_23 (by decide) ?_
      exact W.iret hx hb hr (q_ret (⟨congrArg (fun z9 : Tw × Int32 => some (Value.int z9.2)) ((if_pos c_1).trans (rfl) : tTake S = (sF S 32 1, 0)).symm, TR.eq (congrArg Prod.fst ((if_pos c_1).trans (rfl) : tTake S = (sF S 32 1, 0))) hW⟩) hR hS) hS.2.2 dX6_take_24
set_option maxHeartbeats 4000000 in
set_option maxRecDepth 100000 in
theorem tm_level (l : Launch) (G : Gw) (M : Mp) (sz : Nat) (T : Nat) (ta : Nat → Nat) (S : Tw) (Y : Mp) (hW : TR G T ta S Y M) (a b : Int32) (hok : OkD S) : Ct l yX6_level cX6_level 3 (some .double) 1 0 0 [.ref T, .int a, .int b] G M sz (fun v M1 _ => v = some (.double (tLevel S a b).2) ∧ TR G T ta ((tLevel S a b).1) Y M1) := by
  refine Met.ofW (cc := cX6_level) (maxL := 3) (ret := (some .double)) (by decide) rfl ?_
  intro p e s m args below meth c s₁ B hml hv
  obtain ⟨rfl, hT, hR, hsz⟩ := hv
  have hx := B.exec
  have hb := B.bytes
  have hr := B.returns
  have hts := atoms_spec (ws := ws_ yX6_level cX6_level 3 (some .double)) B.pre
  have hts : ∀ w ∈ lw_all, w.before _ s = true := fun w h => hts w (List.mem_cons_of_mem _ h)
  have hown : s.vm.findClass RX6 = some m.cls := findClass_of_methodNamed B.named
  have hlocks := B.notSynchronized
  have hS : va_S (Af G) s.heap s.heap [] := va_S.rf
  have hl := lv_entry ([.ref T, .int a, .int b]) (n := 3) (Nat.le_of_ble_eq_true rfl)
  rw [lg_entry_eq]
  generalize (lg_sl ([.ref T, .int a, .int b]) ++ List.replicate (3 - (lg_sl ([.ref T, .int a, .int b])).length) Slot.unset).toArray = ls at hl ⊢
  have hl : lv_has ls 3 [(0, .ref T), (1, .int a), (2, .int b)] := hl
  refine lv_aload_n hx hb dX6_level_0 rfl (lv_at hl 0 rfl) ?_
  refine lv_aload_n hx hb dX6_level_1 rfl (lv_at hl 0 rfl) ?_
  refine lv_iload_n hx hb dX6_level_2 rfl (lv_at hl 1 rfl) ?_
  refine lv_iconst (v := 5) hx hb dX6_level_3 (by decide) ?_
  refine g_pure (va_runV (As := [.int a, .int 5]) (rest := [.ref T]) ⟨hx, hb, hml, hown, hts⟩ (tm_out l G M _ T ta S Y hW a 5) (cwV 2 hts (lw_V q1141 q1143 qs19 q61 q1144) rfl rfl rfl (by decide +kernel) ⟨Nat.le_of_ble_eq_true rfl, Nat.le_of_ble_eq_true rfl⟩) (preV hT hR hS hW.1 rfl rfl) rfl rfl hl.1 rfl (lv_room (Nat.le_of_ble_eq_true rfl)) dX6_level_4 ⟨Nat.le_of_ble_eq_true rfl, Nat.le_of_ble_eq_true rfl⟩) ?_
  refine W.eq (g2 := F0 m 7 ls [.int (bI (outP a 5)), .ref T]) rfl ?_
  refine lv_if_ne (tgt := 19) hx hb dX6_level_7 (by decide) (fun c_1 => ?_) (fun c_1 => ?_)
  · skip
    have c_1 := b_n0 c_1
    refine lv_iconst (v := 1) hx hb dX6_level_19 (by decide) ?_
    refine lv_goto (tgt := 24) hx hb dX6_level_20 (by decide) ?_
    refine r_put (ci := 10) (v := .int 1) (ty := .int) (C := RX6) (T := TX6) (N := 33) hx hb hts in_X6 tyX6 tyX6_ok nmX6 hown hT hR hS hW.1 rfl 32 (by decide) (hts _ q1064) (fun _ h9 => h9) rfl (by decide +kernel) rfl rfl (Nat.le_of_ble_eq_true rfl) dX6_level_24 (fun H locs hz hR hS => ?_)
    obtain ⟨M, hR, hW⟩ : ∃ M1 : Mp, Rp G M1 H ∧ TR G T ta (sF S 32 1) Y M1 := ⟨_, hR, hW.setF 32 (by decide) (by decide) 1⟩
    refine lv_aload_n hx hb dX6_level_27 rfl (lv_at hl 0 rfl) ?_
    refine va_get (D := G.1) (ci := 10) (v := .int 1) (C := RX6) (T := TX6) (N := 33) hx hb hts in_X6 hown hT.1 (hR.one hW.1) 0 rfl rfl 32 (by decide) (hts _ q1064) (fun _ h9 => h9) rfl dX6_level_28 ?_
    refine lv_if_eq (tgt := 36) hx hb dX6_level_31 (by decide) (fun c_2 => ?_) (fun c_2 => ?_)
    · skip
      exact absurd c_2 (by decide)
    · skip
      refine lv_dconst0 hx hb dX6_level_34 ?_
      exact W.dret hx hb hr (q_ret (⟨congrArg (fun z9 : Tw × UInt64 => some (Value.double z9.2)) ((if_pos c_1).trans (rfl) : tLevel S a b = ((sF S 32 1), FP.dconst0)).symm, TR.eq (congrArg Prod.fst ((if_pos c_1).trans (rfl) : tLevel S a b = ((sF S 32 1), FP.dconst0))) hW⟩) hR hS) hS.2.2 dX6_level_35
  · skip
    have c_1 := b_0 c_1
    have ha : nb a 5 := outP_nb 5 (by decide) c_1
    have ha1 := ha.1
    have ha2 := ha.2
    refine lv_aload_n hx hb dX6_level_10 rfl (lv_at hl 0 rfl) ?_
    refine lv_iload_n hx hb dX6_level_11 rfl (lv_at hl 2 rfl) ?_
    refine lv_iconst (v := 3) hx hb dX6_level_12 (by decide) ?_
    refine g_pure (va_runV (As := [.int b, .int 3]) (rest := [.ref T]) ⟨hx, hb, hml, hown, hts⟩ (tm_out l G M _ T ta S Y hW b 3) (cwV 2 hts (lw_V q1141 q1143 qs19 q61 q1144) rfl rfl rfl (by decide +kernel) ⟨Nat.le_of_ble_eq_true rfl, Nat.le_of_ble_eq_true rfl⟩) (preV hT hR hS hW.1 rfl rfl) rfl rfl hl.1 rfl (lv_room (Nat.le_of_ble_eq_true rfl)) dX6_level_13 ⟨Nat.le_of_ble_eq_true rfl, Nat.le_of_ble_eq_true rfl⟩) ?_
    refine W.eq (g2 := F0 m 16 ls [.int (bI (outP b 3)), .ref T]) rfl ?_
    refine lv_if_eq (tgt := 23) hx hb dX6_level_16 (by decide) (fun c_3 => ?_) (fun c_3 => ?_)
    · skip
      have c_3 := b_0 c_3
      have hbb : nb b 3 := outP_nb 3 (by decide) c_3
      have hbb1 := hbb.1
      have hbb2 := hbb.2
      refine lv_iconst (v := 0) hx hb dX6_level_23 (by decide) ?_
      refine r_put (ci := 10) (v := .int 0) (ty := .int) (C := RX6) (T := TX6) (N := 33) hx hb hts in_X6 tyX6 tyX6_ok nmX6 hown hT hR hS hW.1 rfl 32 (by decide) (hts _ q1064) (fun _ h9 => h9) rfl (by decide +kernel) rfl rfl (Nat.le_of_ble_eq_true rfl) dX6_level_24 (fun H locs hz hR hS => ?_)
      obtain ⟨M, hR, hW⟩ : ∃ M1 : Mp, Rp G M1 H ∧ TR G T ta (sF S 32 0) Y M1 := ⟨_, hR, hW.setF 32 (by decide) (by decide) 0⟩
      refine lv_aload_n hx hb dX6_level_27 rfl (lv_at hl 0 rfl) ?_
      refine va_get (D := G.1) (ci := 10) (v := .int 0) (C := RX6) (T := TX6) (N := 33) hx hb hts in_X6 hown hT.1 (hR.one hW.1) 0 rfl rfl 32 (by decide) (hts _ q1064) (fun _ h9 => h9) rfl dX6_level_28 ?_
      refine lv_if_eq (tgt := 36) hx hb dX6_level_31 (by decide) (fun c_4 => ?_) (fun c_4 => ?_)
      · skip
        refine lv_iload_n hx hb dX6_level_36 rfl (lv_at hl 2 rfl) ?_
        refine lv_if_ne (tgt := 48) hx hb dX6_level_37 (by decide) (fun c_5 => ?_) (fun c_5 => ?_)
        · skip
          have hb8 : ix b ≠ 0 := fun h => c_5 (hbb1.trans (congrArg nI h))
          refine lv_iload_n hx hb dX6_level_48 rfl (lv_at hl 2 rfl) ?_
          refine lv_iconst (v := 1) hx hb dX6_level_49 (by decide) ?_
          refine lv_icmp_ne (tgt := 61) hx hb dX6_level_50 (by decide) (fun c_6 => ?_) (fun c_6 => ?_)
          · skip
            have hb9 : ix b ≠ 1 := fun h => c_6 (hbb1.trans (congrArg nI h))
            refine lv_aload_n hx hb dX6_level_61 rfl (lv_at hl 0 rfl) ?_
            refine va_get (D := G.1) (ci := 10) (v := .ref (ta 5)) (C := RX6) (T := TX6) (N := 33) hx hb hts in_X6 hown hT.1 (hR.one hW.1) 0 rfl rfl 5 (by decide) (hts _ q1037) (fun _ h9 => h9) rfl dX6_level_62 ?_
            refine lv_iconst (v := 2) hx hb dX6_level_65 (by decide) ?_
            refine lv_iload_n hx hb dX6_level_66 rfl (lv_at hl 1 rfl) ?_
            refine lv_imul hx hb dX6_level_67 ?_
            refine W.eq (g2 := F0 m 68 ls (.int (nI (2 * (ix a))) :: [.ref (ta 5)])) (congrArg (fun z => F0 m 68 ls (.int z :: [.ref (ta 5)])) (mulN rfl ha1)) ?_
            refine lv_iload_n hx hb dX6_level_68 rfl (lv_at hl 2 rfl) ?_
            refine lv_iadd hx hb dX6_level_69 ?_
            refine W.eq (g2 := F0 m 70 ls (.int (nI (2 * (ix a) + (ix b))) :: [.ref (ta 5)])) (congrArg (fun z => F0 m 70 ls (.int z :: [.ref (ta 5)])) (addN rfl hbb1)) ?_
            refine lv_iconst (v := 2) hx hb dX6_level_70 (by decide) ?_
            refine lv_isub hx hb dX6_level_71 ?_
            refine W.eq (g2 := F0 m 72 ls (.int (nI (2 * (ix a) + (ix b) - 2)) :: [.ref (ta 5)])) (congrArg (fun z => F0 m 72 ls (.int z :: [.ref (ta 5)])) (subN rfl rfl (by omega))) ?_
            refine r_dald hx hb hT hR (hW.d 5 12 (by decide) rfl) (j := (2 * (ix a) + (ix b) - 2)) rfl (by omega) (by decide) dX6_level_72 ?_
            refine W.eq (g2 := F0 m 73 ls (.double (gD S 5 (2 * (ix a) + (ix b) - 2)) :: [])) rfl ?_
            exact W.dret hx hb hr (q_ret (⟨congrArg (fun z9 : Tw × UInt64 => some (Value.double z9.2)) ((if_neg c_1).trans ((if_neg c_3).trans ((if_neg c_5).trans ((if_neg c_6).trans (rfl)))) : tLevel S a b = ((sF S 32 0), gD S 5 (2 * (ix a) + (ix b) - 2))).symm, TR.eq (congrArg Prod.fst ((if_neg c_1).trans ((if_neg c_3).trans ((if_neg c_5).trans ((if_neg c_6).trans (rfl)))) : tLevel S a b = ((sF S 32 0), gD S 5 (2 * (ix a) + (ix b) - 2)))) hW⟩) hR hS) hS.2.2 dX6_level_73
          · skip
            refine lv_aload_n hx hb dX6_level_53 rfl (lv_at hl 0 rfl) ?_
            refine lv_iload_n hx hb dX6_level_54 rfl (lv_at hl 1 rfl) ?_
            refine W.eq (g2 := F0 m 55 ls [.int (nI (ix a)), .ref T]) (congrArg (fun z9 => F0 m 55 ls [.int z9, .ref T]) (ha1)) ?_
            refine g_pure (va_runV (As := [.int (nI (ix a))]) (rest := []) ⟨hx, hb, hml, hown, hts⟩ (tm_strong l G M _ T ta (sF S 32 0) Y hW (ix a) (by omega) (hok (ix a) (by omega))) (cwV 1 hts (lw_V q1189 q1191 qs26 q61 q1192) rfl rfl rfl (by decide +kernel) ⟨Nat.le_of_ble_eq_true rfl, Nat.le_of_ble_eq_true rfl⟩) (preV hT hR hS hW.1 rfl rfl) rfl rfl hl.1 rfl (lv_room (Nat.le_of_ble_eq_true rfl)) dX6_level_55 ⟨Nat.le_of_ble_eq_true rfl, Nat.le_of_ble_eq_true rfl⟩) ?_
            refine W.eq (g2 := F0 m 58 ls [.double (tStrong (sF S 32 0) (ix a))]) rfl ?_
            refine lv_goto (tgt := 73) hx hb dX6_level_58 (by decide) ?_
            exact W.dret hx hb hr (q_ret (⟨congrArg (fun z9 : Tw × UInt64 => some (Value.double z9.2)) ((if_neg c_1).trans ((if_neg c_3).trans ((if_neg c_5).trans ((if_pos c_6).trans (rfl)))) : tLevel S a b = ((sF S 32 0), tStrong (sF S 32 0) (ix a))).symm, TR.eq (congrArg Prod.fst ((if_neg c_1).trans ((if_neg c_3).trans ((if_neg c_5).trans ((if_pos c_6).trans (rfl)))) : tLevel S a b = ((sF S 32 0), tStrong (sF S 32 0) (ix a)))) hW⟩) hR hS) hS.2.2 dX6_level_73
        · skip
          refine lv_aload_n hx hb dX6_level_40 rfl (lv_at hl 0 rfl) ?_
          refine lv_iload_n hx hb dX6_level_41 rfl (lv_at hl 1 rfl) ?_
          refine W.eq (g2 := F0 m 42 ls [.int (nI (ix a)), .ref T]) (congrArg (fun z9 => F0 m 42 ls [.int z9, .ref T]) (ha1)) ?_
          refine g_pure (va_runV (As := [.int (nI (ix a))]) (rest := []) ⟨hx, hb, hml, hown, hts⟩ (tm_late l G M _ T ta (sF S 32 0) Y hW (ix a) (by omega) (hok (ix a) (by omega))) (cwV 1 hts (lw_V q1179 q1181 qs24 q61 q1182) rfl rfl rfl (by decide +kernel) ⟨Nat.le_of_ble_eq_true rfl, Nat.le_of_ble_eq_true rfl⟩) (preV hT hR hS hW.1 rfl rfl) rfl rfl hl.1 rfl (lv_room (Nat.le_of_ble_eq_true rfl)) dX6_level_42 ⟨Nat.le_of_ble_eq_true rfl, Nat.le_of_ble_eq_true rfl⟩) ?_
          refine W.eq (g2 := F0 m 45 ls [.double (tLate (sF S 32 0) (ix a))]) rfl ?_
          refine lv_goto (tgt := 73) hx hb dX6_level_45 (by decide) ?_
          exact W.dret hx hb hr (q_ret (⟨congrArg (fun z9 : Tw × UInt64 => some (Value.double z9.2)) ((if_neg c_1).trans ((if_neg c_3).trans ((if_pos c_5).trans (rfl))) : tLevel S a b = ((sF S 32 0), tLate (sF S 32 0) (ix a))).symm, TR.eq (congrArg Prod.fst ((if_neg c_1).trans ((if_neg c_3).trans ((if_pos c_5).trans (rfl))) : tLevel S a b = ((sF S 32 0), tLate (sF S 32 0) (ix a)))) hW⟩) hR hS) hS.2.2 dX6_level_73
      · skip
        exact absurd c_4 (by decide)
    · skip
      have c_3 := b_n0 c_3
      refine lv_iconst (v := 1) hx hb dX6_level_19 (by decide) ?_
      refine lv_goto (tgt := 24) hx hb dX6_level_20 (by decide) ?_
      refine r_put (ci := 10) (v := .int 1) (ty := .int) (C := RX6) (T := TX6) (N := 33) hx hb hts in_X6 tyX6 tyX6_ok nmX6 hown hT hR hS hW.1 rfl 32 (by decide) (hts _ q1064) (fun _ h9 => h9) rfl (by decide +kernel) rfl rfl (Nat.le_of_ble_eq_true rfl) dX6_level_24 (fun H locs hz hR hS => ?_)
      obtain ⟨M, hR, hW⟩ : ∃ M1 : Mp, Rp G M1 H ∧ TR G T ta (sF S 32 1) Y M1 := ⟨_, hR, hW.setF 32 (by decide) (by decide) 1⟩
      refine lv_aload_n hx hb dX6_level_27 rfl (lv_at hl 0 rfl) ?_
      refine va_get (D := G.1) (ci := 10) (v := .int 1) (C := RX6) (T := TX6) (N := 33) hx hb hts in_X6 hown hT.1 (hR.one hW.1) 0 rfl rfl 32 (by decide) (hts _ q1064) (fun _ h9 => h9) rfl dX6_level_28 ?_
      refine lv_if_eq (tgt := 36) hx hb dX6_level_31 (by decide) (fun c_7 => ?_) (fun c_7 => ?_)
      · skip
        exact absurd c_7 (by decide)
      · skip
        refine lv_dconst0 hx hb dX6_level_34 ?_
        exact W.dret hx hb hr (q_ret (⟨congrArg (fun z9 : Tw × UInt64 => some (Value.double z9.2)) ((if_neg c_1).trans ((if_pos c_3).trans (rfl)) : tLevel S a b = ((sF S 32 1), FP.dconst0)).symm, TR.eq (congrArg Prod.fst ((if_neg c_1).trans ((if_pos c_3).trans (rfl)) : tLevel S a b = ((sF S 32 1), FP.dconst0))) hW⟩) hR hS) hS.2.2 dX6_level_35
set_option maxHeartbeats 4000000 in
set_option maxRecDepth 100000 in
theorem tm_told (l : Launch) (G : Gw) (M : Mp) (sz : Nat) (T : Nat) (ta : Nat → Nat) (S : Tw) (Y : Mp) (hW : TR G T ta S Y M) (a b : Int32) (hok : OkD S) : Ct l yX6_told cX6_told 3 (some .int) 2 0 0 [.ref T, .int a, .int b] G M sz (fun v M1 _ => v = some (.int (tTold S a b).2) ∧ TR G T ta ((tTold S a b).1) Y M1) := by
  refine Met.ofW (cc := cX6_told) (maxL := 3) (ret := (some .int)) (by decide) rfl ?_
  intro p e s m args below meth c s₁ B hml hv
  obtain ⟨rfl, hT, hR, hsz⟩ := hv
  have hx := B.exec
  have hb := B.bytes
  have hr := B.returns
  have hts := atoms_spec (ws := ws_ yX6_told cX6_told 3 (some .int)) B.pre
  have hts : ∀ w ∈ lw_all, w.before _ s = true := fun w h => hts w (List.mem_cons_of_mem _ h)
  have hown : s.vm.findClass RX6 = some m.cls := findClass_of_methodNamed B.named
  have hlocks := B.notSynchronized
  have hS : va_S (Af G) s.heap s.heap [] := va_S.rf
  have hl := lv_entry ([.ref T, .int a, .int b]) (n := 3) (Nat.le_of_ble_eq_true rfl)
  rw [lg_entry_eq]
  generalize (lg_sl ([.ref T, .int a, .int b]) ++ List.replicate (3 - (lg_sl ([.ref T, .int a, .int b])).length) Slot.unset).toArray = ls at hl ⊢
  have hl : lv_has ls 3 [(0, .ref T), (1, .int a), (2, .int b)] := hl
  refine lv_aload_n hx hb dX6_told_0 rfl (lv_at hl 0 rfl) ?_
  refine lv_aload_n hx hb dX6_told_1 rfl (lv_at hl 0 rfl) ?_
  refine lv_iload_n hx hb dX6_told_2 rfl (lv_at hl 1 rfl) ?_
  refine lv_iconst (v := 5) hx hb dX6_told_3 (by decide) ?_
  refine g_pure (va_runV (As := [.int a, .int 5]) (rest := [.ref T]) ⟨hx, hb, hml, hown, hts⟩ (tm_out l G M _ T ta S Y hW a 5) (cwV 2 hts (lw_V q1141 q1143 qs19 q61 q1144) rfl rfl rfl (by decide +kernel) ⟨Nat.le_of_ble_eq_true rfl, Nat.le_of_ble_eq_true rfl⟩) (preV hT hR hS hW.1 rfl rfl) rfl rfl hl.1 rfl (lv_room (Nat.le_of_ble_eq_true rfl)) dX6_told_4 ⟨Nat.le_of_ble_eq_true rfl, Nat.le_of_ble_eq_true rfl⟩) ?_
  refine W.eq (g2 := F0 m 7 ls [.int (bI (outP a 5)), .ref T]) rfl ?_
  refine lv_if_ne (tgt := 20) hx hb dX6_told_7 (by decide) (fun c_1 => ?_) (fun c_1 => ?_)
  · skip
    have c_1 := b_n0 c_1
    refine lv_iconst (v := 1) hx hb dX6_told_20 (by decide) ?_
    refine lv_goto (tgt := 25) hx hb dX6_told_21 (by decide) ?_
    refine r_put (ci := 10) (v := .int 1) (ty := .int) (C := RX6) (T := TX6) (N := 33) hx hb hts in_X6 tyX6 tyX6_ok nmX6 hown hT hR hS hW.1 rfl 32 (by decide) (hts _ q1064) (fun _ h9 => h9) rfl (by decide +kernel) rfl rfl (Nat.le_of_ble_eq_true rfl) dX6_told_25 (fun H locs hz hR hS => ?_)
    obtain ⟨M, hR, hW⟩ : ∃ M1 : Mp, Rp G M1 H ∧ TR G T ta (sF S 32 1) Y M1 := ⟨_, hR, hW.setF 32 (by decide) (by decide) 1⟩
    refine lv_aload_n hx hb dX6_told_28 rfl (lv_at hl 0 rfl) ?_
    refine va_get (D := G.1) (ci := 10) (v := .int 1) (C := RX6) (T := TX6) (N := 33) hx hb hts in_X6 hown hT.1 (hR.one hW.1) 0 rfl rfl 32 (by decide) (hts _ q1064) (fun _ h9 => h9) rfl dX6_told_29 ?_
    refine lv_if_eq (tgt := 37) hx hb dX6_told_32 (by decide) (fun c_2 => ?_) (fun c_2 => ?_)
    · skip
      exact absurd c_2 (by decide)
    · skip
      refine lv_iconst (v := 0) hx hb dX6_told_35 (by decide) ?_
      exact W.iret hx hb hr (q_ret (⟨congrArg (fun z9 : Tw × Int32 => some (Value.int z9.2)) ((if_pos c_1).trans (rfl) : tTold S a b = ((sF S 32 1), 0)).symm, TR.eq (congrArg Prod.fst ((if_pos c_1).trans (rfl) : tTold S a b = ((sF S 32 1), 0))) hW⟩) hR hS) hS.2.2 dX6_told_36
  · skip
    have c_1 := b_0 c_1
    have ha : nb a 5 := outP_nb 5 (by decide) c_1
    have ha1 := ha.1
    have ha2 := ha.2
    refine lv_aload_n hx hb dX6_told_10 rfl (lv_at hl 0 rfl) ?_
    refine lv_iload_n hx hb dX6_told_11 rfl (lv_at hl 2 rfl) ?_
    refine lv_bipush (v := 9) hx hb dX6_told_12 (by decide) ?_
    refine g_pure (va_runV (As := [.int b, .int 9]) (rest := [.ref T]) ⟨hx, hb, hml, hown, hts⟩ (tm_out l G M _ T ta S Y hW b 9) (cwV 2 hts (lw_V q1141 q1143 qs19 q61 q1144) rfl rfl rfl (by decide +kernel) ⟨Nat.le_of_ble_eq_true rfl, Nat.le_of_ble_eq_true rfl⟩) (preV hT hR hS hW.1 rfl rfl) rfl rfl hl.1 rfl (lv_room (Nat.le_of_ble_eq_true rfl)) dX6_told_14 ⟨Nat.le_of_ble_eq_true rfl, Nat.le_of_ble_eq_true rfl⟩) ?_
    refine W.eq (g2 := F0 m 17 ls [.int (bI (outP b 9)), .ref T]) rfl ?_
    refine lv_if_eq (tgt := 24) hx hb dX6_told_17 (by decide) (fun c_3 => ?_) (fun c_3 => ?_)
    · skip
      have c_3 := b_0 c_3
      have hbb : nb b 9 := outP_nb 9 (by decide) c_3
      have hbb1 := hbb.1
      have hbb2 := hbb.2
      refine lv_iconst (v := 0) hx hb dX6_told_24 (by decide) ?_
      refine r_put (ci := 10) (v := .int 0) (ty := .int) (C := RX6) (T := TX6) (N := 33) hx hb hts in_X6 tyX6 tyX6_ok nmX6 hown hT hR hS hW.1 rfl 32 (by decide) (hts _ q1064) (fun _ h9 => h9) rfl (by decide +kernel) rfl rfl (Nat.le_of_ble_eq_true rfl) dX6_told_25 (fun H locs hz hR hS => ?_)
      obtain ⟨M, hR, hW⟩ : ∃ M1 : Mp, Rp G M1 H ∧ TR G T ta (sF S 32 0) Y M1 := ⟨_, hR, hW.setF 32 (by decide) (by decide) 0⟩
      refine lv_aload_n hx hb dX6_told_28 rfl (lv_at hl 0 rfl) ?_
      refine va_get (D := G.1) (ci := 10) (v := .int 0) (C := RX6) (T := TX6) (N := 33) hx hb hts in_X6 hown hT.1 (hR.one hW.1) 0 rfl rfl 32 (by decide) (hts _ q1064) (fun _ h9 => h9) rfl dX6_told_29 ?_
      refine lv_if_eq (tgt := 37) hx hb dX6_told_32 (by decide) (fun c_4 => ?_) (fun c_4 => ?_)
      · skip
        refine lv_iload_n hx hb dX6_told_37 rfl (lv_at hl 2 rfl) ?_
        rcases (show ix b = 0 ∨ ix b = 1 ∨ ix b = 2 ∨ ix b = 3 ∨ ix b = 4 ∨ ix b = 5 ∨ ix b = 6 ∨ ix b = 7 ∨ ix b = 8 ∨ ix b = 9 by omega) with h8 | h8 | h8 | h8 | h8 | h8 | h8 | h8 | h8 | h8
        · skip
          obtain rfl : b = 0 := hbb1.trans (congrArg nI h8)
          clear h8
          refine lv_tableIn (off := 50) (tgt := 88) hx hb dX6_told_38 (by decide) (by decide) rfl (by decide) ?_
          have hE : tTold S a 0 = (sF S 32 0, tTold1 S (ix a) 0) := ((if_neg c_1).trans ((if_neg c_3).trans (rfl))).trans (congrArg (fun z9 => (sF S 32 0, tTold1 S (ix a) z9)) (show ix (0 : Int32) = 0 by decide))
          refine lv_aload_n hx hb dX6_told_88 rfl (lv_at hl 0 rfl) ?_
          refine va_get (D := G.1) (ci := 10) (v := .ref (ta 6)) (C := RX6) (T := TX6) (N := 33) hx hb hts in_X6 hown hT.1 (hR.one hW.1) 0 rfl rfl 6 (by decide) (hts _ q1038) (fun _ h9 => h9) rfl dX6_told_89 ?_
          refine lv_iload_n hx hb dX6_told_92 rfl (lv_at hl 1 rfl) ?_
          refine r_iald hx hb hT hR (hW.i 6 6 (by decide) (by decide) rfl) (j := (ix a)) ha1 (by omega) (by decide) dX6_told_93 ?_
          refine W.eq (g2 := F0 m 94 ls (.int (gI S 6 (ix a)) :: [])) rfl ?_
          exact W.iret hx hb hr (q_ret (⟨congrArg (fun z9 : Tw × Int32 => some (Value.int z9.2)) (hE.trans (congrArg (fun z9 => (sF S 32 0, z9)) (rfl : tTold1 S (ix a) 0 = gI S 6 (ix a)))).symm, TR.eq (congrArg Prod.fst hE) hW⟩) hR hS) hS.2.2 dX6_told_94
        · skip
          obtain rfl : b = 1 := hbb1.trans (congrArg nI h8)
          clear h8
          refine lv_tableIn (off := 57) (tgt := 95) hx hb dX6_told_38 (by decide) (by decide) rfl (by decide) ?_
          have hE : tTold S a 1 = (sF S 32 0, tTold1 S (ix a) 1) := ((if_neg c_1).trans ((if_neg c_3).trans (rfl))).trans (congrArg (fun z9 => (sF S 32 0, tTold1 S (ix a) z9)) (show ix (1 : Int32) = 1 by decide))
          refine lv_aload_n hx hb dX6_told_95 rfl (lv_at hl 0 rfl) ?_
          refine lv_iload_n hx hb dX6_told_96 rfl (lv_at hl 1 rfl) ?_
          refine W.eq (g2 := F0 m 97 ls [.int (nI (ix a)), .ref T]) (congrArg (fun z9 => F0 m 97 ls [.int z9, .ref T]) (ha1)) ?_
          refine g_pure (va_runV (As := [.int (nI (ix a))]) (rest := []) ⟨hx, hb, hml, hown, hts⟩ (tm_fine l G M _ T ta (sF S 32 0) Y hW (ix a) (by omega) (hok (ix a) (by omega))) (cwV 1 hts (lw_V q1175 q1177 qs23 q61 q1178) rfl rfl rfl (by decide +kernel) ⟨Nat.le_of_ble_eq_true rfl, Nat.le_of_ble_eq_true rfl⟩) (preV hT hR hS hW.1 rfl rfl) rfl rfl hl.1 rfl (lv_room (Nat.le_of_ble_eq_true rfl)) dX6_told_97 ⟨Nat.le_of_ble_eq_true rfl, Nat.le_of_ble_eq_true rfl⟩) ?_
          refine W.eq (g2 := F0 m 100 ls [.int (bI (tFine (sF S 32 0) (ix a)))]) rfl ?_
          refine lv_if_eq (tgt := 107) hx hb dX6_told_100 (by decide) (fun c_5 => ?_) (fun c_5 => ?_)
          · skip
            have c_5 := b_0 c_5
            refine lv_iconst (v := 0) hx hb dX6_told_107 (by decide) ?_
            exact W.iret hx hb hr (q_ret (⟨congrArg (fun z9 : Tw × Int32 => some (Value.int z9.2)) (hE.trans (congrArg (fun z9 => (sF S 32 0, z9)) ((if_neg c_5).trans (rfl) : tTold1 S (ix a) 1 = 0))).symm, TR.eq (congrArg Prod.fst hE) hW⟩) hR hS) hS.2.2 dX6_told_108
          · skip
            have c_5 := b_n0 c_5
            refine lv_iconst (v := 1) hx hb dX6_told_103 (by decide) ?_
            refine lv_goto (tgt := 108) hx hb dX6_told_104 (by decide) ?_
            exact W.iret hx hb hr (q_ret (⟨congrArg (fun z9 : Tw × Int32 => some (Value.int z9.2)) (hE.trans (congrArg (fun z9 => (sF S 32 0, z9)) ((if_pos c_5).trans (rfl) : tTold1 S (ix a) 1 = 1))).symm, TR.eq (congrArg Prod.fst hE) hW⟩) hR hS) hS.2.2 dX6_told_108
        · skip
          obtain rfl : b = 2 := hbb1.trans (congrArg nI h8)
          clear h8
          refine lv_tableIn (off := 71) (tgt := 109) hx hb dX6_told_38 (by decide) (by decide) rfl (by decide) ?_
          have hE : tTold S a 2 = (sF S 32 0, tTold1 S (ix a) 2) := ((if_neg c_1).trans ((if_neg c_3).trans (rfl))).trans (congrArg (fun z9 => (sF S 32 0, tTold1 S (ix a) z9)) (show ix (2 : Int32) = 2 by decide))
          refine lv_aload_n hx hb dX6_told_109 rfl (lv_at hl 0 rfl) ?_
          refine va_get (D := G.1) (ci := 10) (v := .ref (ta 6)) (C := RX6) (T := TX6) (N := 33) hx hb hts in_X6 hown hT.1 (hR.one hW.1) 0 rfl rfl 6 (by decide) (hts _ q1038) (fun _ h9 => h9) rfl dX6_told_110 ?_
          refine lv_iload_n hx hb dX6_told_113 rfl (lv_at hl 1 rfl) ?_
          refine r_iald hx hb hT hR (hW.i 6 6 (by decide) (by decide) rfl) (j := (ix a)) ha1 (by omega) (by decide) dX6_told_114 ?_
          refine W.eq (g2 := F0 m 115 ls (.int (gI S 6 (ix a)) :: [])) rfl ?_
          refine lv_iconst (v := 1) hx hb dX6_told_115 (by decide) ?_
          refine lv_icmp_ne (tgt := 128) hx hb dX6_told_116 (by decide) (fun c_6 => ?_) (fun c_6 => ?_)
          · skip
            refine lv_iconst (v := 0) hx hb dX6_told_128 (by decide) ?_
            exact W.iret hx hb hr (q_ret (⟨congrArg (fun z9 : Tw × Int32 => some (Value.int z9.2)) (hE.trans (congrArg (fun z9 => (sF S 32 0, z9)) ((if_neg c_6).trans (rfl) : tTold1 S (ix a) 2 = 0))).symm, TR.eq (congrArg Prod.fst hE) hW⟩) hR hS) hS.2.2 dX6_told_129
          · skip
            refine lv_aload_n hx hb dX6_told_119 rfl (lv_at hl 0 rfl) ?_
            refine va_get (D := G.1) (ci := 10) (v := .ref (ta 9)) (C := RX6) (T := TX6) (N := 33) hx hb hts in_X6 hown hT.1 (hR.one hW.1) 0 rfl rfl 9 (by decide) (hts _ q1041) (fun _ h9 => h9) rfl dX6_told_120 ?_
            refine lv_iload_n hx hb dX6_told_123 rfl (lv_at hl 1 rfl) ?_
            refine r_iald hx hb hT hR (hW.i 9 6 (by decide) (by decide) rfl) (j := (ix a)) ha1 (by omega) (by decide) dX6_told_124 ?_
            refine W.eq (g2 := F0 m 125 ls (.int (gI S 9 (ix a)) :: [])) rfl ?_
            refine lv_goto (tgt := 129) hx hb dX6_told_125 (by decide) ?_
            exact W.iret hx hb hr (q_ret (⟨congrArg (fun z9 : Tw × Int32 => some (Value.int z9.2)) (hE.trans (congrArg (fun z9 => (sF S 32 0, z9)) ((if_pos c_6).trans (rfl) : tTold1 S (ix a) 2 = gI S 9 (ix a)))).symm, TR.eq (congrArg Prod.fst hE) hW⟩) hR hS) hS.2.2 dX6_told_129
        · skip
          obtain rfl : b = 3 := hbb1.trans (congrArg nI h8)
          clear h8
          refine lv_tableIn (off := 92) (tgt := 130) hx hb dX6_told_38 (by decide) (by decide) rfl (by decide) ?_
          have hE : tTold S a 3 = (sF S 32 0, tTold1 S (ix a) 3) := ((if_neg c_1).trans ((if_neg c_3).trans (rfl))).trans (congrArg (fun z9 => (sF S 32 0, tTold1 S (ix a) z9)) (show ix (3 : Int32) = 3 by decide))
          refine lv_aload_n hx hb dX6_told_130 rfl (lv_at hl 0 rfl) ?_
          refine va_get (D := G.1) (ci := 10) (v := .ref (ta 6)) (C := RX6) (T := TX6) (N := 33) hx hb hts in_X6 hown hT.1 (hR.one hW.1) 0 rfl rfl 6 (by decide) (hts _ q1038) (fun _ h9 => h9) rfl dX6_told_131 ?_
          refine lv_iload_n hx hb dX6_told_134 rfl (lv_at hl 1 rfl) ?_
          refine r_iald hx hb hT hR (hW.i 6 6 (by decide) (by decide) rfl) (j := (ix a)) ha1 (by omega) (by decide) dX6_told_135 ?_
          refine W.eq (g2 := F0 m 136 ls (.int (gI S 6 (ix a)) :: [])) rfl ?_
          refine lv_iconst (v := 2) hx hb dX6_told_136 (by decide) ?_
          refine lv_icmp_ne (tgt := 149) hx hb dX6_told_137 (by decide) (fun c_7 => ?_) (fun c_7 => ?_)
          · skip
            refine lv_iconst (v := 0) hx hb dX6_told_149 (by decide) ?_
            exact W.iret hx hb hr (q_ret (⟨congrArg (fun z9 : Tw × Int32 => some (Value.int z9.2)) (hE.trans (congrArg (fun z9 => (sF S 32 0, z9)) ((if_neg c_7).trans (rfl) : tTold1 S (ix a) 3 = 0))).symm, TR.eq (congrArg Prod.fst hE) hW⟩) hR hS) hS.2.2 dX6_told_150
          · skip
            refine lv_aload_n hx hb dX6_told_140 rfl (lv_at hl 0 rfl) ?_
            refine va_get (D := G.1) (ci := 10) (v := .ref (ta 10)) (C := RX6) (T := TX6) (N := 33) hx hb hts in_X6 hown hT.1 (hR.one hW.1) 0 rfl rfl 10 (by decide) (hts _ q1042) (fun _ h9 => h9) rfl dX6_told_141 ?_
            refine lv_iload_n hx hb dX6_told_144 rfl (lv_at hl 1 rfl) ?_
            refine r_iald hx hb hT hR (hW.i 10 6 (by decide) (by decide) rfl) (j := (ix a)) ha1 (by omega) (by decide) dX6_told_145 ?_
            refine W.eq (g2 := F0 m 146 ls (.int (gI S 10 (ix a)) :: [])) rfl ?_
            refine lv_goto (tgt := 150) hx hb dX6_told_146 (by decide) ?_
            exact W.iret hx hb hr (q_ret (⟨congrArg (fun z9 : Tw × Int32 => some (Value.int z9.2)) (hE.trans (congrArg (fun z9 => (sF S 32 0, z9)) ((if_pos c_7).trans (rfl) : tTold1 S (ix a) 3 = gI S 10 (ix a)))).symm, TR.eq (congrArg Prod.fst hE) hW⟩) hR hS) hS.2.2 dX6_told_150
        · skip
          obtain rfl : b = 4 := hbb1.trans (congrArg nI h8)
          clear h8
          refine lv_tableIn (off := 113) (tgt := 151) hx hb dX6_told_38 (by decide) (by decide) rfl (by decide) ?_
          have hE : tTold S a 4 = (sF S 32 0, tTold1 S (ix a) 4) := ((if_neg c_1).trans ((if_neg c_3).trans (rfl))).trans (congrArg (fun z9 => (sF S 32 0, tTold1 S (ix a) z9)) (show ix (4 : Int32) = 4 by decide))
          refine lv_aload_n hx hb dX6_told_151 rfl (lv_at hl 0 rfl) ?_
          refine va_get (D := G.1) (ci := 10) (v := .ref (ta 16)) (C := RX6) (T := TX6) (N := 33) hx hb hts in_X6 hown hT.1 (hR.one hW.1) 0 rfl rfl 16 (by decide) (hts _ q1048) (fun _ h9 => h9) rfl dX6_told_152 ?_
          refine lv_iload_n hx hb dX6_told_155 rfl (lv_at hl 1 rfl) ?_
          refine r_iald hx hb hT hR (hW.i 16 6 (by decide) (by decide) rfl) (j := (ix a)) ha1 (by omega) (by decide) dX6_told_156 ?_
          refine W.eq (g2 := F0 m 157 ls (.int (gI S 16 (ix a)) :: [])) rfl ?_
          exact W.iret hx hb hr (q_ret (⟨congrArg (fun z9 : Tw × Int32 => some (Value.int z9.2)) (hE.trans (congrArg (fun z9 => (sF S 32 0, z9)) (rfl : tTold1 S (ix a) 4 = gI S 16 (ix a)))).symm, TR.eq (congrArg Prod.fst hE) hW⟩) hR hS) hS.2.2 dX6_told_157
        · skip
          obtain rfl : b = 5 := hbb1.trans (congrArg nI h8)
          clear h8
          refine lv_tableIn (off := 120) (tgt := 158) hx hb dX6_told_38 (by decide) (by decide) rfl (by decide) ?_
          have hE : tTold S a 5 = (sF S 32 0, tTold1 S (ix a) 5) := ((if_neg c_1).trans ((if_neg c_3).trans (rfl))).trans (congrArg (fun z9 => (sF S 32 0, tTold1 S (ix a) z9)) (show ix (5 : Int32) = 5 by decide))
          refine lv_aload_n hx hb dX6_told_158 rfl (lv_at hl 0 rfl) ?_
          refine va_get (D := G.1) (ci := 10) (v := .ref (ta 6)) (C := RX6) (T := TX6) (N := 33) hx hb hts in_X6 hown hT.1 (hR.one hW.1) 0 rfl rfl 6 (by decide) (hts _ q1038) (fun _ h9 => h9) rfl dX6_told_159 ?_
          refine lv_iload_n hx hb dX6_told_162 rfl (lv_at hl 1 rfl) ?_
          refine r_iald hx hb hT hR (hW.i 6 6 (by decide) (by decide) rfl) (j := (ix a)) ha1 (by omega) (by decide) dX6_told_163 ?_
          refine W.eq (g2 := F0 m 164 ls (.int (gI S 6 (ix a)) :: [])) rfl ?_
          refine lv_iconst (v := 2) hx hb dX6_told_164 (by decide) ?_
          refine lv_icmp_ne (tgt := 177) hx hb dX6_told_165 (by decide) (fun c_8 => ?_) (fun c_8 => ?_)
          · skip
            refine lv_iconst (v := 0) hx hb dX6_told_177 (by decide) ?_
            exact W.iret hx hb hr (q_ret (⟨congrArg (fun z9 : Tw × Int32 => some (Value.int z9.2)) (hE.trans (congrArg (fun z9 => (sF S 32 0, z9)) ((if_neg c_8).trans (rfl) : tTold1 S (ix a) 5 = 0))).symm, TR.eq (congrArg Prod.fst hE) hW⟩) hR hS) hS.2.2 dX6_told_178
          · skip
            refine lv_aload_n hx hb dX6_told_168 rfl (lv_at hl 0 rfl) ?_
            refine va_get (D := G.1) (ci := 10) (v := .ref (ta 11)) (C := RX6) (T := TX6) (N := 33) hx hb hts in_X6 hown hT.1 (hR.one hW.1) 0 rfl rfl 11 (by decide) (hts _ q1043) (fun _ h9 => h9) rfl dX6_told_169 ?_
            refine lv_iload_n hx hb dX6_told_172 rfl (lv_at hl 1 rfl) ?_
            refine r_iald hx hb hT hR (hW.i 11 6 (by decide) (by decide) rfl) (j := (ix a)) ha1 (by omega) (by decide) dX6_told_173 ?_
            refine W.eq (g2 := F0 m 174 ls (.int (gI S 11 (ix a)) :: [])) rfl ?_
            refine lv_goto (tgt := 178) hx hb dX6_told_174 (by decide) ?_
            exact W.iret hx hb hr (q_ret (⟨congrArg (fun z9 : Tw × Int32 => some (Value.int z9.2)) (hE.trans (congrArg (fun z9 => (sF S 32 0, z9)) ((if_pos c_8).trans (rfl) : tTold1 S (ix a) 5 = gI S 11 (ix a)))).symm, TR.eq (congrArg Prod.fst hE) hW⟩) hR hS) hS.2.2 dX6_told_178
        · skip
          obtain rfl : b = 6 := hbb1.trans (congrArg nI h8)
          clear h8
          refine lv_tableIn (off := 141) (tgt := 179) hx hb dX6_told_38 (by decide) (by decide) rfl (by decide) ?_
          have hE : tTold S a 6 = (sF S 32 0, tTold1 S (ix a) 6) := ((if_neg c_1).trans ((if_neg c_3).trans (rfl))).trans (congrArg (fun z9 => (sF S 32 0, tTold1 S (ix a) z9)) (show ix (6 : Int32) = 6 by decide))
          refine lv_aload_n hx hb dX6_told_179 rfl (lv_at hl 0 rfl) ?_
          refine va_get (D := G.1) (ci := 10) (v := .ref (ta 13)) (C := RX6) (T := TX6) (N := 33) hx hb hts in_X6 hown hT.1 (hR.one hW.1) 0 rfl rfl 13 (by decide) (hts _ q1045) (fun _ h9 => h9) rfl dX6_told_180 ?_
          refine lv_iconst (v := 2) hx hb dX6_told_183 (by decide) ?_
          refine lv_iload_n hx hb dX6_told_184 rfl (lv_at hl 1 rfl) ?_
          refine lv_imul hx hb dX6_told_185 ?_
          refine W.eq (g2 := F0 m 186 ls (.int (nI (2 * (ix a))) :: [.ref (ta 13)])) (congrArg (fun z => F0 m 186 ls (.int z :: [.ref (ta 13)])) (mulN rfl ha1)) ?_
          refine lv_iload_n hx hb dX6_told_186 rfl (lv_at hl 2 rfl) ?_
          refine lv_iadd hx hb dX6_told_187 ?_
          refine W.eq (g2 := F0 m 188 ls (.int (nI (2 * (ix a) + 6)) :: [.ref (ta 13)])) (congrArg (fun z => F0 m 188 ls (.int z :: [.ref (ta 13)])) (addN rfl rfl)) ?_
          refine lv_bipush (v := 6) hx hb dX6_told_188 (by decide) ?_
          refine lv_isub hx hb dX6_told_190 ?_
          refine W.eq (g2 := F0 m 191 ls (.int (nI (2 * ix a)) :: [.ref (ta 13)])) (by rw [show (nI (2 * (ix a) + 6)) - 6 = nI (2 * ix a) from (subN (a := 2 * ix a + 6) (b := 6) rfl rfl (by omega)).trans (congrArg nI (by omega))]) ?_
          refine r_iald hx hb hT hR (hW.i 13 12 (by decide) (by decide) rfl) (j := (2 * ix a)) rfl (by omega) (by decide) dX6_told_191 ?_
          refine W.eq (g2 := F0 m 192 ls (.int (gI S 13 (2 * ix a)) :: [])) rfl ?_
          exact W.iret hx hb hr (q_ret (⟨congrArg (fun z9 : Tw × Int32 => some (Value.int z9.2)) (hE.trans (congrArg (fun z9 => (sF S 32 0, z9)) (rfl : tTold1 S (ix a) 6 = gI S 13 (2 * ix a)))).symm, TR.eq (congrArg Prod.fst hE) hW⟩) hR hS) hS.2.2 dX6_told_192
        · skip
          obtain rfl : b = 7 := hbb1.trans (congrArg nI h8)
          clear h8
          refine lv_tableIn (off := 141) (tgt := 179) hx hb dX6_told_38 (by decide) (by decide) rfl (by decide) ?_
          have hE : tTold S a 7 = (sF S 32 0, tTold1 S (ix a) 7) := ((if_neg c_1).trans ((if_neg c_3).trans (rfl))).trans (congrArg (fun z9 => (sF S 32 0, tTold1 S (ix a) z9)) (show ix (7 : Int32) = 7 by decide))
          refine lv_aload_n hx hb dX6_told_179 rfl (lv_at hl 0 rfl) ?_
          refine va_get (D := G.1) (ci := 10) (v := .ref (ta 13)) (C := RX6) (T := TX6) (N := 33) hx hb hts in_X6 hown hT.1 (hR.one hW.1) 0 rfl rfl 13 (by decide) (hts _ q1045) (fun _ h9 => h9) rfl dX6_told_180 ?_
          refine lv_iconst (v := 2) hx hb dX6_told_183 (by decide) ?_
          refine lv_iload_n hx hb dX6_told_184 rfl (lv_at hl 1 rfl) ?_
          refine lv_imul hx hb dX6_told_185 ?_
          refine W.eq (g2 := F0 m 186 ls (.int (nI (2 * (ix a))) :: [.ref (ta 13)])) (congrArg (fun z => F0 m 186 ls (.int z :: [.ref (ta 13)])) (mulN rfl ha1)) ?_
          refine lv_iload_n hx hb dX6_told_186 rfl (lv_at hl 2 rfl) ?_
          refine lv_iadd hx hb dX6_told_187 ?_
          refine W.eq (g2 := F0 m 188 ls (.int (nI (2 * (ix a) + 7)) :: [.ref (ta 13)])) (congrArg (fun z => F0 m 188 ls (.int z :: [.ref (ta 13)])) (addN rfl rfl)) ?_
          refine lv_bipush (v := 6) hx hb dX6_told_188 (by decide) ?_
          refine lv_isub hx hb dX6_told_190 ?_
          refine W.eq (g2 := F0 m 191 ls (.int (nI (2 * ix a + 1)) :: [.ref (ta 13)])) (by rw [show (nI (2 * (ix a) + 7)) - 6 = nI (2 * ix a + 1) from (subN (a := 2 * ix a + 7) (b := 6) rfl rfl (by omega)).trans (congrArg nI (by omega))]) ?_
          refine r_iald hx hb hT hR (hW.i 13 12 (by decide) (by decide) rfl) (j := (2 * ix a + 1)) rfl (by omega) (by decide) dX6_told_191 ?_
          refine W.eq (g2 := F0 m 192 ls (.int (gI S 13 (2 * ix a + 1)) :: [])) rfl ?_
          exact W.iret hx hb hr (q_ret (⟨congrArg (fun z9 : Tw × Int32 => some (Value.int z9.2)) (hE.trans (congrArg (fun z9 => (sF S 32 0, z9)) (rfl : tTold1 S (ix a) 7 = gI S 13 (2 * ix a + 1)))).symm, TR.eq (congrArg Prod.fst hE) hW⟩) hR hS) hS.2.2 dX6_told_192
        · skip
          obtain rfl : b = 8 := hbb1.trans (congrArg nI h8)
          clear h8
          refine lv_tableIn (off := 155) (tgt := 193) hx hb dX6_told_38 (by decide) (by decide) rfl (by decide) ?_
          have hE : tTold S a 8 = (sF S 32 0, tTold1 S (ix a) 8) := ((if_neg c_1).trans ((if_neg c_3).trans (rfl))).trans (congrArg (fun z9 => (sF S 32 0, tTold1 S (ix a) z9)) (show ix (8 : Int32) = 8 by decide))
          refine lv_aload_n hx hb dX6_told_193 rfl (lv_at hl 0 rfl) ?_
          refine va_get (D := G.1) (ci := 10) (v := .ref (ta 7)) (C := RX6) (T := TX6) (N := 33) hx hb hts in_X6 hown hT.1 (hR.one hW.1) 0 rfl rfl 7 (by decide) (hts _ q1039) (fun _ h9 => h9) rfl dX6_told_194 ?_
          refine lv_iload_n hx hb dX6_told_197 rfl (lv_at hl 1 rfl) ?_
          refine r_iald hx hb hT hR (hW.i 7 6 (by decide) (by decide) rfl) (j := (ix a)) ha1 (by omega) (by decide) dX6_told_198 ?_
          refine W.eq (g2 := F0 m 199 ls (.int (gI S 7 (ix a)) :: [])) rfl ?_
          exact W.iret hx hb hr (q_ret (⟨congrArg (fun z9 : Tw × Int32 => some (Value.int z9.2)) (hE.trans (congrArg (fun z9 => (sF S 32 0, z9)) (rfl : tTold1 S (ix a) 8 = gI S 7 (ix a)))).symm, TR.eq (congrArg Prod.fst hE) hW⟩) hR hS) hS.2.2 dX6_told_199
        · skip
          obtain rfl : b = 9 := hbb1.trans (congrArg nI h8)
          clear h8
          refine lv_tableOut (tgt := 200) hx hb dX6_told_38 (Or.inr (by decide)) (by decide) ?_
          have hE : tTold S a 9 = (sF S 32 0, tTold1 S (ix a) 9) := ((if_neg c_1).trans ((if_neg c_3).trans (rfl))).trans (congrArg (fun z9 => (sF S 32 0, tTold1 S (ix a) z9)) (show ix (9 : Int32) = 9 by decide))
          refine lv_aload_n hx hb dX6_told_200 rfl (lv_at hl 0 rfl) ?_
          refine va_get (D := G.1) (ci := 10) (v := .ref (ta 8)) (C := RX6) (T := TX6) (N := 33) hx hb hts in_X6 hown hT.1 (hR.one hW.1) 0 rfl rfl 8 (by decide) (hts _ q1040) (fun _ h9 => h9) rfl dX6_told_201 ?_
          refine lv_iload_n hx hb dX6_told_204 rfl (lv_at hl 1 rfl) ?_
          refine r_iald hx hb hT hR (hW.i 8 6 (by decide) (by decide) rfl) (j := (ix a)) ha1 (by omega) (by decide) dX6_told_205 ?_
          refine W.eq (g2 := F0 m 206 ls (.int (gI S 8 (ix a)) :: [])) rfl ?_
          exact W.iret hx hb hr (q_ret (⟨congrArg (fun z9 : Tw × Int32 => some (Value.int z9.2)) (hE.trans (congrArg (fun z9 => (sF S 32 0, z9)) (rfl : tTold1 S (ix a) 9 = gI S 8 (ix a)))).symm, TR.eq (congrArg Prod.fst hE) hW⟩) hR hS) hS.2.2 dX6_told_206
      · skip
        exact absurd c_4 (by decide)
    · skip
      have c_3 := b_n0 c_3
      refine lv_iconst (v := 1) hx hb dX6_told_20 (by decide) ?_
      refine lv_goto (tgt := 25) hx hb dX6_told_21 (by decide) ?_
      refine r_put (ci := 10) (v := .int 1) (ty := .int) (C := RX6) (T := TX6) (N := 33) hx hb hts in_X6 tyX6 tyX6_ok nmX6 hown hT hR hS hW.1 rfl 32 (by decide) (hts _ q1064) (fun _ h9 => h9) rfl (by decide +kernel) rfl rfl (Nat.le_of_ble_eq_true rfl) dX6_told_25 (fun H locs hz hR hS => ?_)
      obtain ⟨M, hR, hW⟩ : ∃ M1 : Mp, Rp G M1 H ∧ TR G T ta (sF S 32 1) Y M1 := ⟨_, hR, hW.setF 32 (by decide) (by decide) 1⟩
      refine lv_aload_n hx hb dX6_told_28 rfl (lv_at hl 0 rfl) ?_
      refine va_get (D := G.1) (ci := 10) (v := .int 1) (C := RX6) (T := TX6) (N := 33) hx hb hts in_X6 hown hT.1 (hR.one hW.1) 0 rfl rfl 32 (by decide) (hts _ q1064) (fun _ h9 => h9) rfl dX6_told_29 ?_
      refine lv_if_eq (tgt := 37) hx hb dX6_told_32 (by decide) (fun c_9 => ?_) (fun c_9 => ?_)
      · skip
        exact absurd c_9 (by decide)
      · skip
        refine lv_iconst (v := 0) hx hb dX6_told_35 (by decide) ?_
        exact W.iret hx hb hr (q_ret (⟨congrArg (fun z9 : Tw × Int32 => some (Value.int z9.2)) ((if_neg c_1).trans ((if_pos c_3).trans (rfl)) : tTold S a b = ((sF S 32 1), 0)).symm, TR.eq (congrArg Prod.fst ((if_neg c_1).trans ((if_pos c_3).trans (rfl)) : tTold S a b = ((sF S 32 1), 0))) hW⟩) hR hS) hS.2.2 dX6_told_36
set_option maxHeartbeats 4000000 in
set_option maxRecDepth 100000 in
theorem tm_count (l : Launch) (G : Gw) (M : Mp) (sz : Nat) (T : Nat) (ta : Nat → Nat) (S : Tw) (Y : Mp) (hW : TR G T ta S Y M) (a : Int32) : Ct l yX6_count cX6_count 2 (some .int) 2 0 0 [.ref T, .int a] G M sz (fun v M1 _ => v = some (.int (tCount S a)) ∧ TR G T ta (sF S 32 0) Y M1) := by
  refine Met.ofW (cc := cX6_count) (maxL := 2) (ret := (some .int)) (by decide) rfl ?_
  intro p e s m args below meth c s₁ B hml hv
  obtain ⟨rfl, hT, hR, hsz⟩ := hv
  have hx := B.exec
  have hb := B.bytes
  have hr := B.returns
  have hts := atoms_spec (ws := ws_ yX6_count cX6_count 2 (some .int)) B.pre
  have hts : ∀ w ∈ lw_all, w.before _ s = true := fun w h => hts w (List.mem_cons_of_mem _ h)
  have hown : s.vm.findClass RX6 = some m.cls := findClass_of_methodNamed B.named
  have hlocks := B.notSynchronized
  have hS : va_S (Af G) s.heap s.heap [] := va_S.rf
  have hl := lv_entry ([.ref T, .int a]) (n := 2) (Nat.le_of_ble_eq_true rfl)
  rw [lg_entry_eq]
  generalize (lg_sl ([.ref T, .int a]) ++ List.replicate (2 - (lg_sl ([.ref T, .int a])).length) Slot.unset).toArray = ls at hl ⊢
  have hl : lv_has ls 2 [(0, .ref T), (1, .int a)] := hl
  refine lv_aload_n hx hb dX6_count_0 rfl (lv_at hl 0 rfl) ?_
  refine lv_iconst (v := 0) hx hb dX6_count_1 (by decide) ?_
  refine r_put (ci := 10) (v := .int 0) (ty := .int) (C := RX6) (T := TX6) (N := 33) hx hb hts in_X6 tyX6 tyX6_ok nmX6 hown hT hR hS hW.1 rfl 32 (by decide) (hts _ q1064) (fun _ h9 => h9) rfl (by decide +kernel) rfl rfl (Nat.le_of_ble_eq_true rfl) dX6_count_2 (fun H locs hz hR hS => ?_)
  obtain ⟨M, hR, hW⟩ : ∃ M1 : Mp, Rp G M1 H ∧ TR G T ta (sF S 32 0) Y M1 := ⟨_, hR, hW.setF 32 (by decide) (by decide) 0⟩
  refine lv_iload_n hx hb dX6_count_5 rfl (lv_at hl 1 rfl) ?_
  by_cases h9 : outP a 8
  · skip
    refine lv_tableOut (tgt := 101) hx hb dX6_count_6 (outP_int 8 (by decide) h9) (by decide) ?_
    refine lv_iload_n hx hb dX6_count_101 rfl (lv_at hl 1 rfl) ?_
    refine lv_bipush (v := 10) hx hb dX6_count_102 (by decide) ?_
    refine lv_icmp_lt (tgt := 124) hx hb dX6_count_104 (by decide) (fun c_1 => ?_) (fun c_1 => ?_)
    · skip
      refine lv_bipush (v := -2) hx hb dX6_count_124 (by decide) ?_
      exact W.iret hx hb hr (q_ret (⟨congrArg (fun z9 => some (Value.int z9)) ((if_pos h9).trans ((if_pos c_1).trans (rfl)) : tCount S a = (-2)).symm, hW⟩) hR hS) hS.2.2 dX6_count_126
    · skip
      refine lv_iload_n hx hb dX6_count_107 rfl (lv_at hl 1 rfl) ?_
      refine lv_bipush (v := 15) hx hb dX6_count_108 (by decide) ?_
      refine lv_icmp_gt (tgt := 124) hx hb dX6_count_110 (by decide) (fun c_2 => ?_) (fun c_2 => ?_)
      · skip
        refine lv_bipush (v := -2) hx hb dX6_count_124 (by decide) ?_
        exact W.iret hx hb hr (q_ret (⟨congrArg (fun z9 => some (Value.int z9)) ((if_pos h9).trans ((if_neg c_1).trans ((if_pos c_2).trans (rfl))) : tCount S a = (-2)).symm, hW⟩) hR hS) hS.2.2 dX6_count_126
      · skip
        refine lv_aload_n hx hb dX6_count_113 rfl (lv_at hl 0 rfl) ?_
        refine lv_iload_n hx hb dX6_count_114 rfl (lv_at hl 1 rfl) ?_
        refine lv_bipush (v := 10) hx hb dX6_count_115 (by decide) ?_
        refine lv_isub hx hb dX6_count_117 ?_
        refine g_pure (va_runV (As := [.int (a - 10)]) (rest := []) ⟨hx, hb, hml, hown, hts⟩ (tm_request l G M _ T ta (sF S 32 0) Y hW (a - 10)) (cwV 1 hts (lw_V q1219 q1221 qs33 q61 q1222) rfl rfl rfl (by decide +kernel) ⟨Nat.le_of_ble_eq_true rfl, Nat.le_of_ble_eq_true rfl⟩) (preV hT hR hS hW.1 rfl rfl) rfl rfl hl.1 rfl (lv_room (Nat.le_of_ble_eq_true rfl)) dX6_count_118 ⟨Nat.le_of_ble_eq_true rfl, Nat.le_of_ble_eq_true rfl⟩) ?_
        refine W.eq (g2 := F0 m 121 ls [.int (tReq (sF S 32 0) (a - 10))]) rfl ?_
        refine lv_goto (tgt := 126) hx hb dX6_count_121 (by decide) ?_
        exact W.iret hx hb hr (q_ret (⟨congrArg (fun z9 => some (Value.int z9)) ((if_pos h9).trans ((if_neg c_1).trans ((if_neg c_2).trans ((tReq_sF S 32 0 (a - 10)).symm))) : tCount S a = tReq (sF S 32 0) (a - 10)).symm, hW⟩) hR hS) hS.2.2 dX6_count_126
  · skip
    have ha : nb a 8 := outP_nb 8 (by decide) h9
    have ha1 := ha.1
    have ha2 := ha.2
    rcases (show ix a = 0 ∨ ix a = 1 ∨ ix a = 2 ∨ ix a = 3 ∨ ix a = 4 ∨ ix a = 5 ∨ ix a = 6 ∨ ix a = 7 ∨ ix a = 8 by omega) with h8 | h8 | h8 | h8 | h8 | h8 | h8 | h8 | h8
    · skip
      obtain rfl : a = 0 := ha1.trans (congrArg nI h8)
      clear h8
      refine lv_tableIn (off := 50) (tgt := 56) hx hb dX6_count_6 (by decide) (by decide) rfl (by decide) ?_
      have hE : tCount S 0 = tCount1 S 0 := (if_neg h9).trans (congrArg (tCount1 S) (show ix (0 : Int32) = 0 by decide))
      refine lv_aload_n hx hb dX6_count_56 rfl (lv_at hl 0 rfl) ?_
      refine va_get (D := G.1) (ci := 10) (v := .int (gF S 25)) (C := RX6) (T := TX6) (N := 33) hx hb hts in_X6 hown hT.1 (hR.one hW.1) 0 rfl rfl 25 (by decide) (hts _ q1057) (fun _ h9 => h9) rfl dX6_count_57 ?_
      exact W.iret hx hb hr (q_ret (⟨congrArg (fun z9 => some (Value.int z9)) (hE.trans (rfl : tCount1 S 0 = gF S 25)).symm, hW⟩) hR hS) hS.2.2 dX6_count_60
    · skip
      obtain rfl : a = 1 := ha1.trans (congrArg nI h8)
      clear h8
      refine lv_tableIn (off := 55) (tgt := 61) hx hb dX6_count_6 (by decide) (by decide) rfl (by decide) ?_
      have hE : tCount S 1 = tCount1 S 1 := (if_neg h9).trans (congrArg (tCount1 S) (show ix (1 : Int32) = 1 by decide))
      refine lv_aload_n hx hb dX6_count_61 rfl (lv_at hl 0 rfl) ?_
      refine va_get (D := G.1) (ci := 10) (v := .int (gF S 26)) (C := RX6) (T := TX6) (N := 33) hx hb hts in_X6 hown hT.1 (hR.one hW.1) 0 rfl rfl 26 (by decide) (hts _ q1058) (fun _ h9 => h9) rfl dX6_count_62 ?_
      exact W.iret hx hb hr (q_ret (⟨congrArg (fun z9 => some (Value.int z9)) (hE.trans (rfl : tCount1 S 1 = gF S 26)).symm, hW⟩) hR hS) hS.2.2 dX6_count_65
    · skip
      obtain rfl : a = 2 := ha1.trans (congrArg nI h8)
      clear h8
      refine lv_tableIn (off := 60) (tgt := 66) hx hb dX6_count_6 (by decide) (by decide) rfl (by decide) ?_
      have hE : tCount S 2 = tCount1 S 2 := (if_neg h9).trans (congrArg (tCount1 S) (show ix (2 : Int32) = 2 by decide))
      refine lv_aload_n hx hb dX6_count_66 rfl (lv_at hl 0 rfl) ?_
      refine va_get (D := G.1) (ci := 10) (v := .int (gF S 27)) (C := RX6) (T := TX6) (N := 33) hx hb hts in_X6 hown hT.1 (hR.one hW.1) 0 rfl rfl 27 (by decide) (hts _ q1059) (fun _ h9 => h9) rfl dX6_count_67 ?_
      exact W.iret hx hb hr (q_ret (⟨congrArg (fun z9 => some (Value.int z9)) (hE.trans (rfl : tCount1 S 2 = gF S 27)).symm, hW⟩) hR hS) hS.2.2 dX6_count_70
    · skip
      obtain rfl : a = 3 := ha1.trans (congrArg nI h8)
      clear h8
      refine lv_tableIn (off := 65) (tgt := 71) hx hb dX6_count_6 (by decide) (by decide) rfl (by decide) ?_
      have hE : tCount S 3 = tCount1 S 3 := (if_neg h9).trans (congrArg (tCount1 S) (show ix (3 : Int32) = 3 by decide))
      refine lv_aload_n hx hb dX6_count_71 rfl (lv_at hl 0 rfl) ?_
      refine va_get (D := G.1) (ci := 10) (v := .int (gF S 28)) (C := RX6) (T := TX6) (N := 33) hx hb hts in_X6 hown hT.1 (hR.one hW.1) 0 rfl rfl 28 (by decide) (hts _ q1060) (fun _ h9 => h9) rfl dX6_count_72 ?_
      exact W.iret hx hb hr (q_ret (⟨congrArg (fun z9 => some (Value.int z9)) (hE.trans (rfl : tCount1 S 3 = gF S 28)).symm, hW⟩) hR hS) hS.2.2 dX6_count_75
    · skip
      obtain rfl : a = 4 := ha1.trans (congrArg nI h8)
      clear h8
      refine lv_tableIn (off := 70) (tgt := 76) hx hb dX6_count_6 (by decide) (by decide) rfl (by decide) ?_
      have hE : tCount S 4 = tCount1 S 4 := (if_neg h9).trans (congrArg (tCount1 S) (show ix (4 : Int32) = 4 by decide))
      refine lv_aload_n hx hb dX6_count_76 rfl (lv_at hl 0 rfl) ?_
      refine va_get (D := G.1) (ci := 10) (v := .int (gF S 29)) (C := RX6) (T := TX6) (N := 33) hx hb hts in_X6 hown hT.1 (hR.one hW.1) 0 rfl rfl 29 (by decide) (hts _ q1061) (fun _ h9 => h9) rfl dX6_count_77 ?_
      exact W.iret hx hb hr (q_ret (⟨congrArg (fun z9 => some (Value.int z9)) (hE.trans (rfl : tCount1 S 4 = gF S 29)).symm, hW⟩) hR hS) hS.2.2 dX6_count_80
    · skip
      obtain rfl : a = 5 := ha1.trans (congrArg nI h8)
      clear h8
      refine lv_tableIn (off := 75) (tgt := 81) hx hb dX6_count_6 (by decide) (by decide) rfl (by decide) ?_
      have hE : tCount S 5 = tCount1 S 5 := (if_neg h9).trans (congrArg (tCount1 S) (show ix (5 : Int32) = 5 by decide))
      refine lv_aload_n hx hb dX6_count_81 rfl (lv_at hl 0 rfl) ?_
      refine va_get (D := G.1) (ci := 10) (v := .int (gF S 30)) (C := RX6) (T := TX6) (N := 33) hx hb hts in_X6 hown hT.1 (hR.one hW.1) 0 rfl rfl 30 (by decide) (hts _ q1062) (fun _ h9 => h9) rfl dX6_count_82 ?_
      exact W.iret hx hb hr (q_ret (⟨congrArg (fun z9 => some (Value.int z9)) (hE.trans (rfl : tCount1 S 5 = gF S 30)).symm, hW⟩) hR hS) hS.2.2 dX6_count_85
    · skip
      obtain rfl : a = 6 := ha1.trans (congrArg nI h8)
      clear h8
      refine lv_tableIn (off := 80) (tgt := 86) hx hb dX6_count_6 (by decide) (by decide) rfl (by decide) ?_
      have hE : tCount S 6 = tCount1 S 6 := (if_neg h9).trans (congrArg (tCount1 S) (show ix (6 : Int32) = 6 by decide))
      refine lv_aload_n hx hb dX6_count_86 rfl (lv_at hl 0 rfl) ?_
      refine g_pure (va_runV (As := []) (rest := []) ⟨hx, hb, hml, hown, hts⟩ (tm_requests l G M _ T ta (sF S 32 0) Y hW) (cwV 0 hts (lw_V q1215 q1217 qs32 q61 q1218) rfl rfl rfl (by decide +kernel) ⟨Nat.le_of_ble_eq_true rfl, Nat.le_of_ble_eq_true rfl⟩) (preV hT hR hS hW.1 rfl rfl) rfl rfl hl.1 rfl (lv_room (Nat.le_of_ble_eq_true rfl)) dX6_count_87 ⟨Nat.le_of_ble_eq_true rfl, Nat.le_of_ble_eq_true rfl⟩) ?_
      refine W.eq (g2 := F0 m 90 ls [.int (nI (tCnt (sF S 32 0)))]) rfl ?_
      exact W.iret hx hb hr (q_ret (⟨congrArg (fun z9 => some (Value.int z9)) (hE.trans (rfl : tCount1 S 6 = nI (tCnt (sF S 32 0)))).symm, hW⟩) hR hS) hS.2.2 dX6_count_90
    · skip
      obtain rfl : a = 7 := ha1.trans (congrArg nI h8)
      clear h8
      refine lv_tableIn (off := 85) (tgt := 91) hx hb dX6_count_6 (by decide) (by decide) rfl (by decide) ?_
      have hE : tCount S 7 = tCount1 S 7 := (if_neg h9).trans (congrArg (tCount1 S) (show ix (7 : Int32) = 7 by decide))
      refine lv_aload_n hx hb dX6_count_91 rfl (lv_at hl 0 rfl) ?_
      refine va_get (D := G.1) (ci := 10) (v := .int (gF S 23)) (C := RX6) (T := TX6) (N := 33) hx hb hts in_X6 hown hT.1 (hR.one hW.1) 0 rfl rfl 23 (by decide) (hts _ q1055) (fun _ h9 => h9) rfl dX6_count_92 ?_
      exact W.iret hx hb hr (q_ret (⟨congrArg (fun z9 => some (Value.int z9)) (hE.trans (rfl : tCount1 S 7 = gF S 23)).symm, hW⟩) hR hS) hS.2.2 dX6_count_95
    · skip
      obtain rfl : a = 8 := ha1.trans (congrArg nI h8)
      clear h8
      refine lv_tableIn (off := 90) (tgt := 96) hx hb dX6_count_6 (by decide) (by decide) rfl (by decide) ?_
      have hE : tCount S 8 = tCount1 S 8 := (if_neg h9).trans (congrArg (tCount1 S) (show ix (8 : Int32) = 8 by decide))
      refine lv_aload_n hx hb dX6_count_96 rfl (lv_at hl 0 rfl) ?_
      refine va_get (D := G.1) (ci := 10) (v := .int (gF S 31)) (C := RX6) (T := TX6) (N := 33) hx hb hts in_X6 hown hT.1 (hR.one hW.1) 0 rfl rfl 31 (by decide) (hts _ q1063) (fun _ h9 => h9) rfl dX6_count_97 ?_
      exact W.iret hx hb hr (q_ret (⟨congrArg (fun z9 => some (Value.int z9)) (hE.trans (rfl : tCount1 S 8 = gF S 31)).symm, hW⟩) hR hS) hS.2.2 dX6_count_100
