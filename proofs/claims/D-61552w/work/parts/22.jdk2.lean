/-! ArrayList, the rest: iterators, remove, clear; Math.min -/
theorem u5_ws {own : String} {idx : Nat} {C owner : String} {x y : MethodName} {b : ByteArray} {L : Nat} {r : Option FieldType} (h1 : Cond.methodLink own idx x ∈ lw_all) (h2 : Cond.sameMethod x.cls owner x.name x.desc ∈ lw_all) (h3 : Cond.selects C x y ∈ lw_all) (h4 : Cond.instanceMethod y ∈ lw_all) (h5 : Cond.initialized y.cls ∈ lw_all) (h6 : Cond.code y b L r ∈ lw_all) : GoodIn lw_all (va_wsU own idx C owner x y (ws_ y b L r)) := by
  refine lw_app ?_ (lw_meth h6)
  intro w hw
  simp only [List.mem_cons, List.not_mem_nil, or_false] at hw
  rcases hw with e | e | e | e | e
  · rw [e]; exact h1
  · rw [e]; exact h2
  · rw [e]; exact h3
  · rw [e]; exact h4
  · rw [e]; exact h5
def lsC (xs : List Nat) (i : Nat) : Nat → Option Nat := fun j => if j < i then none else xs[j]?
theorem lsC_0 (xs : List Nat) : lsC xs 0 = lsO xs := by
  funext j
  unfold lsC lsO
  rw [if_neg (by omega)]
theorem lsC_up (xs : List Nat) (i : Nat) : va_up (lsC xs i) i none = lsC xs (i + 1) := by
  funext j
  unfold va_up lsC
  by_cases h : j = i
  · rw [if_pos h, if_pos (by omega)]
  · rw [if_neg h]
    by_cases h2 : j < i
    · rw [if_pos h2, if_pos (by omega)]
    · rw [if_neg h2, if_neg (by omega)]
theorem lsC_all (xs : List Nat) : lsC xs xs.length = lsO [] := by
  funext j
  unfold lsC lsO
  by_cases h : j < xs.length
  · rw [if_pos h]; rfl
  · rw [if_neg h, List.getElem?_eq_none (by omega)]; rfl
def mMin (a b : Int32) : Int32 := if b < a then b else a
theorem some_at {xs : List Nat} {i : Nat} (h : i < xs.length) : ∃ y, xs[i]? = some y := ⟨xs[i], List.getElem?_eq_getElem h⟩
set_option maxHeartbeats 4000000 in
set_option maxRecDepth 100000 in
theorem met_itinit (l : Launch) (G : Gw) (M : Mp) (sz : Nat) (L E cap : Nat) (mc : Int32) (xs : List Nat) (hc : cap < 2 ^ 31) (hx9 : xs.length ≤ cap) (hL : M L = some (ob 8 [.int mc, .ref E, .int (nI xs.length)])) (hE : M E = some (aO G cap (lsO xs))) (It : Nat) (hI : M It = some (ob 9 [.int 0, .int 0, .int 0, .null])) : Ct l yJ18_init cJ18_init 2 none 1 0 0 [.ref It, .ref L] G M sz (fun r M1 _ => r = none ∧ M1 = mu M It (ob 9 [.int 0, .int (-1), .int mc, .ref L])) := by
  refine Met.ofW (cc := cJ18_init) (maxL := 2) (ret := none) (by decide) rfl ?_
  intro p e s m args below meth c s₁ B hml hv
  obtain ⟨rfl, hT, hR, hsz⟩ := hv
  have hx := B.exec
  have hb := B.bytes
  have hr := B.returns
  have hts := atoms_spec (ws := ws_ yJ18_init cJ18_init 2 none) B.pre
  have hts : ∀ w ∈ lw_all, w.before _ s = true := fun w h => hts w (List.mem_cons_of_mem _ h)
  have hown : s.vm.findClass RJ18 = some m.cls := findClass_of_methodNamed B.named
  have hlocks := B.notSynchronized
  have hin : meth.name = "<init>" := (name_of_methodNamed B.named B.method).1
  have hS : va_S (Af G) s.heap s.heap [] := va_S.rf
  have hl := lv_entry ([.ref It, .ref L]) (n := 2) (Nat.le_of_ble_eq_true rfl)
  rw [lg_entry_eq]
  generalize (lg_sl ([.ref It, .ref L]) ++ List.replicate (2 - (lg_sl ([.ref It, .ref L])).length) Slot.unset).toArray = ls at hl ⊢
  have hl : lv_has ls 2 [(0, .ref It), (1, .ref L)] := hl
  refine lv_aload_n hx hb dJ18_init_0 rfl (lv_at hl 0 rfl) ?_
  refine lv_aload_n hx hb dJ18_init_1 rfl (lv_at hl 1 rfl) ?_
  refine r_putF (ci := 9) (v := .ref L) (ty := .object "java/util/ArrayList") (C := RJ18) (T := TJ18) (N := 4) hx hb hts in_J18 tyJ18 tyJ18_ok nmJ18 hown hT hR hS hI rfl 3 (by decide) (hts _ q669) (fun _ h9 => h9) rfl hin rfl (by decide +kernel) rfl rfl (Nat.le_of_ble_eq_true rfl) dJ18_init_2 (fun H locs hz hR hS => ?_)
  have hsz : H.size = sz := hz.trans hsz
  have k_1 : (mu M It (ob 9 [.int 0, .int 0, .int 0, .ref L])) L = some (ob 8 [.int mc, .ref E, .int (nI xs.length)]) := muL (ne_tag hL hI rfl) hL
  have k_2 : (mu M It (ob 9 [.int 0, .int 0, .int 0, .ref L])) E = some (aO G cap (lsO xs)) := muL (ne_tag hE hI rfl) hE
  have hR : Rp G (mu M It (ob 9 [.int 0, .int 0, .int 0, .ref L])) H := hR
  refine lv_aload_n hx hb dJ18_init_5 rfl (lv_at hl 0 rfl) ?_
  refine W.objInit hx hb hown (hts _ q665) (hts _ q78) (hts _ q79) rfl (by rw [hml]; exact hl.1) rfl dJ18_init_6 (Nat.le_of_ble_eq_true rfl) (Nat.le_of_ble_eq_true rfl) ?_
  refine W.eq (g2 := F0 m 9 ls []) rfl ?_
  refine lv_aload_n hx hb dJ18_init_9 rfl (lv_at hl 0 rfl) ?_
  refine lv_iconst (v := -1) hx hb dJ18_init_10 (by decide) ?_
  refine r_put (ci := 9) (v := .int (-1)) (ty := .int) (C := RJ18) (T := TJ18) (N := 4) hx hb hts in_J18 tyJ18 tyJ18_ok nmJ18 hown hT hR hS (mu_eq _ _ _) rfl 1 (by decide) (hts _ q667) (fun _ h9 => h9) rfl (by decide +kernel) rfl rfl (Nat.le_of_ble_eq_true rfl) dJ18_init_11 (fun H locs hz hR hS => ?_)
  have hsz : H.size = sz := hz.trans hsz
  have k_3 : (mu (mu M It (ob 9 [.int 0, .int 0, .int 0, .ref L])) It (ob 9 [.int 0, .int (-1), .int 0, .ref L])) L = some (ob 8 [.int mc, .ref E, .int (nI xs.length)]) := muL (ne_tag k_1 (mu_eq _ _ _) rfl) k_1
  have k_4 : (mu (mu M It (ob 9 [.int 0, .int 0, .int 0, .ref L])) It (ob 9 [.int 0, .int (-1), .int 0, .ref L])) E = some (aO G cap (lsO xs)) := muL (ne_tag k_2 (mu_eq _ _ _) rfl) k_2
  have hR : Rp G (mu (mu M It (ob 9 [.int 0, .int 0, .int 0, .ref L])) It (ob 9 [.int 0, .int (-1), .int 0, .ref L])) H := hR
  refine lv_aload_n hx hb dJ18_init_14 rfl (lv_at hl 0 rfl) ?_
  refine lv_aload_n hx hb dJ18_init_15 rfl (lv_at hl 0 rfl) ?_
  refine va_get (D := G.1) (ci := 9) (v := .ref L) (C := RJ18) (T := TJ18) (N := 4) hx hb hts in_J18 hown hT.1 (hR.one (mu_eq _ _ _)) 0 rfl rfl 3 (by decide) (hts _ q669) (fun _ h9 => h9) rfl dJ18_init_16 ?_
  refine va_get (D := G.1) (ci := 8) (v := .int mc) (C := RJ2) (T := TJ2) (N := 3) hx hb hts in_J2 hown hT.1 (hR.one k_3) 0 rfl rfl 0 (by decide) (hts _ q416) (fun x h9 => u_same (hts _ q417) x h9) rfl dJ18_init_19 ?_
  refine r_put (ci := 9) (v := .int mc) (ty := .int) (C := RJ18) (T := TJ18) (N := 4) hx hb hts in_J18 tyJ18 tyJ18_ok nmJ18 hown hT hR hS (mu_eq _ _ _) rfl 2 (by decide) (hts _ q668) (fun _ h9 => h9) rfl (by decide +kernel) rfl rfl (Nat.le_of_ble_eq_true rfl) dJ18_init_22 (fun H locs hz hR hS => ?_)
  have hsz : H.size = sz := hz.trans hsz
  have k_5 : (mu (mu (mu M It (ob 9 [.int 0, .int 0, .int 0, .ref L])) It (ob 9 [.int 0, .int (-1), .int 0, .ref L])) It (ob 9 [.int 0, .int (-1), .int mc, .ref L])) L = some (ob 8 [.int mc, .ref E, .int (nI xs.length)]) := muL (ne_tag k_3 (mu_eq _ _ _) rfl) k_3
  have k_6 : (mu (mu (mu M It (ob 9 [.int 0, .int 0, .int 0, .ref L])) It (ob 9 [.int 0, .int (-1), .int 0, .ref L])) It (ob 9 [.int 0, .int (-1), .int mc, .ref L])) E = some (aO G cap (lsO xs)) := muL (ne_tag k_4 (mu_eq _ _ _) rfl) k_4
  have hR : Rp G (mu (mu (mu M It (ob 9 [.int 0, .int 0, .int 0, .ref L])) It (ob 9 [.int 0, .int (-1), .int 0, .ref L])) It (ob 9 [.int 0, .int (-1), .int mc, .ref L])) H := hR
  exact W.vret hx hb hr (q_ret (⟨rfl, by rw [mu_mu, mu_mu]⟩) hR hS) hS.2.2 dJ18_init_25
set_option maxHeartbeats 4000000 in
set_option maxRecDepth 100000 in
theorem met_iterator (l : Launch) (G : Gw) (M : Mp) (sz : Nat) (L E cap : Nat) (mc : Int32) (xs : List Nat) (hc : cap < 2 ^ 31) (hx9 : xs.length ≤ cap) (hL : M L = some (ob 8 [.int mc, .ref E, .int (nI xs.length)])) (hE : M E = some (aO G cap (lsO xs))) : Ct l yJ2_iterator cJ2_iterator 1 (some (.object "java/util/Iterator")) 2 1 4 [.ref L] G M sz (fun r M1 _ => ∃ q, M q = none ∧ r = some (.ref q) ∧ M1 = mu M q (ob 9 [.int 0, .int (-1), .int mc, .ref L])) := by
  refine Met.ofW (cc := cJ2_iterator) (maxL := 1) (ret := (some (.object "java/util/Iterator"))) (by decide) rfl ?_
  intro p e s m args below meth c s₁ B hml hv
  obtain ⟨rfl, hT, hR, hsz⟩ := hv
  have hx := B.exec
  have hb := B.bytes
  have hr := B.returns
  have hts := atoms_spec (ws := ws_ yJ2_iterator cJ2_iterator 1 (some (.object "java/util/Iterator"))) B.pre
  have hts : ∀ w ∈ lw_all, w.before _ s = true := fun w h => hts w (List.mem_cons_of_mem _ h)
  have hown : s.vm.findClass RJ2 = some m.cls := findClass_of_methodNamed B.named
  have hlocks := B.notSynchronized
  have hS : va_S (Af G) s.heap s.heap [] := va_S.rf
  have hl := lv_entry ([.ref L]) (n := 1) (Nat.le_of_ble_eq_true rfl)
  rw [lg_entry_eq]
  generalize (lg_sl ([.ref L]) ++ List.replicate (1 - (lg_sl ([.ref L])).length) Slot.unset).toArray = ls at hl ⊢
  have hl : lv_has ls 1 [(0, .ref L)] := hl
  refine r_new (ci := 9) (fs := [.int 0, .int 0, .int 0, .null]) (C := RJ18) (T := TJ18) (N := 4) hx hb hts in_J18 tyJ18 tyJ18_ok hown (hts _ q660) (hts _ q661) (hts _ q63) hT hR hS rfl (fun j hj => by rcases (show j = 0 ∨ j = 1 ∨ j = 2 ∨ j = 3 by omega) with rfl | rfl | rfl | rfl <;> rfl) (by exact Nat.le_of_ble_eq_true rfl) (by exact Nat.le_of_ble_eq_true rfl) dJ2_iterator_0 (fun q_1 H hq_1 hz hq_1n hR hS => ?_)
  have n_3 : L ≠ q_1 := ne_none hq_1n hL
  have k_2 : (mu M q_1 (ob 9 [.int 0, .int 0, .int 0, .null])) L = some (ob 8 [.int mc, .ref E, .int (nI xs.length)]) := muL n_3 hL
  have n_5 : E ≠ q_1 := ne_none hq_1n hE
  have k_4 : (mu M q_1 (ob 9 [.int 0, .int 0, .int 0, .null])) E = some (aO G cap (lsO xs)) := muL n_5 hE
  have hR : Rp G (mu M q_1 (ob 9 [.int 0, .int 0, .int 0, .null])) H := hR
  have hq_1e : q_1 = sz := hq_1.trans hsz
  have hsz : H.size = sz + 1 := by rw [hz, hq_1e]
  refine W.widen (k := 1) (n := 4) (Nat.le_of_ble_eq_true rfl) (Nat.le_of_ble_eq_true rfl) ?_
  refine lv_dup hx hb dJ2_iterator_3 rfl ?_
  refine lv_aload_n hx hb dJ2_iterator_4 rfl (lv_at hl 0 rfl) ?_
  refine g_call (va_runI (As := [.ref L]) (rest := [.ref q_1]) ⟨hx, hb, hml, hown, hts⟩ (met_itinit l G (mu M q_1 (ob 9 [.int 0, .int 0, .int 0, .null])) _ L E cap mc xs hc hx9 k_2 k_4 q_1 (mu_eq _ _ _)) (cwI 1 hts (lw_meth q664) rfl rfl rfl (hts _ q63) (hts _ q662) (hts _ q663) rfl (by decide +kernel) ⟨Nat.le_of_ble_eq_true rfl, Nat.le_of_ble_eq_true rfl⟩) (preS hT hR hS) rfl rfl hl.1 rfl (lv_room (Nat.le_of_ble_eq_true rfl)) dJ2_iterator_5 ⟨Nat.le_of_ble_eq_true rfl, Nat.le_of_ble_eq_true rfl⟩) hS (fun v M1 H locs hq hR hz hS => ?_)
  obtain ⟨rfl, rfl⟩ := hq
  refine W.eq (g2 := F0 m 8 ls [.ref q_1]) rfl ?_
  refine W.widen (k := 1) (n := 4) (Nat.le_of_ble_eq_true rfl) (Nat.le_of_ble_eq_true rfl) ?_
  exact W.aret hx hb hr (Or.inl ⟨_, rfl⟩) (Or.inr ⟨_, rfl⟩) (q_ret (⟨q_1, hq_1n, rfl, mu_mu _ _ _ _⟩) hR hS) hS.2.2 dJ2_iterator_8
set_option maxHeartbeats 4000000 in
set_option maxRecDepth 100000 in
theorem met_hasNext (l : Launch) (G : Gw) (M : Mp) (sz : Nat) (L E cap : Nat) (mc : Int32) (xs : List Nat) (hc : cap < 2 ^ 31) (hx9 : xs.length ≤ cap) (hL : M L = some (ob 8 [.int mc, .ref E, .int (nI xs.length)])) (hE : M E = some (aO G cap (lsO xs))) (It cu : Nat) (lr : Int32) (hI : M It = some (ob 9 [.int (nI cu), .int lr, .int mc, .ref L])) (hcu : cu ≤ xs.length) : Cp l yJ18_hasNext cJ18_hasNext 1 (some .boolean) 0 [.ref It] G M sz (some (.int (bI (¬ cu = xs.length)))) := by
  refine Met.ofW (cc := cJ18_hasNext) (maxL := 1) (ret := (some .boolean)) (by decide) rfl ?_
  intro p e s m args below meth c s₁ B hml hv
  obtain ⟨rfl, hT, hR, hsz⟩ := hv
  have hx := B.exec
  have hb := B.bytes
  have hr := B.returns
  have hts := atoms_spec (ws := ws_ yJ18_hasNext cJ18_hasNext 1 (some .boolean)) B.pre
  have hts : ∀ w ∈ lw_all, w.before _ s = true := fun w h => hts w (List.mem_cons_of_mem _ h)
  have hown : s.vm.findClass RJ18 = some m.cls := findClass_of_methodNamed B.named
  have hlocks := B.notSynchronized
  have hS : va_S (Af G) s.heap s.heap [] := va_S.rf
  have hl := lv_entry ([.ref It]) (n := 1) (Nat.le_of_ble_eq_true rfl)
  rw [lg_entry_eq]
  generalize (lg_sl ([.ref It]) ++ List.replicate (1 - (lg_sl ([.ref It])).length) Slot.unset).toArray = ls at hl ⊢
  have hl : lv_has ls 1 [(0, .ref It)] := hl
  refine lv_aload_n hx hb dJ18_hasNext_0 rfl (lv_at hl 0 rfl) ?_
  refine va_get (D := G.1) (ci := 9) (v := .int (nI cu)) (C := RJ18) (T := TJ18) (N := 4) hx hb hts in_J18 hown hT.1 (hR.one hI) 0 rfl rfl 0 (by decide) (hts _ q666) (fun _ h9 => h9) rfl dJ18_hasNext_1 ?_
  refine lv_aload_n hx hb dJ18_hasNext_4 rfl (lv_at hl 0 rfl) ?_
  refine va_get (D := G.1) (ci := 9) (v := .ref L) (C := RJ18) (T := TJ18) (N := 4) hx hb hts in_J18 hown hT.1 (hR.one hI) 0 rfl rfl 3 (by decide) (hts _ q669) (fun _ h9 => h9) rfl dJ18_hasNext_5 ?_
  refine va_getN (D := G.1) (ci := 8) (v := .int (nI xs.length)) (C := RJ2) (T := TJ2) (N := 3) hx hb hts in_J2 hown hT.1 (hR.one hL) 0 rfl rfl 2 (by decide) (va_Nw.use rfl (hT.nw q413 rfl)) (fun _ h9 => h9) rfl dJ18_hasNext_8 ?_
  refine lv_icmp_eq (tgt := 18) hx hb dJ18_hasNext_11 (by decide) (fun c_1 => ?_) (fun c_1 => ?_)
  · skip
    refine lv_iconst (v := 0) hx hb dJ18_hasNext_18 (by decide) ?_
    exact W.zret hx hb hr rfl (fun t ht _ => ⟨(by rw [bI_f (fun h => h ((nI_eq (by omega) (by omega)).mp c_1))]), ht⟩) t_nil dJ18_hasNext_19
  · skip
    refine lv_iconst (v := 1) hx hb dJ18_hasNext_14 (by decide) ?_
    refine lv_goto (tgt := 19) hx hb dJ18_hasNext_15 (by decide) ?_
    exact W.zret hx hb hr rfl (fun t ht _ => ⟨(by rw [bI_t (show ¬ cu = xs.length from fun h => c_1 ((nI_eq (by omega) (by omega)).mpr h))]), ht⟩) t_nil dJ18_hasNext_19
set_option maxHeartbeats 4000000 in
set_option maxRecDepth 100000 in
theorem met_cfc (l : Launch) (G : Gw) (M : Mp) (sz : Nat) (L E cap : Nat) (mc : Int32) (xs : List Nat) (hc : cap < 2 ^ 31) (hx9 : xs.length ≤ cap) (hL : M L = some (ob 8 [.int mc, .ref E, .int (nI xs.length)])) (hE : M E = some (aO G cap (lsO xs))) (It cu : Nat) (lr : Int32) (hI : M It = some (ob 9 [.int (nI cu), .int lr, .int mc, .ref L])) : Cp l yJ18_checkForComodification cJ18_checkForComodification 1 none 0 [.ref It] G M sz (none) := by
  refine Met.ofW (cc := cJ18_checkForComodification) (maxL := 1) (ret := none) (by decide) rfl ?_
  intro p e s m args below meth c s₁ B hml hv
  obtain ⟨rfl, hT, hR, hsz⟩ := hv
  have hx := B.exec
  have hb := B.bytes
  have hr := B.returns
  have hts := atoms_spec (ws := ws_ yJ18_checkForComodification cJ18_checkForComodification 1 none) B.pre
  have hts : ∀ w ∈ lw_all, w.before _ s = true := fun w h => hts w (List.mem_cons_of_mem _ h)
  have hown : s.vm.findClass RJ18 = some m.cls := findClass_of_methodNamed B.named
  have hlocks := B.notSynchronized
  have hS : va_S (Af G) s.heap s.heap [] := va_S.rf
  have hl := lv_entry ([.ref It]) (n := 1) (Nat.le_of_ble_eq_true rfl)
  rw [lg_entry_eq]
  generalize (lg_sl ([.ref It]) ++ List.replicate (1 - (lg_sl ([.ref It])).length) Slot.unset).toArray = ls at hl ⊢
  have hl : lv_has ls 1 [(0, .ref It)] := hl
  refine lv_aload_n hx hb dJ18_checkForComodification_0 rfl (lv_at hl 0 rfl) ?_
  refine va_get (D := G.1) (ci := 9) (v := .ref L) (C := RJ18) (T := TJ18) (N := 4) hx hb hts in_J18 hown hT.1 (hR.one hI) 0 rfl rfl 3 (by decide) (hts _ q669) (fun _ h9 => h9) rfl dJ18_checkForComodification_1 ?_
  refine va_get (D := G.1) (ci := 8) (v := .int mc) (C := RJ2) (T := TJ2) (N := 3) hx hb hts in_J2 hown hT.1 (hR.one hL) 0 rfl rfl 0 (by decide) (hts _ q416) (fun x h9 => u_same (hts _ q417) x h9) rfl dJ18_checkForComodification_4 ?_
  refine lv_aload_n hx hb dJ18_checkForComodification_7 rfl (lv_at hl 0 rfl) ?_
  refine va_get (D := G.1) (ci := 9) (v := .int mc) (C := RJ18) (T := TJ18) (N := 4) hx hb hts in_J18 hown hT.1 (hR.one hI) 0 rfl rfl 2 (by decide) (hts _ q668) (fun _ h9 => h9) rfl dJ18_checkForComodification_8 ?_
  refine lv_icmp_eq (tgt := 22) hx hb dJ18_checkForComodification_11 (by decide) (fun c_1 => ?_) (fun c_1 => ?_)
  · skip
    exact W.vret hx hb hr (fun t ht _ => ⟨rfl, ht⟩) t_nil dJ18_checkForComodification_22
  · skip
    exact absurd rfl c_1
set_option maxHeartbeats 4000000 in
set_option maxRecDepth 100000 in
theorem met_next (l : Launch) (G : Gw) (M : Mp) (sz : Nat) (L E cap : Nat) (mc : Int32) (xs : List Nat) (hc : cap < 2 ^ 31) (hx9 : xs.length ≤ cap) (hL : M L = some (ob 8 [.int mc, .ref E, .int (nI xs.length)])) (hE : M E = some (aO G cap (lsO xs))) (It cu : Nat) (lr : Int32) (hI : M It = some (ob 9 [.int (nI cu), .int lr, .int mc, .ref L])) (y : Nat) (hcu : cu < xs.length) (hy : xs[cu]? = some y) : Ct l yJ18_next cJ18_next 3 (some (.object "java/lang/Object")) 1 0 0 [.ref It] G M sz (fun r M1 _ => r = some (.ref y) ∧ M1 = mu M It (ob 9 [.int (nI (cu + 1)), .int (nI cu), .int mc, .ref L])) := by
  refine Met.ofW (cc := cJ18_next) (maxL := 3) (ret := (some (.object "java/lang/Object"))) (by decide) rfl ?_
  intro p e s m args below meth c s₁ B hml hv
  obtain ⟨rfl, hT, hR, hsz⟩ := hv
  have hx := B.exec
  have hb := B.bytes
  have hr := B.returns
  have hts := atoms_spec (ws := ws_ yJ18_next cJ18_next 3 (some (.object "java/lang/Object"))) B.pre
  have hts : ∀ w ∈ lw_all, w.before _ s = true := fun w h => hts w (List.mem_cons_of_mem _ h)
  have hown : s.vm.findClass RJ18 = some m.cls := findClass_of_methodNamed B.named
  have hlocks := B.notSynchronized
  have hS : va_S (Af G) s.heap s.heap [] := va_S.rf
  have hl := lv_entry ([.ref It]) (n := 3) (Nat.le_of_ble_eq_true rfl)
  rw [lg_entry_eq]
  generalize (lg_sl ([.ref It]) ++ List.replicate (3 - (lg_sl ([.ref It])).length) Slot.unset).toArray = ls at hl ⊢
  have hl : lv_has ls 3 [(0, .ref It)] := hl
  refine lv_aload_n hx hb dJ18_next_0 rfl (lv_at hl 0 rfl) ?_
  refine g_pure (va_runV (As := []) (rest := []) ⟨hx, hb, hml, hown, hts⟩ (met_cfc l G M _ L E cap mc xs hc hx9 hL hE It cu lr hI) (cwV 0 hts (lw_V q698 q699 q700 q63 q701) rfl rfl rfl (by decide +kernel) ⟨Nat.le_of_ble_eq_true rfl, Nat.le_of_ble_eq_true rfl⟩) (preV hT hR hS hI rfl rfl) rfl rfl hl.1 rfl (lv_room (Nat.le_of_ble_eq_true rfl)) dJ18_next_1 ⟨Nat.le_of_ble_eq_true rfl, Nat.le_of_ble_eq_true rfl⟩) ?_
  refine W.eq (g2 := F0 m 4 ls []) rfl ?_
  refine lv_aload_n hx hb dJ18_next_4 rfl (lv_at hl 0 rfl) ?_
  refine va_get (D := G.1) (ci := 9) (v := .int (nI cu)) (C := RJ18) (T := TJ18) (N := 4) hx hb hts in_J18 hown hT.1 (hR.one hI) 0 rfl rfl 0 (by decide) (hts _ q666) (fun _ h9 => h9) rfl dJ18_next_5 ?_
  refine lv_istore_n (lv' := [(1, .int (nI cu)), (0, .ref It)]) hx hb dJ18_next_8 rfl hl (by decide) rfl (fun ls hl => ?_)
  refine lv_iload_n hx hb dJ18_next_9 rfl (lv_at hl 0 rfl) ?_
  refine lv_aload_n hx hb dJ18_next_10 rfl (lv_at hl 1 rfl) ?_
  refine va_get (D := G.1) (ci := 9) (v := .ref L) (C := RJ18) (T := TJ18) (N := 4) hx hb hts in_J18 hown hT.1 (hR.one hI) 0 rfl rfl 3 (by decide) (hts _ q669) (fun _ h9 => h9) rfl dJ18_next_11 ?_
  refine va_getN (D := G.1) (ci := 8) (v := .int (nI xs.length)) (C := RJ2) (T := TJ2) (N := 3) hx hb hts in_J2 hown hT.1 (hR.one hL) 0 rfl rfl 2 (by decide) (va_Nw.use rfl (hT.nw q413 rfl)) (fun _ h9 => h9) rfl dJ18_next_14 ?_
  refine lv_icmp_lt (tgt := 28) hx hb dJ18_next_17 (by decide) (fun c_1 => ?_) (fun c_1 => ?_)
  · skip
    refine lv_aload_n hx hb dJ18_next_28 rfl (lv_at hl 1 rfl) ?_
    refine va_get (D := G.1) (ci := 9) (v := .ref L) (C := RJ18) (T := TJ18) (N := 4) hx hb hts in_J18 hown hT.1 (hR.one hI) 0 rfl rfl 3 (by decide) (hts _ q669) (fun _ h9 => h9) rfl dJ18_next_29 ?_
    refine va_get (D := G.1) (ci := 8) (v := .ref E) (C := RJ2) (T := TJ2) (N := 3) hx hb hts in_J2 hown hT.1 (hR.one hL) 0 rfl rfl 1 (by decide) (hts _ q412) (fun _ h9 => h9) rfl dJ18_next_32 ?_
    refine lv_astore_n (lv' := [(2, .ref E), (1, .int (nI cu)), (0, .ref It)]) hx hb dJ18_next_35 rfl hl (by decide) rfl (fun ls hl => ?_)
    refine lv_iload_n hx hb dJ18_next_36 rfl (lv_at hl 1 rfl) ?_
    refine lv_aload_n hx hb dJ18_next_37 rfl (lv_at hl 0 rfl) ?_
    refine va_alen (v := nI cap) hx hb hT.1 (hR.one hE) 0 5 rfl rfl rfl dJ18_next_38 ?_
    refine lv_icmp_lt (tgt := 50) hx hb dJ18_next_39 (by decide) (fun c_2 => ?_) (fun c_2 => ?_)
    · skip
      refine lv_aload_n hx hb dJ18_next_50 rfl (lv_at hl 2 rfl) ?_
      refine lv_iload_n hx hb dJ18_next_51 rfl (lv_at hl 1 rfl) ?_
      refine lv_iconst (v := 1) hx hb dJ18_next_52 (by decide) ?_
      refine lv_iadd hx hb dJ18_next_53 ?_
      refine W.eq (g2 := F0 m 54 ls (.int (nI (cu + 1)) :: [.ref It])) (by rw [nI_1]) ?_
      refine r_put (ci := 9) (v := .int (nI (cu + 1))) (ty := .int) (C := RJ18) (T := TJ18) (N := 4) hx hb hts in_J18 tyJ18 tyJ18_ok nmJ18 hown hT hR hS hI rfl 0 (by decide) (hts _ q666) (fun _ h9 => h9) rfl (by decide +kernel) rfl rfl (Nat.le_of_ble_eq_true rfl) dJ18_next_54 (fun H locs hz hR hS => ?_)
      have hsz : H.size = sz := hz.trans hsz
      have k_3 : (mu M It (ob 9 [.int (nI (cu + 1)), .int lr, .int mc, .ref L])) L = some (ob 8 [.int mc, .ref E, .int (nI xs.length)]) := muL (ne_tag hL hI rfl) hL
      have k_4 : (mu M It (ob 9 [.int (nI (cu + 1)), .int lr, .int mc, .ref L])) E = some (aO G cap (lsO xs)) := muL (ne_tag hE hI rfl) hE
      have hR : Rp G (mu M It (ob 9 [.int (nI (cu + 1)), .int lr, .int mc, .ref L])) H := hR
      refine lv_aload_n hx hb dJ18_next_57 rfl (lv_at hl 0 rfl) ?_
      refine lv_aload_n hx hb dJ18_next_58 rfl (lv_at hl 2 rfl) ?_
      refine lv_iload_n hx hb dJ18_next_59 rfl (lv_at hl 1 rfl) ?_
      refine lv_dup_x1 hx hb dJ18_next_60 rfl rfl ?_
      refine r_put (ci := 9) (v := .int (nI cu)) (ty := .int) (C := RJ18) (T := TJ18) (N := 4) hx hb hts in_J18 tyJ18 tyJ18_ok nmJ18 hown hT hR hS (mu_eq _ _ _) rfl 1 (by decide) (hts _ q667) (fun _ h9 => h9) rfl (by decide +kernel) rfl rfl (Nat.le_of_ble_eq_true rfl) dJ18_next_61 (fun H locs hz hR hS => ?_)
      have hsz : H.size = sz := hz.trans hsz
      have k_5 : (mu (mu M It (ob 9 [.int (nI (cu + 1)), .int lr, .int mc, .ref L])) It (ob 9 [.int (nI (cu + 1)), .int (nI cu), .int mc, .ref L])) L = some (ob 8 [.int mc, .ref E, .int (nI xs.length)]) := muL (ne_tag k_3 (mu_eq _ _ _) rfl) k_3
      have k_6 : (mu (mu M It (ob 9 [.int (nI (cu + 1)), .int lr, .int mc, .ref L])) It (ob 9 [.int (nI (cu + 1)), .int (nI cu), .int mc, .ref L])) E = some (aO G cap (lsO xs)) := muL (ne_tag k_4 (mu_eq _ _ _) rfl) k_4
      have hR : Rp G (mu (mu M It (ob 9 [.int (nI (cu + 1)), .int lr, .int mc, .ref L])) It (ob 9 [.int (nI (cu + 1)), .int (nI cu), .int mc, .ref L])) H := hR
      refine r_aald hx hb hT 5 rfl hR k_6 (j := cu) rfl (by omega) (by omega) (y := y) hy dJ18_next_64 ?_
      exact W.aret hx hb hr (Or.inl ⟨_, rfl⟩) (Or.inr ⟨_, rfl⟩) (q_ret (⟨rfl, mu_mu _ _ _ _⟩) hR hS) hS.2.2 dJ18_next_65
    · skip
      exact absurd (nI_lt (show cu < cap by omega) (by omega)) c_2
  · skip
    exact absurd (nI_lt hcu (by omega)) c_1
set_option maxHeartbeats 4000000 in
set_option maxRecDepth 100000 in
theorem met_clear (l : Launch) (G : Gw) (M : Mp) (sz : Nat) (L E cap : Nat) (mc : Int32) (xs : List Nat) (hc : cap < 2 ^ 31) (hx9 : xs.length ≤ cap) (hL : M L = some (ob 8 [.int mc, .ref E, .int (nI xs.length)])) (hE : M E = some (aO G cap (lsO xs))) : Ct l yJ2_clear cJ2_clear 4 none 0 0 0 [.ref L] G M sz (fun r M1 _ => r = none ∧ M1 = mu (mu M E (aO G cap (lsO ([] : List Nat)))) L (ob 8 [.int (mc + 1), .ref E, .int (nI ([] : List Nat).length)])) := by
  refine Met.ofW (cc := cJ2_clear) (maxL := 4) (ret := none) (by decide) rfl ?_
  intro p e s m args below meth c s₁ B hml hv
  obtain ⟨rfl, hT, hR, hsz⟩ := hv
  have hx := B.exec
  have hb := B.bytes
  have hr := B.returns
  have hts := atoms_spec (ws := ws_ yJ2_clear cJ2_clear 4 none) B.pre
  have hts : ∀ w ∈ lw_all, w.before _ s = true := fun w h => hts w (List.mem_cons_of_mem _ h)
  have hown : s.vm.findClass RJ2 = some m.cls := findClass_of_methodNamed B.named
  have hlocks := B.notSynchronized
  have hS : va_S (Af G) s.heap s.heap [] := va_S.rf
  have hl := lv_entry ([.ref L]) (n := 4) (Nat.le_of_ble_eq_true rfl)
  rw [lg_entry_eq]
  generalize (lg_sl ([.ref L]) ++ List.replicate (4 - (lg_sl ([.ref L])).length) Slot.unset).toArray = ls at hl ⊢
  have hl : lv_has ls 4 [(0, .ref L)] := hl
  refine lv_aload_n hx hb dJ2_clear_0 rfl (lv_at hl 0 rfl) ?_
  refine lv_dup hx hb dJ2_clear_1 rfl ?_
  refine va_get (D := G.1) (ci := 8) (v := .int mc) (C := RJ2) (T := TJ2) (N := 3) hx hb hts in_J2 hown hT.1 (hR.one hL) 0 rfl rfl 0 (by decide) (hts _ q418) (fun x h9 => u_same (hts _ q417) x h9) rfl dJ2_clear_2 ?_
  refine lv_iconst (v := 1) hx hb dJ2_clear_5 (by decide) ?_
  refine lv_iadd hx hb dJ2_clear_6 ?_
  refine r_put (ci := 8) (v := .int (mc + 1)) (ty := .int) (C := RJ2) (T := TJ2) (N := 3) hx hb hts in_J2 tyJ2 tyJ2_ok nmJ2 hown hT hR hS hL rfl 0 (by decide) (hts _ q418) (fun x h9 => u_same (hts _ q417) x h9) rfl (by decide +kernel) rfl rfl (Nat.le_of_ble_eq_true rfl) dJ2_clear_7 (fun H locs hz hR hS => ?_)
  have hsz : H.size = sz := hz.trans hsz
  have k_1 : (mu M L (ob 8 [.int (mc + 1), .ref E, .int (nI xs.length)])) E = some (aO G cap (lsO xs)) := muL (ne_tag hE hL rfl) hE
  have hR : Rp G (mu M L (ob 8 [.int (mc + 1), .ref E, .int (nI xs.length)])) H := hR
  refine lv_aload_n hx hb dJ2_clear_10 rfl (lv_at hl 0 rfl) ?_
  refine va_get (D := G.1) (ci := 8) (v := .ref E) (C := RJ2) (T := TJ2) (N := 3) hx hb hts in_J2 hown hT.1 (hR.one (mu_eq _ _ _)) 0 rfl rfl 1 (by decide) (hts _ q411) (fun _ h9 => h9) rfl dJ2_clear_11 ?_
  refine lv_astore_n (lv' := [(1, .ref E), (0, .ref L)]) hx hb dJ2_clear_14 rfl hl (by decide) rfl (fun ls hl => ?_)
  refine lv_aload_n hx hb dJ2_clear_15 rfl (lv_at hl 1 rfl) ?_
  refine va_get (D := G.1) (ci := 8) (v := .int (nI xs.length)) (C := RJ2) (T := TJ2) (N := 3) hx hb hts in_J2 hown hT.1 (hR.one (mu_eq _ _ _)) 0 rfl rfl 2 (by decide) (hts _ q414) (fun _ h9 => h9) rfl dJ2_clear_16 ?_
  refine lv_istore_n (lv' := [(2, .int (nI xs.length)), (1, .ref E), (0, .ref L)]) hx hb dJ2_clear_19 rfl hl (by decide) rfl (fun ls hl => ?_)
  refine lv_aload_n hx hb dJ2_clear_20 rfl (lv_at hl 2 rfl) ?_
  refine lv_iconst (v := 0) hx hb dJ2_clear_21 (by decide) ?_
  refine lv_dup_x1 hx hb dJ2_clear_22 rfl rfl ?_
  refine r_put (ci := 8) (v := .int 0) (ty := .int) (C := RJ2) (T := TJ2) (N := 3) hx hb hts in_J2 tyJ2 tyJ2_ok nmJ2 hown hT hR hS (mu_eq _ _ _) rfl 2 (by decide) (hts _ q414) (fun _ h9 => h9) rfl (by decide +kernel) rfl rfl (Nat.le_of_ble_eq_true rfl) dJ2_clear_23 (fun H locs hz hR hS => ?_)
  have hsz : H.size = sz := hz.trans hsz
  have k_2 : (mu (mu M L (ob 8 [.int (mc + 1), .ref E, .int (nI xs.length)])) L (ob 8 [.int (mc + 1), .ref E, .int 0])) E = some (aO G cap (lsO xs)) := muL (ne_tag k_1 (mu_eq _ _ _) rfl) k_1
  have hR : Rp G (mu (mu M L (ob 8 [.int (mc + 1), .ref E, .int (nI xs.length)])) L (ob 8 [.int (mc + 1), .ref E, .int 0])) H := hR
  refine lv_istore_n (lv' := [(3, .int 0), (2, .int (nI xs.length)), (1, .ref E), (0, .ref L)]) hx hb dJ2_clear_26 rfl hl (by decide) rfl (fun ls hl => ?_)
  have hR : Rp G (mu (mu M L (ob 8 [.int (mc + 1), .ref E, .int 0])) E (aO G cap (lsC xs 0))) H := by rw [lsC_0, mu_self (muL (ne_tag hE hL rfl) hE), ← mu_mu M L (ob 8 [.int (mc + 1), .ref E, .int (nI xs.length)])]; exact hR
  have k27 : ∀ (n : Nat) (i : Nat) (H : Heap) (locs : List Loc) (ls : Array Slot), (i ≤ xs.length) → (xs.length < i + n) → Rp G (mu (mu M L (ob 8 [.int (mc + 1), .ref E, .int 0])) E (aO G cap (lsC xs i))) H → va_S (Af G) s.heap H locs → lv_has ls 4 [(1, .ref E), (2, .int (nI xs.length)), (3, .int (nI i))] → W p l e (headSpec (ws_ yJ2_clear cJ2_clear 4 none) (rmL 0 0 0)).room s m ([.ref L] : List Value).toArray below meth c H locs 0 0 (MQ below (Qg G (fun r M1 _ => r = none ∧ M1 = mu (mu M E (aO G cap (lsO ([] : List Nat)))) L (ob 8 [.int (mc + 1), .ref E, .int (nI ([] : List Nat).length)]))) ([.ref L] : List Value).toArray s 0 0 (Af G)) (F0 m 27 ls []) := by
    intro n
    induction n with
    | zero =>
      intro i H locs ls hi hf hR hS hl
      exact absurd hf (by omega)
    | succ n ih_k27 =>
      intro i H locs ls hi hf hR hS hl
      refine lv_iload_n hx hb dJ2_clear_27 rfl (lv_at hl 2 rfl) ?_
      refine lv_iload_n hx hb dJ2_clear_28 rfl (lv_at hl 1 rfl) ?_
      refine lv_icmp_ge (tgt := 42) hx hb dJ2_clear_29 (by decide) (fun c_3 => ?_) (fun c_3 => ?_)
      · skip
        have c_3 := (leN (a := xs.length) (b := i) rfl rfl (by omega) (by omega)).mp c_3
        obtain rfl : i = xs.length := by omega
        rw [lsC_all, mu_comm _ _ _ (ne_tag hL hE rfl)] at hR
        exact W.vret hx hb hr (q_ret (⟨rfl, rfl⟩) hR hS) hS.2.2 dJ2_clear_42
      · skip
        have c_3 := (not_congr (leN (a := xs.length) (b := i) rfl rfl (by omega) (by omega))).mp c_3
        refine lv_aload_n hx hb dJ2_clear_32 rfl (lv_at hl 0 rfl) ?_
        refine lv_iload_n hx hb dJ2_clear_33 rfl (lv_at hl 2 rfl) ?_
        refine lv_null hx hb dJ2_clear_34 ?_
        refine r_aastjN hx hb hT hR hS (mu_eq _ _ _) (j := i) rfl (by omega) (by omega) dJ2_clear_35 (fun H locs hz hR hS => ?_)
        have hR : Rp G (mu (mu (mu M L (ob 8 [.int (mc + 1), .ref E, .int 0])) E (aO G cap (lsC xs i))) E (aO G cap (va_up (lsC xs i) i none))) H := hR
        refine lv_iinc (v := nI (i + 1)) (lv' := [(3, .int (nI (i + 1))), (1, .ref E), (2, .int (nI xs.length))]) hx hb dJ2_clear_36 hl (k := 2) rfl (addN rfl rfl) (by decide) rfl (fun ls hl => ?_)
        refine lv_goto (tgt := 27) hx hb dJ2_clear_39 (by decide) ?_
        have hR : Rp G (mu (mu M L (ob 8 [.int (mc + 1), .ref E, .int 0])) E (aO G cap (lsC xs (i + 1)))) H := by rw [← lsC_up, ← mu_mu (mu M L (ob 8 [.int (mc + 1), .ref E, .int 0])) E (aO G cap (lsC xs i))]; exact hR
        exact ih_k27 (i + 1) _ _ _ (by omega) (by omega) hR hS (lv_sub hl [1, 2, 0] rfl)
  exact k27 (xs.length + 1) 0 _ _ _ (by omega) (by omega) hR hS (lv_sub hl [2, 1, 0] rfl)
set_option maxHeartbeats 4000000 in
set_option maxRecDepth 100000 in
theorem met_removeI (l : Launch) (G : Gw) (M : Mp) (sz : Nat) (L E cap : Nat) (mc : Int32) (xs : List Nat) (hc : cap < 2 ^ 31) (hx9 : xs.length ≤ cap) (hL : M L = some (ob 8 [.int mc, .ref E, .int (nI xs.length)])) (hE : M E = some (aO G cap (lsO xs))) (hel : ∀ x ∈ xs, isObj M x) (k y : Nat) (hk : k < xs.length) (hy : xs[k]? = some y) : Ct l yJ2_remove_2 cJ2_remove_2 4 (some (.object "java/lang/Object")) 2 0 0 [.ref L, .int (nI k)] G M sz (fun r M1 _ => r = some (.ref y) ∧ M1 = mu (mu M E (aO G cap (lsO (xs.eraseIdx k)))) L (ob 8 [.int (mc + 1), .ref E, .int (nI (xs.eraseIdx k).length)])) := by
  refine Met.ofW (cc := cJ2_remove_2) (maxL := 4) (ret := (some (.object "java/lang/Object"))) (by decide) rfl ?_
  intro p e s m args below meth c s₁ B hml hv
  obtain ⟨rfl, hT, hR, hsz⟩ := hv
  have hx := B.exec
  have hb := B.bytes
  have hr := B.returns
  have hts := atoms_spec (ws := ws_ yJ2_remove_2 cJ2_remove_2 4 (some (.object "java/lang/Object"))) B.pre
  have hts : ∀ w ∈ lw_all, w.before _ s = true := fun w h => hts w (List.mem_cons_of_mem _ h)
  have hown : s.vm.findClass RJ2 = some m.cls := findClass_of_methodNamed B.named
  have hlocks := B.notSynchronized
  have hS : va_S (Af G) s.heap s.heap [] := va_S.rf
  have hl := lv_entry ([.ref L, .int (nI k)]) (n := 4) (Nat.le_of_ble_eq_true rfl)
  rw [lg_entry_eq]
  generalize (lg_sl ([.ref L, .int (nI k)]) ++ List.replicate (4 - (lg_sl ([.ref L, .int (nI k)])).length) Slot.unset).toArray = ls at hl ⊢
  have hl : lv_has ls 4 [(0, .ref L), (1, .int (nI k))] := hl
  refine lv_iload_n hx hb dJ2_remove_2_0 rfl (lv_at hl 1 rfl) ?_
  refine lv_aload_n hx hb dJ2_remove_2_1 rfl (lv_at hl 0 rfl) ?_
  refine va_get (D := G.1) (ci := 8) (v := .int (nI xs.length)) (C := RJ2) (T := TJ2) (N := 3) hx hb hts in_J2 hown hT.1 (hR.one hL) 0 rfl rfl 2 (by decide) (hts _ q414) (fun _ h9 => h9) rfl dJ2_remove_2_2 ?_
  refine g_pure (va_runS (As := [.int (nI k), .int (nI xs.length)]) (rest := []) ⟨hx, hb, hml, hown, hts⟩ (met_oci l G M _ k xs.length hk (by omega)) (va_cwS 2 hts (lw_S q578 q579 q69 q580) rfl rfl rfl (by decide +kernel) ⟨Nat.le_of_ble_eq_true rfl, Nat.le_of_ble_eq_true rfl⟩) (preS hT hR hS) rfl rfl hl.1 rfl (lv_room (Nat.le_of_ble_eq_true rfl)) dJ2_remove_2_5 ⟨Nat.le_of_ble_eq_true rfl, Nat.le_of_ble_eq_true rfl⟩) ?_
  refine W.eq (g2 := F0 m 8 ls [.int (nI k)]) rfl ?_
  refine lv_pop hx hb dJ2_remove_2_8 rfl ?_
  refine lv_aload_n hx hb dJ2_remove_2_9 rfl (lv_at hl 0 rfl) ?_
  refine va_get (D := G.1) (ci := 8) (v := .ref E) (C := RJ2) (T := TJ2) (N := 3) hx hb hts in_J2 hown hT.1 (hR.one hL) 0 rfl rfl 1 (by decide) (hts _ q411) (fun _ h9 => h9) rfl dJ2_remove_2_10 ?_
  refine lv_astore_n (lv' := [(2, .ref E), (0, .ref L), (1, .int (nI k))]) hx hb dJ2_remove_2_13 rfl hl (by decide) rfl (fun ls hl => ?_)
  refine lv_aload_n hx hb dJ2_remove_2_14 rfl (lv_at hl 0 rfl) ?_
  refine lv_iload_n hx hb dJ2_remove_2_15 rfl (lv_at hl 2 rfl) ?_
  refine r_aald hx hb hT 5 rfl hR hE (j := k) rfl (by omega) (by omega) (y := y) hy dJ2_remove_2_16 ?_
  refine lv_astore_n (lv' := [(3, .ref y), (2, .ref E), (0, .ref L), (1, .int (nI k))]) hx hb dJ2_remove_2_17 rfl hl (by decide) rfl (fun ls hl => ?_)
  refine lv_aload_n hx hb dJ2_remove_2_18 rfl (lv_at hl 2 rfl) ?_
  refine lv_aload_n hx hb dJ2_remove_2_19 rfl (lv_at hl 1 rfl) ?_
  refine lv_iload_n hx hb dJ2_remove_2_20 rfl (lv_at hl 3 rfl) ?_
  refine g_call (va_runV (As := [.ref E, .int (nI k)]) (rest := []) ⟨hx, hb, hml, hown, hts⟩ (met_fastRemove l G M _ L E cap mc xs hc hx9 hL hE hel k hk) (cwV 2 hts (lw_V q745 q747 qs5 q40 q748) rfl rfl rfl (by decide +kernel) ⟨Nat.le_of_ble_eq_true rfl, Nat.le_of_ble_eq_true rfl⟩) (preV hT hR hS hL rfl rfl) rfl rfl hl.1 rfl (lv_room (Nat.le_of_ble_eq_true rfl)) dJ2_remove_2_21 ⟨Nat.le_of_ble_eq_true rfl, Nat.le_of_ble_eq_true rfl⟩) hS (fun v M1 H locs hq hR hz hS => ?_)
  obtain ⟨rfl, rfl⟩ := hq
  refine W.eq (g2 := F0 m 24 ls []) rfl ?_
  refine lv_aload_n hx hb dJ2_remove_2_24 rfl (lv_at hl 0 rfl) ?_
  exact W.aret hx hb hr (Or.inl ⟨_, rfl⟩) (Or.inr ⟨_, rfl⟩) (q_ret (⟨rfl, rfl⟩) hR hS) hS.2.2 dJ2_remove_2_25
set_option maxHeartbeats 4000000 in
set_option maxRecDepth 100000 in
theorem met_removeO (l : Launch) (G : Gw) (M : Mp) (sz : Nat) (L E cap : Nat) (mc : Int32) (xs : List Nat) (hc : cap < 2 ^ 31) (hx9 : xs.length ≤ cap) (hL : M L = some (ob 8 [.int mc, .ref E, .int (nI xs.length)])) (hE : M E = some (aO G cap (lsO xs))) (hel : ∀ x ∈ xs, isObj M x) (k v : Nat) (fs : List Value) (hv : M v = some (.inr (7, fs))) (hk : k < xs.length) (hkv : xs[k]? = some v) (h1st : ∀ i, i < k → ¬ xs[i]? = some v) : Ct l yJ2_remove cJ2_remove 5 (some .boolean) 2 0 0 [.ref L, .ref v] G M sz (fun r M1 _ => r = some (.int 1) ∧ M1 = mu (mu M E (aO G cap (lsO (xs.eraseIdx k)))) L (ob 8 [.int (mc + 1), .ref E, .int (nI (xs.eraseIdx k).length)])) := by
  refine Met.ofW (cc := cJ2_remove) (maxL := 5) (ret := (some .boolean)) (by decide) rfl ?_
  intro p e s m args below meth c s₁ B hml hv
  obtain ⟨rfl, hT, hR, hsz⟩ := hv
  have hx := B.exec
  have hb := B.bytes
  have hr := B.returns
  have hts := atoms_spec (ws := ws_ yJ2_remove cJ2_remove 5 (some .boolean)) B.pre
  have hts : ∀ w ∈ lw_all, w.before _ s = true := fun w h => hts w (List.mem_cons_of_mem _ h)
  have hown : s.vm.findClass RJ2 = some m.cls := findClass_of_methodNamed B.named
  have hlocks := B.notSynchronized
  have hS : va_S (Af G) s.heap s.heap [] := va_S.rf
  have hl := lv_entry ([.ref L, .ref v]) (n := 5) (Nat.le_of_ble_eq_true rfl)
  rw [lg_entry_eq]
  generalize (lg_sl ([.ref L, .ref v]) ++ List.replicate (5 - (lg_sl ([.ref L, .ref v])).length) Slot.unset).toArray = ls at hl ⊢
  have hl : lv_has ls 5 [(0, .ref L), (1, .ref v)] := hl
  refine lv_aload_n hx hb dJ2_remove_0 rfl (lv_at hl 0 rfl) ?_
  refine va_get (D := G.1) (ci := 8) (v := .ref E) (C := RJ2) (T := TJ2) (N := 3) hx hb hts in_J2 hown hT.1 (hR.one hL) 0 rfl rfl 1 (by decide) (hts _ q411) (fun _ h9 => h9) rfl dJ2_remove_1 ?_
  refine lv_astore_n (lv' := [(2, .ref E), (0, .ref L), (1, .ref v)]) hx hb dJ2_remove_4 rfl hl (by decide) rfl (fun ls hl => ?_)
  refine lv_aload_n hx hb dJ2_remove_5 rfl (lv_at hl 1 rfl) ?_
  refine va_get (D := G.1) (ci := 8) (v := .int (nI xs.length)) (C := RJ2) (T := TJ2) (N := 3) hx hb hts in_J2 hown hT.1 (hR.one hL) 0 rfl rfl 2 (by decide) (hts _ q414) (fun _ h9 => h9) rfl dJ2_remove_6 ?_
  refine lv_istore_n (lv' := [(3, .int (nI xs.length)), (2, .ref E), (0, .ref L), (1, .ref v)]) hx hb dJ2_remove_9 rfl hl (by decide) rfl (fun ls hl => ?_)
  refine lv_iconst (v := 0) hx hb dJ2_remove_10 (by decide) ?_
  refine lv_istore (lv' := [(4, .int 0), (3, .int (nI xs.length)), (2, .ref E), (0, .ref L), (1, .ref v)]) hx hb dJ2_remove_11 hl (by decide) rfl (fun ls hl => ?_)
  refine lv_aload_n hx hb dJ2_remove_13 rfl (lv_at hl 4 rfl) ?_
  refine lv_ifnonnull (tgt := 39) hx hb dJ2_remove_14 (by decide) ?_
  have k39 : ∀ (n : Nat) (i : Nat) (H : Heap) (locs : List Loc) (ls : Array Slot), (i ≤ k) → (k < i + n) → Rp G M H → va_S (Af G) s.heap H locs → lv_has ls 5 [(0, .ref L), (1, .ref v), (2, .ref E), (3, .int (nI xs.length)), (4, .int (nI i))] → W p l e (headSpec (ws_ yJ2_remove cJ2_remove 5 (some .boolean)) (rmL 2 0 0)).room s m ([.ref L, .ref v] : List Value).toArray below meth c H locs 0 0 (MQ below (Qg G (fun r M1 _ => r = some (.int 1) ∧ M1 = mu (mu M E (aO G cap (lsO (xs.eraseIdx k)))) L (ob 8 [.int (mc + 1), .ref E, .int (nI (xs.eraseIdx k).length)]))) ([.ref L, .ref v] : List Value).toArray s 0 0 (Af G)) (F0 m 39 ls []) := by
    intro n
    induction n with
    | zero =>
      intro i H locs ls hi hf hR hS hl
      exact absurd hf (by omega)
    | succ n ih_k39 =>
      intro i H locs ls hi hf hR hS hl
      refine lv_iload hx hb dJ2_remove_39 (lv_at hl 4 rfl) ?_
      refine lv_iload_n hx hb dJ2_remove_41 rfl (lv_at hl 3 rfl) ?_
      refine lv_icmp_ge (tgt := 65) hx hb dJ2_remove_42 (by decide) (fun c_1 => ?_) (fun c_1 => ?_)
      · skip
        exact absurd ((leN (a := xs.length) (b := i) rfl rfl (by omega) (by omega)).mp c_1) (by omega)
      · skip
        obtain ⟨y, hy⟩ := some_at (xs := xs) (i := i) (by omega)
        refine lv_aload_n hx hb dJ2_remove_45 rfl (lv_at hl 1 rfl) ?_
        refine lv_aload_n hx hb dJ2_remove_46 rfl (lv_at hl 2 rfl) ?_
        refine lv_iload hx hb dJ2_remove_47 (lv_at hl 4 rfl) ?_
        refine r_aald hx hb hT 5 rfl hR hE (j := i) rfl (by omega) (by omega) (y := y) hy dJ2_remove_49 ?_
        refine r_equals (C := "CablePlant$Request") hx hb (by rw [hml]; exact hl.1.symm) hown (hts _ q722) (hts _ q723) (hts _ q730) (hts _ q744) (hT.recv hR hv rfl rfl) (Nat.le_of_ble_eq_true rfl) (Nat.le_of_ble_eq_true rfl) dJ2_remove_50 ?_
        refine lv_if_eq (tgt := 59) hx hb dJ2_remove_53 (by decide) (fun c_2 => ?_) (fun c_2 => ?_)
        · skip
          have c_2 := b_0 c_2
          have hik : ¬ i = k := fun h => c_2 (Option.some.inj ((h ▸ hkv : xs[i]? = some v).symm.trans hy))
          refine lv_iinc (v := nI (i + 1)) (lv' := [(4, .int (nI (i + 1))), (0, .ref L), (1, .ref v), (2, .ref E), (3, .int (nI xs.length))]) hx hb dJ2_remove_59 hl (k := 4) rfl (addN rfl rfl) (by decide) rfl (fun ls hl => ?_)
          refine lv_goto (tgt := 39) hx hb dJ2_remove_62 (by decide) ?_
          exact ih_k39 (i + 1) _ _ _ (by omega) (by omega) hR hS (lv_sub hl [1, 2, 3, 4, 0] rfl)
        · skip
          have c_2 := b_n0 c_2
          obtain rfl : i = k := by
            rcases Nat.lt_or_ge i k with h | h
            · exact absurd (hy.trans (congrArg some c_2.symm)) (h1st i h)
            · omega
          refine lv_goto (tgt := 67) hx hb dJ2_remove_56 (by decide) ?_
          refine lv_aload_n hx hb dJ2_remove_67 rfl (lv_at hl 0 rfl) ?_
          refine lv_aload_n hx hb dJ2_remove_68 rfl (lv_at hl 2 rfl) ?_
          refine lv_iload hx hb dJ2_remove_69 (lv_at hl 4 rfl) ?_
          refine g_call (va_runV (As := [.ref E, .int (nI i)]) (rest := []) ⟨hx, hb, hml, hown, hts⟩ (met_fastRemove l G M _ L E cap mc xs hc hx9 hL hE hel i hk) (cwV 2 hts (lw_V q745 q747 qs5 q40 q748) rfl rfl rfl (by decide +kernel) ⟨Nat.le_of_ble_eq_true rfl, Nat.le_of_ble_eq_true rfl⟩) (preV hT hR hS hL rfl rfl) rfl rfl hl.1 rfl (lv_room (Nat.le_of_ble_eq_true rfl)) dJ2_remove_71 ⟨Nat.le_of_ble_eq_true rfl, Nat.le_of_ble_eq_true rfl⟩) hS (fun v M1 H locs hq hR hz hS => ?_)
          obtain ⟨rfl, rfl⟩ := hq
          refine W.eq (g2 := F0 m 74 ls []) rfl ?_
          refine lv_iconst (v := 1) hx hb dJ2_remove_74 (by decide) ?_
          exact W.zret hx hb hr rfl (q_ret (⟨rfl, rfl⟩) hR hS) hS.2.2 dJ2_remove_75
  exact k39 (k + 1) 0 _ _ _ (by omega) (by omega) hR hS (lv_sub hl [3, 4, 2, 1, 0] rfl)
