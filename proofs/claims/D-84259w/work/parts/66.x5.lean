theorem nI_pre {n : Nat} (h : 0 < n) : nI n - 1 = nI (n - 1) := by
  cases n with
  | zero => omega
  | succ n => exact nI_pred n
/-- the world's cells stay its cells -/
theorem xx_dom {G : gw_G} {ad ad2 wk : Nat → Nat} {σ τ : xS} {nC nS nC' nS' : Nat} {nW nW' : Nat → Nat} (hk : xk σ nC nS nW) (hk' : xk τ nC' nS' nW') (h1 : nC ≤ nC') (h2 : nS ≤ nS') (h3 : ∀ c, nW c ≤ nW' c) {i : Nat} {x : va_E} (h : xx_w G ad wk σ i = some x) : ∃ y, xx_w G ad2 wk τ i = some y := by
  rcases Nat.lt_or_ge i 8 with g | g
  · rcases (show i = 0 ∨ i = 1 ∨ i = 2 ∨ i = 3 ∨ i = 4 ∨ i = 5 ∨ i = 6 ∨ i = 7 by omega) with rfl | rfl | rfl | rfl | rfl | rfl | rfl | rfl
    · exact ⟨_, xx_0⟩
    · exact ⟨_, xx_1⟩
    · exact ⟨_, xx_2⟩
    · exact ⟨_, xx_3⟩
    · exact ⟨_, xx_4⟩
    · exact ⟨_, xx_5⟩
    · exact ⟨_, xx_6⟩
    · exact ⟨_, xx_7⟩
  rcases Nat.lt_or_ge i 40 with g2 | g2
  · by_cases hz : xx_len i = 0
    · rw [xx_none (Or.inr ⟨by omega, g2, hz⟩)] at h
      cases h
    · exact ⟨_, xx_arr hz ⟨by omega, g2⟩⟩
  have h8 := hk.1.2
  rcases Nat.lt_or_ge i 50 with g3 | g3
  · obtain ⟨c, rfl⟩ : ∃ c, i = 40 + c := ⟨i - 40, by omega⟩
    rw [xx_chan0 (by omega), hk.C] at h
    by_cases e : c < nC
    · exact ⟨_, xx_chan hk' (by omega)⟩
    · rw [if_neg e] at h
      cases h
  rcases Nat.lt_or_ge i 60 with g4 | g4
  · obtain ⟨c, rfl⟩ : ∃ c, i = 50 + c := ⟨i - 50, by omega⟩
    rw [xx_wells0 (by omega), hk.C] at h
    by_cases e : c < nC
    · exact ⟨_, xx_wells hk' (by omega)⟩
    · rw [if_neg e] at h
      cases h
  rcases Nat.lt_or_ge i 220 with g5 | g5
  · obtain ⟨j, rfl⟩ : ∃ j, i = 60 + j := ⟨i - 60, by omega⟩
    rw [xx_well0 (by omega), hk.C, hk.W (by omega)] at h
    rw [xx_well0 (by omega), hk'.C, hk'.W (by omega)]
    have := h3 (j / 20)
    by_cases e : j / 20 < nC ∧ j % 20 < nW (j / 20)
    · rw [if_pos (by omega)]
      exact ⟨_, rfl⟩
    · rw [if_neg e] at h
      cases h
  rcases Nat.lt_or_ge i 280 with g6 | g6
  · obtain ⟨k, rfl⟩ : ∃ k, i = 220 + k := ⟨i - 220, by omega⟩
    rw [xx_share0 (by omega), hk.N] at h
    rw [xx_share0 (by omega), hk'.N]
    by_cases e : k < nS
    · rw [if_pos (by omega)]
      exact ⟨_, rfl⟩
    · rw [if_neg e] at h
      cases h
  · rw [xx_none (Or.inl g6)] at h
    cases h
theorem xx_ext {G : gw_G} {ad ad1 wk : Nat → Nat} {σ τ : xS} {nC nS nC' nS' : Nat} {nW nW' : Nat → Nat} (hk : xk σ nC nS nW) (hk' : xk τ nC' nS' nW') (h1 : nC ≤ nC') (h2 : nS ≤ nS') (h3 : ∀ c, nW c ≤ nW' c) (h : ∀ i x, xx_w G ad wk τ i = some x → ad1 i = ad i) : ∀ i x, xx_w G ad wk σ i = some x → ad1 i = ad i := by
  intro i x hx
  obtain ⟨y, hy⟩ := xx_dom (ad2 := ad) hk hk' h1 h2 h3 hx
  exact h i y hy
theorem xx_ext2 {G : gw_G} {ad ad1 ad2 wk : Nat → Nat} {σ τ : xS} {nC nS nC' nS' : Nat} {nW nW' : Nat → Nat} (hk : xk σ nC nS nW) (hk' : xk τ nC' nS' nW') (h1 : nC ≤ nC') (h2 : nS ≤ nS') (h3 : ∀ c, nW c ≤ nW' c) (h0 : ∀ i x, xx_w G ad wk σ i = some x → ad1 i = ad i) (h : ∀ i x, xx_w G ad1 wk τ i = some x → ad2 i = ad1 i) : ∀ i x, xx_w G ad wk σ i = some x → ad2 i = ad i := by
  intro i x hx
  obtain ⟨y, hy⟩ := xx_dom (ad2 := ad1) hk hk' h1 h2 h3 hx
  rw [h i y hy, h0 i x hx]

theorem dv_X5 : ∀ j, j < 5 → defaultValue (tyX5 j) = vp_V [.null, .int 0, .int 0, .int 0, .int 0] j := by
  intro j hj
  rcases (show j = 0 ∨ j = 1 ∨ j = 2 ∨ j = 3 ∨ j = 4 by omega) with rfl | rfl | rfl | rfl | rfl <;> rfl
theorem dv_X6 : ∀ j, j < 4 → defaultValue (tyX6 j) = vp_V [.int 0, .int 0, .int 0, .int 0] j := by
  intro j hj
  rcases (show j = 0 ∨ j = 1 ∨ j = 2 ∨ j = 3 by omega) with rfl | rfl | rfl | rfl <;> rfl
theorem dv_X7 : ∀ j, j < 8 → defaultValue (tyX7 j) = vp_V [.null, .int 0, .int 0, .int 0, .int 0, .int 0, .int 0, .int 0] j := by
  intro j hj
  rcases (show j = 0 ∨ j = 1 ∨ j = 2 ∨ j = 3 ∨ j = 4 ∨ j = 5 ∨ j = 6 ∨ j = 7 by omega) with rfl | rfl | rfl | rfl | rfl | rfl | rfl | rfl <;> rfl
set_option maxHeartbeats 1000000 in
set_option maxRecDepth 100000 in
theorem c_X1_add (l : Launch) (σ : xS) {nC nS : Nat} {nW : Nat → Nat} (hk : xk σ nC nS nW) (hS : nS < 60) (q : Nat) (hq : q < nC) (f t o : Int32) : xx_C l yX1_add (Cond.code yX1_add cX1_add 6 none) 3 1 8 (fun ad => [.ref (ad 0), .ref (ad (40 + q)), .int (nI q), .int f, .int t, .int o]) σ (fun v u => none = v ∧ xAdd σ nS q f t o = u) (fun _ _ => False) := by
  refine xx_of (by decide) (fun ad => Nat.le_of_ble_eq_true rfl) ?_
  intro p e s m args below meth c G A ad wk wv ls X hE hH hl
  obtain ⟨hx, hb, hml, hT, hr, hlocks, hxc, hA⟩ := id X
  have hl : lv_has ls 6 [(0, .ref (ad 0)), (1, .ref (ad (40 + q))), (2, .int (nI q)), (3, .int f), (4, .int t), (5, .int o)] := hl
  have h8 := hk.1.2
  refine lv_aload_n hx hb dX1_add_0 rfl (lv_at hl 0 rfl) ?_
  refine gw_get (C := RX1) (T := TX1) (N := 21) (ci := 1) (fs := xx_fs1 ad σ.1.1) (v := .ref (ad 5)) hx hb hT hH.1 0 xx_0 rfl in_X1 2 (by decide) rfl q178 rfl dX1_add_1 ?_
  refine lv_aload_n hx hb dX1_add_4 rfl (lv_at hl 0 rfl) ?_
  refine gw_get (C := RX1) (T := TX1) (N := 21) (ci := 1) (fs := xx_fs1 ad σ.1.1) (v := .int (σ.1.1 17)) hx hb hT hH.1 0 xx_0 rfl in_X1 14 (by decide) rfl q190 rfl dX1_add_5 ?_
  refine lv_as hk.2.1.1 ?_
  refine gw_new (C := RX7) (T := TX7) (N := 8) (ci := 6) hx hb hT hH hA (220 + nS) (xx_free_share hk hS) (by omega) rfl in_X7 tyX7 tyX7_ok q174 q523 q49 [.null, .int 0, .int 0, .int 0, .int 0, .int 0, .int 0, .int 0] dv_X7 (Nat.le_of_ble_eq_true rfl) (Nat.le_of_ble_eq_true rfl) dX1_add_8 (fun ad1 H hext hH => ?_)
  refine lv_dup hx hb dX1_add_11 rfl ?_
  refine lv_aload_n hx hb dX1_add_12 rfl (lv_at hl 1 rfl) ?_
  refine lv_ref (a' := ad1 (40 + q)) (hext _ (by omega)).symm ?_
  refine lv_iload_n hx hb dX1_add_13 rfl (lv_at hl 2 rfl) ?_
  refine lv_iload_n hx hb dX1_add_14 rfl (lv_at hl 3 rfl) ?_
  refine lv_iload hx hb dX1_add_15 (lv_at hl 4 rfl) ?_
  refine lv_iload hx hb dX1_add_17 (lv_at hl 5 rfl) ?_
  refine gv_I (n := 5) (i := 220 + nS) (c_X7_init l G A ad1 wk wv _ (220 + nS) (40 + q) (nI q) f t o xx_as) hx hb hml hT hxc hA hH q526 q49 q524 q525 rfl (by decide +kernel) ⟨Nat.le_of_ble_eq_true rfl, Nat.le_of_ble_eq_true rfl⟩ rfl hl.1 rfl (Nat.le_of_ble_eq_true rfl) dX1_add_19 ⟨Nat.le_of_ble_eq_true rfl, Nat.le_of_ble_eq_true rfl⟩ (fun ad2 w2 H locs hp_19 hH => ?_)
  rw [(Prod.mk.inj hp_19).1, (Prod.mk.inj hp_19).2, va_up_s, hext (40 + q) (by omega)] at hH
  refine lv_ref2 (a' := ad1 5) (hext _ (by omega)).symm ?_
  refine gw_aast (r := (RX7, TX7, 8)) (ci := 6) hx hb hT hH 5 6 (by rw [xx_at (by omega), xx_5]) rfl (220 + nS) xx_as rfl nS rfl (by omega) (by decide) dX1_add_22 (fun H locs hH => ?_)
  refine lv_aload_n hx hb dX1_add_23 rfl (lv_at hl 0 rfl) ?_
  refine lv_ref (a' := ad1 0) (hext _ (by omega)).symm ?_
  refine lv_dup hx hb dX1_add_24 rfl ?_
  refine gw_get (C := RX1) (T := TX1) (N := 21) (ci := 1) (fs := xx_fs1 ad σ.1.1) (v := .int (σ.1.1 17)) hx hb hT hH.1 0 (by rw [xx_at (by decide), xx_at (by omega), xx_0]) rfl in_X1 14 (by decide) rfl q190 rfl dX1_add_25 ?_
  refine lv_as hk.2.1.1 ?_
  refine lv_iconst (v := 1) hx hb dX1_add_28 (by decide) ?_
  refine lv_iadd hx hb dX1_add_29 ?_
  refine lv_as (nI_add nS 1) ?_
  refine gw_put (C := RX1) (T := TX1) (N := 21) (ci := 1) (fs := xx_fs1 ad σ.1.1) (v := .int (nI (nS + 1))) hx hb hT hH 0 (by rw [xx_at (by decide), xx_at (by omega), xx_0]) rfl in_X1 tyX1 tyX1_ok nmX1 14 (by decide) rfl rfl q190 rfl rfl (Nat.le_of_ble_eq_true rfl) dX1_add_30 (fun H locs hH => ?_)
  rw [xx_add hk hS hext hq f t o] at hH
  exact xx_rv hx hb hr hlocks hT hH (fun i x hx => hext i (by rintro rfl; rw [xx_free_share hk hS] at hx; cases hx)) dX1_add_33 (⟨rfl, rfl⟩) (Nat.le_of_ble_eq_true rfl) (Nat.le_of_ble_eq_true rfl)

set_option maxHeartbeats 1000000 in
set_option maxRecDepth 100000 in
theorem c_X1_channel (l : Launch) (hfl : l.flags = pinnedFlags ++ [noTraceFlag]) (σ : xS) {nC nS : Nat} {nW : Nat → Nat} (hk : xk σ nC nS nW) : xx_C l yX1_channel (Cond.code yX1_channel cX1_channel 1 (some .int)) 7 8 100 (fun ad => [.ref (ad 0)]) σ (fun v u => nC < 8 ∧ some (.int (nI nC)) = v ∧ xNew σ nC = u) (fun k u => k = 4 ∧ nC = 8 ∧ σ = u) := by
  refine xx_of (by decide) (fun ad => Nat.le_of_ble_eq_true rfl) ?_
  intro p e s m args below meth c G A ad wk wv ls X hE hH hl
  obtain ⟨hx, hb, hml, hT, hr, hlocks, hxc, hA⟩ := id X
  have hl : lv_has ls 1 [(0, .ref (ad 0))] := hl
  have h8 := hk.1.2
  refine lv_aload_n hx hb dX1_channel_0 rfl (lv_at hl 0 rfl) ?_
  refine gw_get (C := RX1) (T := TX1) (N := 21) (ci := 1) (fs := xx_fs1 ad σ.1.1) (v := .int (σ.1.1 10)) hx hb hT hH.1 0 xx_0 rfl in_X1 12 (by decide) rfl q188 rfl dX1_channel_1 ?_
  refine lv_as hk.1.1 ?_
  refine lv_bipush (v := 8) hx hb dX1_channel_4 (by decide) ?_
  refine lv_icmp_ge (tgt := 13) hx hb dX1_channel_6 (by decide) (fun c_6 => ?_) (fun c_6 => ?_)
  · skip
    have c_6 : 8 ≤ nC := (nI_leI (a := 8) (b := nC) (by omega) (by omega)).mp c_6
    refine lv_iconst (v := 0) hx hb dX1_channel_13 (by decide) ?_
    exact xt_call (k := 4) (yy_S (n := 1) (c_X1_mayBe0 l hfl σ G A ad wk wv) hx hb hml hT hxc hA hH q352 (ex_code_of hT.2.1 q352) (ex_named (hT.2.1 _ q352)) q351 q33 q350 (by decide +kernel) ⟨Nat.le_of_ble_eq_true rfl, Nat.le_of_ble_eq_true rfl⟩ rfl hl.1 rfl (Nat.le_of_ble_eq_true rfl) dX1_channel_14 ⟨Nat.le_of_ble_eq_true rfl, Nat.le_of_ble_eq_true rfl⟩) hlocks hE (xx_tq hT hH (fun _ _ _ => rfl) (by decide) (⟨rfl, by omega, rfl⟩)) hH.2.2.2.2 (Nat.le_of_ble_eq_true rfl) (Nat.le_of_ble_eq_true rfl)
  · skip
    have c_6 : ¬ (8 ≤ nC) := fun h => c_6 ((nI_leI (a := 8) (b := nC) (by omega) (by omega)).mpr h)
    refine lv_iconst (v := 1) hx hb dX1_channel_9 (by decide) ?_
    refine lv_goto (tgt := 14) hx hb dX1_channel_10 (by decide) ?_
    refine tk_cSv (n := 1) (c_X1_mayBe1 l) hx hb hml hT.1 hT.2.1 (fun a U g mk h => h) (fun U hU hW => trivial) (lw_S q350 q351 q33 q352) (by decide +kernel) ⟨Nat.le_of_ble_eq_true rfl, Nat.le_of_ble_eq_true rfl⟩ rfl hl.1 rfl (Nat.le_of_ble_eq_true rfl) dX1_channel_14 ⟨Nat.le_of_ble_eq_true rfl, Nat.le_of_ble_eq_true rfl⟩ ?_
    refine lv_aload_n hx hb dX1_channel_17 rfl (lv_at hl 0 rfl) ?_
    refine gw_get (C := RX1) (T := TX1) (N := 21) (ci := 1) (fs := xx_fs1 ad σ.1.1) (v := .ref (ad 4)) hx hb hT hH.1 0 xx_0 rfl in_X1 1 (by decide) rfl q177 rfl dX1_channel_18 ?_
    refine lv_aload_n hx hb dX1_channel_21 rfl (lv_at hl 0 rfl) ?_
    refine gw_get (C := RX1) (T := TX1) (N := 21) (ci := 1) (fs := xx_fs1 ad σ.1.1) (v := .int (σ.1.1 10)) hx hb hT hH.1 0 xx_0 rfl in_X1 12 (by decide) rfl q188 rfl dX1_channel_22 ?_
    refine lv_as hk.1.1 ?_
    have c8 : nC < 8 := by omega
    refine gw_new (C := RX5) (T := TX5) (N := 5) (ci := 4) hx hb hT hH hA (40 + nC) (xx_free_chan hk c8) (by omega) rfl in_X5 tyX5 tyX5_ok q172 q368 q42 [.null, .int 0, .int 0, .int 0, .int 0] dv_X5 (Nat.le_of_ble_eq_true rfl) (Nat.le_of_ble_eq_true rfl) dX1_channel_25 (fun ad1 H hext hH => ?_)
    refine lv_dup hx hb dX1_channel_28 rfl ?_
    refine gv_IN (n := 0) (i := 40 + nC) (c_X5_init l G A ad1 wk wv _ (40 + nC) (50 + nC) xx_as (by rw [xx_at (by omega)]; exact xx_free_wells hk c8) (by omega) (by omega)) hx hb hml hT hxc hA hH q371 q42 (List.mem_of_getElem? (i := 22) rfl) q370 rfl (by decide +kernel) ⟨Nat.le_of_ble_eq_true rfl, Nat.le_of_ble_eq_true rfl⟩ rfl hl.1 rfl (Nat.le_of_ble_eq_true rfl) dX1_channel_29 ⟨Nat.le_of_ble_eq_true rfl, Nat.le_of_ble_eq_true rfl⟩ (fun ad2 w2 H locs hp_29 hH => ?_)
    obtain ⟨hext2, hw2⟩ := hp_29
    dsimp only at hext2 hw2
    rw [hw2, va_up_f (by omega)] at hH
    have hext : ∀ j, j ≠ 40 + nC → j ≠ 50 + nC → ad2 j = ad j := fun j h1 h2 => by rw [hext2 j h2, hext j h1]
    refine lv_stk (st' := [.ref (ad2 (40 + nC)), .int (nI nC), .ref (ad2 4)]) (by rw [hext2 (40 + nC) (by omega), hext 4 (by omega) (by omega)]) ?_
    refine gw_aast (r := (RX5, TX5, 5)) (ci := 4) hx hb hT hH 4 4 (by rw [xx_at (by omega), xx_at (by omega), xx_4]) rfl (40 + nC) xx_as rfl nC rfl (by omega) (by decide) dX1_channel_32 (fun H locs hH => ?_)
    refine lv_aload_n hx hb dX1_channel_33 rfl (lv_at hl 0 rfl) ?_
    refine lv_ref (a' := ad2 0) (hext _ (by omega) (by omega)).symm ?_
    refine lv_dup hx hb dX1_channel_34 rfl ?_
    refine gw_get (C := RX1) (T := TX1) (N := 21) (ci := 1) (fs := xx_fs1 ad σ.1.1) (v := .int (σ.1.1 10)) hx hb hT hH.1 0 (by rw [xx_at (by decide), xx_at (by omega), xx_at (by omega), xx_0]) rfl in_X1 12 (by decide) rfl q188 rfl dX1_channel_35 ?_
    refine lv_as hk.1.1 ?_
    refine lv_iconst (v := 1) hx hb dX1_channel_38 (by decide) ?_
    refine lv_iadd hx hb dX1_channel_39 ?_
    refine lv_as (nI_add nC 1) ?_
    refine gw_put (C := RX1) (T := TX1) (N := 21) (ci := 1) (fs := xx_fs1 ad σ.1.1) (v := .int (nI (nC + 1))) hx hb hT hH 0 (by rw [xx_at (by decide), xx_at (by omega), xx_at (by omega), xx_0]) rfl in_X1 tyX1 tyX1_ok nmX1 12 (by decide) rfl rfl q188 rfl rfl (Nat.le_of_ble_eq_true rfl) dX1_channel_40 (fun H locs hH => ?_)
    rw [xx_newch hk c8 hext] at hH
    have hk' := hk.new c8
    refine lv_aload_n hx hb dX1_channel_43 rfl (lv_at hl 0 rfl) ?_
    refine lv_ref (a' := ad2 0) (hext _ (by omega) (by omega)).symm ?_
    refine gw_get (C := RX1) (T := TX1) (N := 21) (ci := 1) (fs := xx_fs1 ad2 (xNew σ nC).1.1) (v := .int ((xNew σ nC).1.1 10)) hx hb hT hH.1 0 xx_0 rfl in_X1 12 (by decide) rfl q188 rfl dX1_channel_44 ?_
    refine lv_as hk'.1.1 ?_
    refine lv_iconst (v := 1) hx hb dX1_channel_47 (by decide) ?_
    refine lv_isub hx hb dX1_channel_48 ?_
    refine lv_as (z := nI nC) (nI_pred nC) ?_
    exact xx_ri hx hb hr hlocks hT hH (fun i x hx => hext i (by rintro rfl; rw [xx_free_chan hk c8] at hx; cases hx) (by rintro rfl; rw [xx_free_wells hk c8] at hx; cases hx)) rfl dX1_channel_49 (⟨by omega, rfl, rfl⟩) (Nat.le_of_ble_eq_true rfl) (Nat.le_of_ble_eq_true rfl)

set_option maxHeartbeats 1000000 in
set_option maxRecDepth 100000 in
theorem c_X1_well (l : Launch) (hfl : l.flags = pinnedFlags ++ [noTraceFlag]) (σ : xS) {nC nS : Nat} {nW : Nat → Nat} (hk : xk σ nC nS nW) (v x y f : Int32) : xx_C l yX1_well (Cond.code yX1_well cX1_well 6 (some .int)) 8 8 100 (fun ad => [.ref (ad 0), .int v, .int x, .int y, .int f]) σ (fun r w => ∃ k, k < nC ∧ nI k = v ∧ σ.1.2 8 k = -1 ∧ ((0 ≤ x ∧ x ≤ 100) ∧ (0 ≤ y ∧ y ≤ 100) ∧ (0 ≤ f ∧ f ≤ 1000) ∧ (nW k = 0 ∨ σ.1.2 14 (20 * k + (nW k - 1)) ≤ f)) ∧ nW k < 20 ∧ some (.int (nI (nW k))) = r ∧ xNewE σ k (nW k) x y f = w) (fun q u => σ = u ∧ ((q = 1 ∧ (¬ ∃ k, k < nC ∧ nI k = v)) ∨ ∃ k, k < nC ∧ nI k = v ∧ ((q = 2 ∧ ¬ σ.1.2 8 k = -1) ∨ (σ.1.2 8 k = -1 ∧ ((q = 3 ∧ ¬ ((0 ≤ x ∧ x ≤ 100) ∧ (0 ≤ y ∧ y ≤ 100) ∧ (0 ≤ f ∧ f ≤ 1000) ∧ (nW k = 0 ∨ σ.1.2 14 (20 * k + (nW k - 1)) ≤ f))) ∨ (((0 ≤ x ∧ x ≤ 100) ∧ (0 ≤ y ∧ y ≤ 100) ∧ (0 ≤ f ∧ f ≤ 1000) ∧ (nW k = 0 ∨ σ.1.2 14 (20 * k + (nW k - 1)) ≤ f)) ∧ q = 4 ∧ nW k = 20)))))) := by
  refine xx_of (by decide) (fun ad => Nat.le_of_ble_eq_true rfl) ?_
  intro p e s m args below meth c G A ad wk wv ls X hE hH hl
  obtain ⟨hx, hb, hml, hT, hr, hlocks, hxc, hA⟩ := id X
  have hl : lv_has ls 6 [(0, .ref (ad 0)), (1, .int v), (2, .int x), (3, .int y), (4, .int f)] := hl
  have h8 := hk.1.2
  refine lv_aload_n hx hb dX1_well_0 rfl (lv_at hl 0 rfl) ?_
  refine lv_iload_n hx hb dX1_well_1 rfl (lv_at hl 1 rfl) ?_
  by_cases h_2 : ∃ k, k < nC ∧ nI k = v
  · skip
    obtain ⟨k, hkk, rfl⟩ := h_2
    refine xr_Vr (n := 1) 0 ((c_X1_channelAt1 l σ hk k (by omega)) G ad wk) hx hb hml hT hH.1 hH.2.1 xx_0 rfl (lw_V q435 q437 qs4 q33 q438) (by decide +kernel) ⟨Nat.le_of_ble_eq_true rfl, Nat.le_of_ble_eq_true rfl⟩ rfl hl.1 rfl (Nat.le_of_ble_eq_true rfl) dX1_well_2 ⟨Nat.le_of_ble_eq_true rfl, Nat.le_of_ble_eq_true rfl⟩ ?_
    refine lv_astore (lv' := [(5, .ref (ad (40 + k))), (0, .ref (ad 0)), (1, .int (nI k)), (2, .int x), (3, .int y), (4, .int f)]) hx hb dX1_well_5 hl (by decide) rfl (fun ls hl => ?_)
    have hwk := (hk.2.2.1 k (by omega)).2
    refine lv_aload hx hb dX1_well_7 (lv_at hl 0 rfl) ?_
    refine xr_V (n := 0) (40 + k) ((c_X5_isDug l σ hk k (by omega)) G ad wk) hx hb hml hT hH.1 hH.2.1 (xx_chan hk (show k < nC by omega)) rfl (lw_V q280 q281 q282 q42 q283) (by decide +kernel) ⟨Nat.le_of_ble_eq_true rfl, Nat.le_of_ble_eq_true rfl⟩ rfl hl.1 rfl (Nat.le_of_ble_eq_true rfl) dX1_well_9 ⟨Nat.le_of_ble_eq_true rfl, Nat.le_of_ble_eq_true rfl⟩ (fun r_9 hp_9 => ?_)
    rcases hp_9 with ⟨rfl, h_9⟩ | ⟨rfl, h_9⟩
    · skip
      refine lv_if_ne (tgt := 19) hx hb dX1_well_12 (by decide) (fun c_12 => ?_) (fun c_12 => ?_)
      · skip
        refine lv_iconst (v := 0) hx hb dX1_well_19 (by decide) ?_
        exact xt_call (k := 2) (yy_S (n := 1) (c_X1_stands0 l hfl σ G A ad wk wv) hx hb hml hT hxc hA hH q459 (ex_code_of hT.2.1 q459) (ex_named (hT.2.1 _ q459)) q458 q33 q457 (by decide +kernel) ⟨Nat.le_of_ble_eq_true rfl, Nat.le_of_ble_eq_true rfl⟩ rfl hl.1 rfl (Nat.le_of_ble_eq_true rfl) dX1_well_20 ⟨Nat.le_of_ble_eq_true rfl, Nat.le_of_ble_eq_true rfl⟩) hlocks hE (xx_tq hT hH (fun _ _ _ => rfl) (by decide) (⟨rfl, Or.inr ⟨k, hkk, rfl, Or.inl ⟨rfl, h_9⟩⟩⟩)) hH.2.2.2.2 (Nat.le_of_ble_eq_true rfl) (Nat.le_of_ble_eq_true rfl)
      · skip
        exact absurd c_12 (by decide)
    · skip
      refine lv_if_ne (tgt := 19) hx hb dX1_well_12 (by decide) (fun c_12 => ?_) (fun c_12 => ?_)
      · skip
        exact absurd c_12 (by decide)
      · skip
        refine lv_iconst (v := 1) hx hb dX1_well_15 (by decide) ?_
        refine lv_goto (tgt := 20) hx hb dX1_well_16 (by decide) ?_
        refine tk_cSv (n := 1) (c_X1_stands1 l) hx hb hml hT.1 hT.2.1 (fun a U g mk h => h) (fun U hU hW => trivial) (lw_S q457 q458 q33 q459) (by decide +kernel) ⟨Nat.le_of_ble_eq_true rfl, Nat.le_of_ble_eq_true rfl⟩ rfl hl.1 rfl (Nat.le_of_ble_eq_true rfl) dX1_well_20 ⟨Nat.le_of_ble_eq_true rfl, Nat.le_of_ble_eq_true rfl⟩ ?_
        refine lv_iload_n hx hb dX1_well_23 rfl (lv_at hl 3 rfl) ?_
        refine lv_iconst (v := 0) hx hb dX1_well_24 (by decide) ?_
        refine lv_bipush (v := 100) hx hb dX1_well_25 (by decide) ?_
        refine ss_ci (n := 3) (c_X1_isIn l x 0 100) hx hb hml hT.1 hT.2.1 (lw_S q254 q255 q33 q256) (by decide +kernel) ⟨Nat.le_of_ble_eq_true rfl, Nat.le_of_ble_eq_true rfl⟩ rfl hl.1 rfl (Nat.le_of_ble_eq_true rfl) dX1_well_27 ⟨Nat.le_of_ble_eq_true rfl, Nat.le_of_ble_eq_true rfl⟩ (fun r_27 hp_27 => ?_)
        rcases hp_27 with ⟨rfl, h_27⟩ | ⟨rfl, h_27⟩
        · skip
          refine lv_if_eq (tgt := 88) hx hb dX1_well_30 (by decide) (fun c_30 => ?_) (fun c_30 => ?_)
          · skip
            exact absurd c_30 (by decide)
          · skip
            refine lv_iload_n hx hb dX1_well_33 rfl (lv_at hl 4 rfl) ?_
            refine lv_iconst (v := 0) hx hb dX1_well_34 (by decide) ?_
            refine lv_bipush (v := 100) hx hb dX1_well_35 (by decide) ?_
            refine ss_ci (n := 3) (c_X1_isIn l y 0 100) hx hb hml hT.1 hT.2.1 (lw_S q254 q255 q33 q256) (by decide +kernel) ⟨Nat.le_of_ble_eq_true rfl, Nat.le_of_ble_eq_true rfl⟩ rfl hl.1 rfl (Nat.le_of_ble_eq_true rfl) dX1_well_37 ⟨Nat.le_of_ble_eq_true rfl, Nat.le_of_ble_eq_true rfl⟩ (fun r_37 hp_37 => ?_)
            rcases hp_37 with ⟨rfl, h_37⟩ | ⟨rfl, h_37⟩
            · skip
              refine lv_if_eq (tgt := 88) hx hb dX1_well_40 (by decide) (fun c_40 => ?_) (fun c_40 => ?_)
              · skip
                exact absurd c_40 (by decide)
              · skip
                refine lv_iload hx hb dX1_well_43 (lv_at hl 5 rfl) ?_
                refine lv_iconst (v := 0) hx hb dX1_well_45 (by decide) ?_
                refine lv_sipush (v := 1000) hx hb dX1_well_46 (by decide) ?_
                refine ss_ci (n := 3) (c_X1_isIn l f 0 1000) hx hb hml hT.1 hT.2.1 (lw_S q254 q255 q33 q256) (by decide +kernel) ⟨Nat.le_of_ble_eq_true rfl, Nat.le_of_ble_eq_true rfl⟩ rfl hl.1 rfl (Nat.le_of_ble_eq_true rfl) dX1_well_49 ⟨Nat.le_of_ble_eq_true rfl, Nat.le_of_ble_eq_true rfl⟩ (fun r_49 hp_49 => ?_)
                rcases hp_49 with ⟨rfl, h_49⟩ | ⟨rfl, h_49⟩
                · skip
                  refine lv_if_eq (tgt := 88) hx hb dX1_well_52 (by decide) (fun c_52 => ?_) (fun c_52 => ?_)
                  · skip
                    exact absurd c_52 (by decide)
                  · skip
                    refine lv_aload hx hb dX1_well_55 (lv_at hl 0 rfl) ?_
                    refine gw_getN (C := RX5) (T := TX5) (N := 5) (ci := 4) (fs := xx_fs5 ad σ.1 k) (v := .int (σ.1.2 5 k)) hx hb hT hH.1 (40 + k) (xx_chan hk (show k < nC by omega)) rfl in_X5 1 (by decide) rfl (List.mem_of_getElem? (i := 4) rfl) rfl dX1_well_57 ?_
                    refine lv_as ((hk.2.2.1 k (by omega)).1) ?_
                    refine lv_if_eq (tgt := 84) hx hb dX1_well_60 (by decide) (fun c_60 => ?_) (fun c_60 => ?_)
                    · skip
                      have c_60 : (nW k) = 0 := (nI_eq (a := (nW k)) (b := 0) (by omega) (by omega)).mp c_60
                      refine lv_iconst (v := 1) hx hb dX1_well_84 (by decide) ?_
                      refine lv_goto (tgt := 89) hx hb dX1_well_85 (by decide) ?_
                      refine tk_cSv (n := 1) (c_X1_must1 l) hx hb hml hT.1 hT.2.1 (fun a U g mk h => h) (fun U hU hW => trivial) (lw_S q318 q319 q33 q320) (by decide +kernel) ⟨Nat.le_of_ble_eq_true rfl, Nat.le_of_ble_eq_true rfl⟩ rfl hl.1 rfl (Nat.le_of_ble_eq_true rfl) dX1_well_89 ⟨Nat.le_of_ble_eq_true rfl, Nat.le_of_ble_eq_true rfl⟩ ?_
                      refine lv_aload hx hb dX1_well_92 (lv_at hl 0 rfl) ?_
                      refine gw_getN (C := RX5) (T := TX5) (N := 5) (ci := 4) (fs := xx_fs5 ad σ.1 k) (v := .int (σ.1.2 5 k)) hx hb hT hH.1 (40 + k) (xx_chan hk (show k < nC by omega)) rfl in_X5 1 (by decide) rfl (List.mem_of_getElem? (i := 4) rfl) rfl dX1_well_94 ?_
                      refine lv_as ((hk.2.2.1 k (by omega)).1) ?_
                      refine lv_bipush (v := 20) hx hb dX1_well_97 (by decide) ?_
                      refine lv_icmp_ge (tgt := 106) hx hb dX1_well_99 (by decide) (fun c_99 => ?_) (fun c_99 => ?_)
                      · skip
                        have c_99 : 20 ≤ (nW k) := (nI_leI (a := 20) (b := (nW k)) (by omega) (by omega)).mp c_99
                        refine lv_iconst (v := 0) hx hb dX1_well_106 (by decide) ?_
                        exact xt_call (k := 4) (yy_S (n := 1) (c_X1_mayBe0 l hfl σ G A ad wk wv) hx hb hml hT hxc hA hH q352 (ex_code_of hT.2.1 q352) (ex_named (hT.2.1 _ q352)) q351 q33 q350 (by decide +kernel) ⟨Nat.le_of_ble_eq_true rfl, Nat.le_of_ble_eq_true rfl⟩ rfl hl.1 rfl (Nat.le_of_ble_eq_true rfl) dX1_well_107 ⟨Nat.le_of_ble_eq_true rfl, Nat.le_of_ble_eq_true rfl⟩) hlocks hE (xx_tq hT hH (fun _ _ _ => rfl) (by decide) (⟨rfl, Or.inr ⟨k, hkk, rfl, Or.inr ⟨h_9, Or.inr ⟨⟨h_27, h_37, h_49, Or.inl c_60⟩, rfl, by omega⟩⟩⟩⟩)) hH.2.2.2.2 (Nat.le_of_ble_eq_true rfl) (Nat.le_of_ble_eq_true rfl)
                      · skip
                        have c_99 : ¬ (20 ≤ (nW k)) := fun h => c_99 ((nI_leI (a := 20) (b := (nW k)) (by omega) (by omega)).mpr h)
                        refine lv_iconst (v := 1) hx hb dX1_well_102 (by decide) ?_
                        refine lv_goto (tgt := 107) hx hb dX1_well_103 (by decide) ?_
                        refine tk_cSv (n := 1) (c_X1_mayBe1 l) hx hb hml hT.1 hT.2.1 (fun a U g mk h => h) (fun U hU hW => trivial) (lw_S q350 q351 q33 q352) (by decide +kernel) ⟨Nat.le_of_ble_eq_true rfl, Nat.le_of_ble_eq_true rfl⟩ rfl hl.1 rfl (Nat.le_of_ble_eq_true rfl) dX1_well_107 ⟨Nat.le_of_ble_eq_true rfl, Nat.le_of_ble_eq_true rfl⟩ ?_
                        refine lv_aload hx hb dX1_well_110 (lv_at hl 0 rfl) ?_
                        refine gw_getN (C := RX5) (T := TX5) (N := 5) (ci := 4) (fs := xx_fs5 ad σ.1 k) (v := .ref (ad (50 + k))) hx hb hT hH.1 (40 + k) (xx_chan hk (show k < nC by omega)) rfl in_X5 0 (by decide) rfl (List.mem_of_getElem? (i := 3) rfl) rfl dX1_well_112 ?_
                        refine lv_aload hx hb dX1_well_115 (lv_at hl 0 rfl) ?_
                        refine gw_getN (C := RX5) (T := TX5) (N := 5) (ci := 4) (fs := xx_fs5 ad σ.1 k) (v := .int (σ.1.2 5 k)) hx hb hT hH.1 (40 + k) (xx_chan hk (show k < nC by omega)) rfl in_X5 1 (by decide) rfl (List.mem_of_getElem? (i := 4) rfl) rfl dX1_well_117 ?_
                        refine lv_as ((hk.2.2.1 k (by omega)).1) ?_
                        have c20 : nW k < 20 := by omega
                        refine gw_new (C := RX6) (T := TX6) (N := 4) (ci := 5) hx hb hT hH hA (60 + (20 * k + nW k)) (xx_free_well hk hkk c20) (by omega) rfl in_X6 tyX6 tyX6_ok q475 q476 q47 [.int 0, .int 0, .int 0, .int 0] dv_X6 (Nat.le_of_ble_eq_true rfl) (Nat.le_of_ble_eq_true rfl) dX1_well_120 (fun ad1 H hext hH => ?_)
                        refine lv_dup hx hb dX1_well_123 rfl ?_
                        refine lv_iload_n hx hb dX1_well_124 rfl (lv_at hl 3 rfl) ?_
                        refine lv_iload_n hx hb dX1_well_125 rfl (lv_at hl 4 rfl) ?_
                        refine lv_iload hx hb dX1_well_126 (lv_at hl 5 rfl) ?_
                        refine gv_I (n := 3) (i := 60 + (20 * k + nW k)) (c_X6_init l G A ad1 wk wv _ (60 + (20 * k + nW k)) x y f xx_as) hx hb hml hT hxc hA hH q479 q47 q477 q478 rfl (by decide +kernel) ⟨Nat.le_of_ble_eq_true rfl, Nat.le_of_ble_eq_true rfl⟩ rfl hl.1 rfl (Nat.le_of_ble_eq_true rfl) dX1_well_128 ⟨Nat.le_of_ble_eq_true rfl, Nat.le_of_ble_eq_true rfl⟩ (fun ad2 w2 H locs hp_128 hH => ?_)
                        rw [(Prod.mk.inj hp_128).1, (Prod.mk.inj hp_128).2, va_up_s] at hH
                        refine lv_ref2 (a' := ad1 (50 + k)) (hext _ (by omega)).symm ?_
                        refine gw_aast (r := (RX6, TX6, 4)) (ci := 5) hx hb hT hH (50 + k) 5 (by rw [xx_at (by omega)]; exact xx_wells hk hkk) rfl (60 + (20 * k + nW k)) xx_as rfl (nW k) rfl (by omega) (by decide) dX1_well_131 (fun H locs hH => ?_)
                        refine lv_aload hx hb dX1_well_132 (lv_at hl 0 rfl) ?_
                        refine lv_ref (a' := ad1 (40 + k)) (hext _ (by omega)).symm ?_
                        refine lv_dup hx hb dX1_well_134 rfl ?_
                        refine gw_getN (C := RX5) (T := TX5) (N := 5) (ci := 4) (fs := xx_fs5 ad σ.1 k) (v := .int (σ.1.2 5 k)) hx hb hT hH.1 (40 + k) (by rw [xx_at (by omega), xx_at (by omega)]; exact xx_chan hk hkk) rfl in_X5 1 (by decide) rfl (List.mem_of_getElem? (i := 4) rfl) rfl dX1_well_135 ?_
                        refine lv_as (hk.2.2.1 k (by omega)).1 ?_
                        refine lv_iconst (v := 1) hx hb dX1_well_138 (by decide) ?_
                        refine lv_iadd hx hb dX1_well_139 ?_
                        refine lv_as (nI_add (nW k) 1) ?_
                        refine gw_putN (C := RX5) (T := TX5) (N := 5) (ci := 4) (fs := xx_fs5 ad σ.1 k) (v := .int (nI (nW k + 1))) hx hb hT hH (40 + k) (by rw [xx_at (by omega), xx_at (by omega)]; exact xx_chan hk hkk) rfl in_X5 tyX5 tyX5_ok nmX5 1 (by decide) rfl rfl (List.mem_of_getElem? (i := 4) rfl) rfl rfl (Nat.le_of_ble_eq_true rfl) dX1_well_140 (fun H locs hH => ?_)
                        rw [xx_newwe hk hkk c20 hext x y f] at hH
                        have hk' := hk.newE hkk c20 x y f
                        refine lv_aload hx hb dX1_well_143 (lv_at hl 0 rfl) ?_
                        refine lv_ref (a' := ad1 (40 + k)) (hext _ (by omega)).symm ?_
                        refine gw_getN (C := RX5) (T := TX5) (N := 5) (ci := 4) (fs := xx_fs5 ad1 (xNewE σ k (nW k) x y f).1 k) (v := .int ((xNewE σ k (nW k) x y f).1.2 5 k)) hx hb hT hH.1 (40 + k) (xx_chan hk' hkk) rfl in_X5 1 (by decide) rfl (List.mem_of_getElem? (i := 4) rfl) rfl dX1_well_145 ?_
                        refine lv_as (z := nI (nW k + 1)) (by rw [(hk'.2.2.1 k (by omega)).1, xNewEW, if_pos rfl]) ?_
                        refine lv_iconst (v := 1) hx hb dX1_well_148 (by decide) ?_
                        refine lv_isub hx hb dX1_well_149 ?_
                        refine lv_as (z := nI (nW k)) (nI_pred (nW k)) ?_
                        exact xx_ri hx hb hr hlocks hT hH (fun i x hx => hext i (by rintro rfl; rw [xx_free_well hk hkk c20] at hx; cases hx)) rfl dX1_well_150 (⟨k, hkk, rfl, h_9, ⟨h_27, h_37, h_49, Or.inl c_60⟩, c20, rfl, rfl⟩) (Nat.le_of_ble_eq_true rfl) (Nat.le_of_ble_eq_true rfl)
                    · skip
                      have c_60 : ¬ ((nW k) = 0) := fun h => c_60 ((nI_eq (a := (nW k)) (b := 0) (by omega) (by omega)).mpr h)
                      refine lv_iload hx hb dX1_well_63 (lv_at hl 5 rfl) ?_
                      refine lv_aload hx hb dX1_well_65 (lv_at hl 0 rfl) ?_
                      refine gw_getN (C := RX5) (T := TX5) (N := 5) (ci := 4) (fs := xx_fs5 ad σ.1 k) (v := .ref (ad (50 + k))) hx hb hT hH.1 (40 + k) (xx_chan hk (show k < nC by omega)) rfl in_X5 0 (by decide) rfl (List.mem_of_getElem? (i := 3) rfl) rfl dX1_well_67 ?_
                      refine lv_aload hx hb dX1_well_70 (lv_at hl 0 rfl) ?_
                      refine gw_getN (C := RX5) (T := TX5) (N := 5) (ci := 4) (fs := xx_fs5 ad σ.1 k) (v := .int (σ.1.2 5 k)) hx hb hT hH.1 (40 + k) (xx_chan hk (show k < nC by omega)) rfl in_X5 1 (by decide) rfl (List.mem_of_getElem? (i := 4) rfl) rfl dX1_well_72 ?_
                      refine lv_as ((hk.2.2.1 k (by omega)).1) ?_
                      refine lv_iconst (v := 1) hx hb dX1_well_75 (by decide) ?_
                      refine lv_isub hx hb dX1_well_76 ?_
                      refine lv_as (z := nI (nW k - 1)) (nI_pre (by omega)) ?_
                      refine gw_aald (b := ad (60 + (20 * k + (nW k - 1)))) hx hb hT hH.1 (50 + k) 5 (xx_wells hk (show k < nC by omega)) rfl (nW k - 1) rfl (show nW k - 1 < 20 by omega) (by decide) (xx_wer hk (show k < nC by omega) (show nW k - 1 < nW k by omega)) dX1_well_77 ?_
                      refine gw_getN (C := RX6) (T := TX6) (N := 4) (ci := 5) (fs := xx_fs6 σ.1 (20 * k + (nW k - 1))) (v := .int (σ.1.2 14 (20 * k + (nW k - 1)))) hx hb hT hH.1 (60 + (20 * k + (nW k - 1))) (xx_well hk (show k < nC by omega) (show nW k - 1 < nW k by omega)) rfl in_X6 2 (by decide) rfl (List.mem_of_getElem? (i := 9) rfl) rfl dX1_well_78 ?_
                      refine lv_icmp_lt (tgt := 88) hx hb dX1_well_81 (by decide) (fun c_81 => ?_) (fun c_81 => ?_)
                      · skip
                        refine lv_iconst (v := 0) hx hb dX1_well_88 (by decide) ?_
                        exact xt_call (k := 3) (yy_S (n := 1) (c_X1_must0 l hfl σ G A ad wk wv) hx hb hml hT hxc hA hH q320 (ex_code_of hT.2.1 q320) (ex_named (hT.2.1 _ q320)) q319 q33 q318 (by decide +kernel) ⟨Nat.le_of_ble_eq_true rfl, Nat.le_of_ble_eq_true rfl⟩ rfl hl.1 rfl (Nat.le_of_ble_eq_true rfl) dX1_well_89 ⟨Nat.le_of_ble_eq_true rfl, Nat.le_of_ble_eq_true rfl⟩) hlocks hE (xx_tq hT hH (fun _ _ _ => rfl) (by decide) (⟨rfl, Or.inr ⟨k, hkk, rfl, Or.inr ⟨h_9, Or.inl ⟨rfl, fun g => by rcases g.2.2.2 with g | g; exact c_60 g; exact absurd g (Int32.not_le.mpr c_81)⟩⟩⟩⟩)) hH.2.2.2.2 (Nat.le_of_ble_eq_true rfl) (Nat.le_of_ble_eq_true rfl)
                      · skip
                        refine lv_iconst (v := 1) hx hb dX1_well_84 (by decide) ?_
                        refine lv_goto (tgt := 89) hx hb dX1_well_85 (by decide) ?_
                        refine tk_cSv (n := 1) (c_X1_must1 l) hx hb hml hT.1 hT.2.1 (fun a U g mk h => h) (fun U hU hW => trivial) (lw_S q318 q319 q33 q320) (by decide +kernel) ⟨Nat.le_of_ble_eq_true rfl, Nat.le_of_ble_eq_true rfl⟩ rfl hl.1 rfl (Nat.le_of_ble_eq_true rfl) dX1_well_89 ⟨Nat.le_of_ble_eq_true rfl, Nat.le_of_ble_eq_true rfl⟩ ?_
                        refine lv_aload hx hb dX1_well_92 (lv_at hl 0 rfl) ?_
                        refine gw_getN (C := RX5) (T := TX5) (N := 5) (ci := 4) (fs := xx_fs5 ad σ.1 k) (v := .int (σ.1.2 5 k)) hx hb hT hH.1 (40 + k) (xx_chan hk (show k < nC by omega)) rfl in_X5 1 (by decide) rfl (List.mem_of_getElem? (i := 4) rfl) rfl dX1_well_94 ?_
                        refine lv_as ((hk.2.2.1 k (by omega)).1) ?_
                        refine lv_bipush (v := 20) hx hb dX1_well_97 (by decide) ?_
                        refine lv_icmp_ge (tgt := 106) hx hb dX1_well_99 (by decide) (fun c_99 => ?_) (fun c_99 => ?_)
                        · skip
                          have c_99 : 20 ≤ (nW k) := (nI_leI (a := 20) (b := (nW k)) (by omega) (by omega)).mp c_99
                          refine lv_iconst (v := 0) hx hb dX1_well_106 (by decide) ?_
                          exact xt_call (k := 4) (yy_S (n := 1) (c_X1_mayBe0 l hfl σ G A ad wk wv) hx hb hml hT hxc hA hH q352 (ex_code_of hT.2.1 q352) (ex_named (hT.2.1 _ q352)) q351 q33 q350 (by decide +kernel) ⟨Nat.le_of_ble_eq_true rfl, Nat.le_of_ble_eq_true rfl⟩ rfl hl.1 rfl (Nat.le_of_ble_eq_true rfl) dX1_well_107 ⟨Nat.le_of_ble_eq_true rfl, Nat.le_of_ble_eq_true rfl⟩) hlocks hE (xx_tq hT hH (fun _ _ _ => rfl) (by decide) (⟨rfl, Or.inr ⟨k, hkk, rfl, Or.inr ⟨h_9, Or.inr ⟨⟨h_27, h_37, h_49, Or.inr (in_ge c_81)⟩, rfl, by omega⟩⟩⟩⟩)) hH.2.2.2.2 (Nat.le_of_ble_eq_true rfl) (Nat.le_of_ble_eq_true rfl)
                        · skip
                          have c_99 : ¬ (20 ≤ (nW k)) := fun h => c_99 ((nI_leI (a := 20) (b := (nW k)) (by omega) (by omega)).mpr h)
                          refine lv_iconst (v := 1) hx hb dX1_well_102 (by decide) ?_
                          refine lv_goto (tgt := 107) hx hb dX1_well_103 (by decide) ?_
                          refine tk_cSv (n := 1) (c_X1_mayBe1 l) hx hb hml hT.1 hT.2.1 (fun a U g mk h => h) (fun U hU hW => trivial) (lw_S q350 q351 q33 q352) (by decide +kernel) ⟨Nat.le_of_ble_eq_true rfl, Nat.le_of_ble_eq_true rfl⟩ rfl hl.1 rfl (Nat.le_of_ble_eq_true rfl) dX1_well_107 ⟨Nat.le_of_ble_eq_true rfl, Nat.le_of_ble_eq_true rfl⟩ ?_
                          refine lv_aload hx hb dX1_well_110 (lv_at hl 0 rfl) ?_
                          refine gw_getN (C := RX5) (T := TX5) (N := 5) (ci := 4) (fs := xx_fs5 ad σ.1 k) (v := .ref (ad (50 + k))) hx hb hT hH.1 (40 + k) (xx_chan hk (show k < nC by omega)) rfl in_X5 0 (by decide) rfl (List.mem_of_getElem? (i := 3) rfl) rfl dX1_well_112 ?_
                          refine lv_aload hx hb dX1_well_115 (lv_at hl 0 rfl) ?_
                          refine gw_getN (C := RX5) (T := TX5) (N := 5) (ci := 4) (fs := xx_fs5 ad σ.1 k) (v := .int (σ.1.2 5 k)) hx hb hT hH.1 (40 + k) (xx_chan hk (show k < nC by omega)) rfl in_X5 1 (by decide) rfl (List.mem_of_getElem? (i := 4) rfl) rfl dX1_well_117 ?_
                          refine lv_as ((hk.2.2.1 k (by omega)).1) ?_
                          have c20 : nW k < 20 := by omega
                          refine gw_new (C := RX6) (T := TX6) (N := 4) (ci := 5) hx hb hT hH hA (60 + (20 * k + nW k)) (xx_free_well hk hkk c20) (by omega) rfl in_X6 tyX6 tyX6_ok q475 q476 q47 [.int 0, .int 0, .int 0, .int 0] dv_X6 (Nat.le_of_ble_eq_true rfl) (Nat.le_of_ble_eq_true rfl) dX1_well_120 (fun ad1 H hext hH => ?_)
                          refine lv_dup hx hb dX1_well_123 rfl ?_
                          refine lv_iload_n hx hb dX1_well_124 rfl (lv_at hl 3 rfl) ?_
                          refine lv_iload_n hx hb dX1_well_125 rfl (lv_at hl 4 rfl) ?_
                          refine lv_iload hx hb dX1_well_126 (lv_at hl 5 rfl) ?_
                          refine gv_I (n := 3) (i := 60 + (20 * k + nW k)) (c_X6_init l G A ad1 wk wv _ (60 + (20 * k + nW k)) x y f xx_as) hx hb hml hT hxc hA hH q479 q47 q477 q478 rfl (by decide +kernel) ⟨Nat.le_of_ble_eq_true rfl, Nat.le_of_ble_eq_true rfl⟩ rfl hl.1 rfl (Nat.le_of_ble_eq_true rfl) dX1_well_128 ⟨Nat.le_of_ble_eq_true rfl, Nat.le_of_ble_eq_true rfl⟩ (fun ad2 w2 H locs hp_128 hH => ?_)
                          rw [(Prod.mk.inj hp_128).1, (Prod.mk.inj hp_128).2, va_up_s] at hH
                          refine lv_ref2 (a' := ad1 (50 + k)) (hext _ (by omega)).symm ?_
                          refine gw_aast (r := (RX6, TX6, 4)) (ci := 5) hx hb hT hH (50 + k) 5 (by rw [xx_at (by omega)]; exact xx_wells hk hkk) rfl (60 + (20 * k + nW k)) xx_as rfl (nW k) rfl (by omega) (by decide) dX1_well_131 (fun H locs hH => ?_)
                          refine lv_aload hx hb dX1_well_132 (lv_at hl 0 rfl) ?_
                          refine lv_ref (a' := ad1 (40 + k)) (hext _ (by omega)).symm ?_
                          refine lv_dup hx hb dX1_well_134 rfl ?_
                          refine gw_getN (C := RX5) (T := TX5) (N := 5) (ci := 4) (fs := xx_fs5 ad σ.1 k) (v := .int (σ.1.2 5 k)) hx hb hT hH.1 (40 + k) (by rw [xx_at (by omega), xx_at (by omega)]; exact xx_chan hk hkk) rfl in_X5 1 (by decide) rfl (List.mem_of_getElem? (i := 4) rfl) rfl dX1_well_135 ?_
                          refine lv_as (hk.2.2.1 k (by omega)).1 ?_
                          refine lv_iconst (v := 1) hx hb dX1_well_138 (by decide) ?_
                          refine lv_iadd hx hb dX1_well_139 ?_
                          refine lv_as (nI_add (nW k) 1) ?_
                          refine gw_putN (C := RX5) (T := TX5) (N := 5) (ci := 4) (fs := xx_fs5 ad σ.1 k) (v := .int (nI (nW k + 1))) hx hb hT hH (40 + k) (by rw [xx_at (by omega), xx_at (by omega)]; exact xx_chan hk hkk) rfl in_X5 tyX5 tyX5_ok nmX5 1 (by decide) rfl rfl (List.mem_of_getElem? (i := 4) rfl) rfl rfl (Nat.le_of_ble_eq_true rfl) dX1_well_140 (fun H locs hH => ?_)
                          rw [xx_newwe hk hkk c20 hext x y f] at hH
                          have hk' := hk.newE hkk c20 x y f
                          refine lv_aload hx hb dX1_well_143 (lv_at hl 0 rfl) ?_
                          refine lv_ref (a' := ad1 (40 + k)) (hext _ (by omega)).symm ?_
                          refine gw_getN (C := RX5) (T := TX5) (N := 5) (ci := 4) (fs := xx_fs5 ad1 (xNewE σ k (nW k) x y f).1 k) (v := .int ((xNewE σ k (nW k) x y f).1.2 5 k)) hx hb hT hH.1 (40 + k) (xx_chan hk' hkk) rfl in_X5 1 (by decide) rfl (List.mem_of_getElem? (i := 4) rfl) rfl dX1_well_145 ?_
                          refine lv_as (z := nI (nW k + 1)) (by rw [(hk'.2.2.1 k (by omega)).1, xNewEW, if_pos rfl]) ?_
                          refine lv_iconst (v := 1) hx hb dX1_well_148 (by decide) ?_
                          refine lv_isub hx hb dX1_well_149 ?_
                          refine lv_as (z := nI (nW k)) (nI_pred (nW k)) ?_
                          exact xx_ri hx hb hr hlocks hT hH (fun i x hx => hext i (by rintro rfl; rw [xx_free_well hk hkk c20] at hx; cases hx)) rfl dX1_well_150 (⟨k, hkk, rfl, h_9, ⟨h_27, h_37, h_49, Or.inr (in_ge c_81)⟩, c20, rfl, rfl⟩) (Nat.le_of_ble_eq_true rfl) (Nat.le_of_ble_eq_true rfl)
                · skip
                  refine lv_if_eq (tgt := 88) hx hb dX1_well_52 (by decide) (fun c_52 => ?_) (fun c_52 => ?_)
                  · skip
                    refine lv_iconst (v := 0) hx hb dX1_well_88 (by decide) ?_
                    exact xt_call (k := 3) (yy_S (n := 1) (c_X1_must0 l hfl σ G A ad wk wv) hx hb hml hT hxc hA hH q320 (ex_code_of hT.2.1 q320) (ex_named (hT.2.1 _ q320)) q319 q33 q318 (by decide +kernel) ⟨Nat.le_of_ble_eq_true rfl, Nat.le_of_ble_eq_true rfl⟩ rfl hl.1 rfl (Nat.le_of_ble_eq_true rfl) dX1_well_89 ⟨Nat.le_of_ble_eq_true rfl, Nat.le_of_ble_eq_true rfl⟩) hlocks hE (xx_tq hT hH (fun _ _ _ => rfl) (by decide) (⟨rfl, Or.inr ⟨k, hkk, rfl, Or.inr ⟨h_9, Or.inl ⟨rfl, fun g => h_49 g.2.2.1⟩⟩⟩⟩)) hH.2.2.2.2 (Nat.le_of_ble_eq_true rfl) (Nat.le_of_ble_eq_true rfl)
                  · skip
                    exact absurd c_52 (by decide)
            · skip
              refine lv_if_eq (tgt := 88) hx hb dX1_well_40 (by decide) (fun c_40 => ?_) (fun c_40 => ?_)
              · skip
                refine lv_iconst (v := 0) hx hb dX1_well_88 (by decide) ?_
                exact xt_call (k := 3) (yy_S (n := 1) (c_X1_must0 l hfl σ G A ad wk wv) hx hb hml hT hxc hA hH q320 (ex_code_of hT.2.1 q320) (ex_named (hT.2.1 _ q320)) q319 q33 q318 (by decide +kernel) ⟨Nat.le_of_ble_eq_true rfl, Nat.le_of_ble_eq_true rfl⟩ rfl hl.1 rfl (Nat.le_of_ble_eq_true rfl) dX1_well_89 ⟨Nat.le_of_ble_eq_true rfl, Nat.le_of_ble_eq_true rfl⟩) hlocks hE (xx_tq hT hH (fun _ _ _ => rfl) (by decide) (⟨rfl, Or.inr ⟨k, hkk, rfl, Or.inr ⟨h_9, Or.inl ⟨rfl, fun g => h_37 g.2.1⟩⟩⟩⟩)) hH.2.2.2.2 (Nat.le_of_ble_eq_true rfl) (Nat.le_of_ble_eq_true rfl)
              · skip
                exact absurd c_40 (by decide)
        · skip
          refine lv_if_eq (tgt := 88) hx hb dX1_well_30 (by decide) (fun c_30 => ?_) (fun c_30 => ?_)
          · skip
            refine lv_iconst (v := 0) hx hb dX1_well_88 (by decide) ?_
            exact xt_call (k := 3) (yy_S (n := 1) (c_X1_must0 l hfl σ G A ad wk wv) hx hb hml hT hxc hA hH q320 (ex_code_of hT.2.1 q320) (ex_named (hT.2.1 _ q320)) q319 q33 q318 (by decide +kernel) ⟨Nat.le_of_ble_eq_true rfl, Nat.le_of_ble_eq_true rfl⟩ rfl hl.1 rfl (Nat.le_of_ble_eq_true rfl) dX1_well_89 ⟨Nat.le_of_ble_eq_true rfl, Nat.le_of_ble_eq_true rfl⟩) hlocks hE (xx_tq hT hH (fun _ _ _ => rfl) (by decide) (⟨rfl, Or.inr ⟨k, hkk, rfl, Or.inr ⟨h_9, Or.inl ⟨rfl, fun g => h_27 g.1⟩⟩⟩⟩)) hH.2.2.2.2 (Nat.le_of_ble_eq_true rfl) (Nat.le_of_ble_eq_true rfl)
          · skip
            exact absurd c_30 (by decide)
  · skip
    exact xt_call (k := 1) (yy_V (n := 1) 0 (c_X1_channelAt0 l hfl σ hk v h_2 G A ad wk wv) hx hb hml hT hxc hA hH xx_0 rfl q438 (ex_code_of hT.2.1 q438) q437 qs4 q33 q435 (by decide +kernel) ⟨Nat.le_of_ble_eq_true rfl, Nat.le_of_ble_eq_true rfl⟩ rfl hl.1 rfl (Nat.le_of_ble_eq_true rfl) dX1_well_2 ⟨Nat.le_of_ble_eq_true rfl, Nat.le_of_ble_eq_true rfl⟩) hlocks hE (xx_tq hT hH (fun _ _ _ => rfl) (by decide) (⟨rfl, Or.inl ⟨rfl, h_2⟩⟩)) hH.2.2.2.2 (Nat.le_of_ble_eq_true rfl) (Nat.le_of_ble_eq_true rfl)

set_option maxHeartbeats 1000000 in
set_option maxRecDepth 100000 in
theorem c_X1_dig (l : Launch) (hfl : l.flags = pinnedFlags ++ [noTraceFlag]) (σ : xS) {nC nS : Nat} {nW : Nat → Nat} (hk : xk σ nC nS nW) (v o t : Int32) : xx_C l yX1_dig (Cond.code yX1_dig cX1_dig 5 (some .int)) 8 8 100 (fun ad => [.ref (ad 0), .int v, .int o, .int t]) σ (fun r u => ∃ k, k < nC ∧ nI k = v ∧ σ.1.2 8 k = -1 ∧ ((0 ≤ o ∧ o ≤ 30) ∧ (1 ≤ t ∧ t ≤ 15)) ∧ ((xMay σ.1 nC nW k ∧ nS < 60 ∧ some (.int (nI nS)) = r ∧ xAdd (xs_st (xs_ar (xs_ar (xs_ar σ 8 k (σ.1.1 11)) 7 k (σ.1.1 3)) 9 k (t * 1440)) 11 (σ.1.1 11 + 1)) nS k 0 (t * 1440) o = u) ∨ (¬ (xMay σ.1 nC nW k ∧ nS < 60) ∧ some (.int (-1)) = r ∧ σ = u))) (fun q u => σ = u ∧ ((q = 1 ∧ (¬ ∃ k, k < nC ∧ nI k = v)) ∨ ∃ k, k < nC ∧ nI k = v ∧ ((q = 2 ∧ ¬ σ.1.2 8 k = -1) ∨ (σ.1.2 8 k = -1 ∧ q = 3 ∧ ¬ ((0 ≤ o ∧ o ≤ 30) ∧ (1 ≤ t ∧ t ≤ 15)))))) := by
  refine xx_of (by decide) (fun ad => Nat.le_of_ble_eq_true rfl) ?_
  intro p e s m args below meth c G A ad wk wv ls X hE hH hl
  obtain ⟨hx, hb, hml, hT, hr, hlocks, hxc, hA⟩ := id X
  have hl : lv_has ls 5 [(0, .ref (ad 0)), (1, .int v), (2, .int o), (3, .int t)] := hl
  have h8 := hk.1.2
  have h60 := hk.2.1.2
  have hk0 := hk
  refine lv_aload_n hx hb dX1_dig_0 rfl (lv_at hl 0 rfl) ?_
  refine lv_iload_n hx hb dX1_dig_1 rfl (lv_at hl 1 rfl) ?_
  by_cases h_2 : ∃ k, k < nC ∧ nI k = v
  · skip
    obtain ⟨k, hkk, rfl⟩ := h_2
    refine xr_Vr (n := 1) 0 ((c_X1_channelAt1 l σ hk k (by omega)) G ad wk) hx hb hml hT hH.1 hH.2.1 xx_0 rfl (lw_V q435 q437 qs4 q33 q438) (by decide +kernel) ⟨Nat.le_of_ble_eq_true rfl, Nat.le_of_ble_eq_true rfl⟩ rfl hl.1 rfl (Nat.le_of_ble_eq_true rfl) dX1_dig_2 ⟨Nat.le_of_ble_eq_true rfl, Nat.le_of_ble_eq_true rfl⟩ ?_
    refine lv_astore (lv' := [(4, .ref (ad (40 + k))), (0, .ref (ad 0)), (1, .int (nI k)), (2, .int o), (3, .int t)]) hx hb dX1_dig_5 hl (by decide) rfl (fun ls hl => ?_)
    refine lv_aload hx hb dX1_dig_7 (lv_at hl 0 rfl) ?_
    refine xr_V (n := 0) (40 + k) ((c_X5_isDug l σ hk k (by omega)) G ad wk) hx hb hml hT hH.1 hH.2.1 (xx_chan hk (show k < nC by omega)) rfl (lw_V q280 q281 q282 q42 q283) (by decide +kernel) ⟨Nat.le_of_ble_eq_true rfl, Nat.le_of_ble_eq_true rfl⟩ rfl hl.1 rfl (Nat.le_of_ble_eq_true rfl) dX1_dig_9 ⟨Nat.le_of_ble_eq_true rfl, Nat.le_of_ble_eq_true rfl⟩ (fun r_9 hp_9 => ?_)
    rcases hp_9 with ⟨rfl, h_9⟩ | ⟨rfl, h_9⟩
    · skip
      refine lv_if_ne (tgt := 19) hx hb dX1_dig_12 (by decide) (fun c_12 => ?_) (fun c_12 => ?_)
      · skip
        refine lv_iconst (v := 0) hx hb dX1_dig_19 (by decide) ?_
        exact xt_call (k := 2) (yy_S (n := 1) (c_X1_stands0 l hfl σ G A ad wk wv) hx hb hml hT hxc hA hH q459 (ex_code_of hT.2.1 q459) (ex_named (hT.2.1 _ q459)) q458 q33 q457 (by decide +kernel) ⟨Nat.le_of_ble_eq_true rfl, Nat.le_of_ble_eq_true rfl⟩ rfl hl.1 rfl (Nat.le_of_ble_eq_true rfl) dX1_dig_20 ⟨Nat.le_of_ble_eq_true rfl, Nat.le_of_ble_eq_true rfl⟩) hlocks hE (xx_tq hT hH (fun _ _ _ => rfl) (by decide) (⟨rfl, Or.inr ⟨k, hkk, rfl, Or.inl ⟨rfl, h_9⟩⟩⟩)) hH.2.2.2.2 (Nat.le_of_ble_eq_true rfl) (Nat.le_of_ble_eq_true rfl)
      · skip
        exact absurd c_12 (by decide)
    · skip
      refine lv_if_ne (tgt := 19) hx hb dX1_dig_12 (by decide) (fun c_12 => ?_) (fun c_12 => ?_)
      · skip
        exact absurd c_12 (by decide)
      · skip
        refine lv_iconst (v := 1) hx hb dX1_dig_15 (by decide) ?_
        refine lv_goto (tgt := 20) hx hb dX1_dig_16 (by decide) ?_
        refine tk_cSv (n := 1) (c_X1_stands1 l) hx hb hml hT.1 hT.2.1 (fun a U g mk h => h) (fun U hU hW => trivial) (lw_S q457 q458 q33 q459) (by decide +kernel) ⟨Nat.le_of_ble_eq_true rfl, Nat.le_of_ble_eq_true rfl⟩ rfl hl.1 rfl (Nat.le_of_ble_eq_true rfl) dX1_dig_20 ⟨Nat.le_of_ble_eq_true rfl, Nat.le_of_ble_eq_true rfl⟩ ?_
        refine lv_iload_n hx hb dX1_dig_23 rfl (lv_at hl 3 rfl) ?_
        refine ss_ci (n := 1) (c_X1_isOwner l o) hx hb hml hT.1 hT.2.1 (lw_S q516 q517 q33 q518) (by decide +kernel) ⟨Nat.le_of_ble_eq_true rfl, Nat.le_of_ble_eq_true rfl⟩ rfl hl.1 rfl (Nat.le_of_ble_eq_true rfl) dX1_dig_24 ⟨Nat.le_of_ble_eq_true rfl, Nat.le_of_ble_eq_true rfl⟩ (fun r_24 hp_24 => ?_)
        rcases hp_24 with ⟨rfl, h_24⟩ | ⟨rfl, h_24⟩
        · skip
          refine lv_if_eq (tgt := 44) hx hb dX1_dig_27 (by decide) (fun c_27 => ?_) (fun c_27 => ?_)
          · skip
            exact absurd c_27 (by decide)
          · skip
            refine lv_iload_n hx hb dX1_dig_30 rfl (lv_at hl 4 rfl) ?_
            refine lv_iconst (v := 1) hx hb dX1_dig_31 (by decide) ?_
            refine lv_bipush (v := 15) hx hb dX1_dig_32 (by decide) ?_
            refine ss_ci (n := 3) (c_X1_isIn l t 1 15) hx hb hml hT.1 hT.2.1 (lw_S q254 q255 q33 q256) (by decide +kernel) ⟨Nat.le_of_ble_eq_true rfl, Nat.le_of_ble_eq_true rfl⟩ rfl hl.1 rfl (Nat.le_of_ble_eq_true rfl) dX1_dig_34 ⟨Nat.le_of_ble_eq_true rfl, Nat.le_of_ble_eq_true rfl⟩ (fun r_34 hp_34 => ?_)
            rcases hp_34 with ⟨rfl, h_34⟩ | ⟨rfl, h_34⟩
            · skip
              refine lv_if_eq (tgt := 44) hx hb dX1_dig_37 (by decide) (fun c_37 => ?_) (fun c_37 => ?_)
              · skip
                exact absurd c_37 (by decide)
              · skip
                refine lv_iconst (v := 1) hx hb dX1_dig_40 (by decide) ?_
                refine lv_goto (tgt := 45) hx hb dX1_dig_41 (by decide) ?_
                refine tk_cSv (n := 1) (c_X1_must1 l) hx hb hml hT.1 hT.2.1 (fun a U g mk h => h) (fun U hU hW => trivial) (lw_S q318 q319 q33 q320) (by decide +kernel) ⟨Nat.le_of_ble_eq_true rfl, Nat.le_of_ble_eq_true rfl⟩ rfl hl.1 rfl (Nat.le_of_ble_eq_true rfl) dX1_dig_45 ⟨Nat.le_of_ble_eq_true rfl, Nat.le_of_ble_eq_true rfl⟩ ?_
                refine lv_aload_n hx hb dX1_dig_48 rfl (lv_at hl 1 rfl) ?_
                refine lv_aload hx hb dX1_dig_49 (lv_at hl 0 rfl) ?_
                refine xr_V (n := 1) 0 ((c_X1_isAllowed l σ hk k (by omega)) G ad wk) hx hb hml hT hH.1 hH.2.1 xx_0 rfl (lw_V q504 q506 qs5 q33 q507) (by decide +kernel) ⟨Nat.le_of_ble_eq_true rfl, Nat.le_of_ble_eq_true rfl⟩ rfl hl.1 rfl (Nat.le_of_ble_eq_true rfl) dX1_dig_51 ⟨Nat.le_of_ble_eq_true rfl, Nat.le_of_ble_eq_true rfl⟩ (fun r_51 hp_51 => ?_)
                rcases hp_51 with ⟨rfl, h_51⟩ | ⟨rfl, h_51⟩
                · skip
                  refine lv_if_eq (tgt := 66) hx hb dX1_dig_54 (by decide) (fun c_54 => ?_) (fun c_54 => ?_)
                  · skip
                    exact absurd c_54 (by decide)
                  · skip
                    refine lv_aload_n hx hb dX1_dig_57 rfl (lv_at hl 1 rfl) ?_
                    refine gw_get (C := RX1) (T := TX1) (N := 21) (ci := 1) (fs := xx_fs1 ad σ.1.1) (v := .int (σ.1.1 17)) hx hb hT hH.1 0 xx_0 rfl in_X1 14 (by decide) rfl q190 rfl dX1_dig_58 ?_
                    refine lv_as hk.2.1.1 ?_
                    refine lv_bipush (v := 60) hx hb dX1_dig_61 (by decide) ?_
                    refine lv_icmp_ne (tgt := 68) hx hb dX1_dig_63 (by decide) (fun c_63 => ?_) (fun c_63 => ?_)
                    · skip
                      have c_63 : ¬ (nS = 60) := fun h => c_63 ((nI_eq (a := nS) (b := 60) (by omega) (by omega)).mpr h)
                      refine lv_aload hx hb dX1_dig_68 (lv_at hl 0 rfl) ?_
                      refine lv_aload_n hx hb dX1_dig_70 rfl (lv_at hl 1 rfl) ?_
                      refine gw_get (C := RX1) (T := TX1) (N := 21) (ci := 1) (fs := xx_fs1 ad σ.1.1) (v := .int (σ.1.1 11)) hx hb hT hH.1 0 xx_0 rfl in_X1 13 (by decide) rfl q189 rfl dX1_dig_71 ?_
                      refine gw_putN (C := RX5) (T := TX5) (N := 5) (ci := 4) (fs := xx_fs5 ad σ.1 k) (v := .int (σ.1.1 11)) hx hb hT hH (40 + k) (xx_chan hk (show k < nC by omega)) rfl in_X5 tyX5 tyX5_ok nmX5 3 (by decide) rfl rfl (List.mem_of_getElem? (i := 6) rfl) rfl rfl (Nat.le_of_ble_eq_true rfl) dX1_dig_74 (fun H locs hH => ?_)
                      rw [xx_up5 hk (show k < nC by omega) (k := 3) (j := 8) (by decide) (σ.1.1 11)] at hH
                      have hk := hk.ar (k := 8) (n := k) (σ.1.1 11) (by decide) (by decide)
                      refine lv_aload hx hb dX1_dig_77 (lv_at hl 0 rfl) ?_
                      refine lv_aload_n hx hb dX1_dig_79 rfl (lv_at hl 1 rfl) ?_
                      refine gw_get (C := RX1) (T := TX1) (N := 21) (ci := 1) (fs := xx_fs1 ad (xs_ar σ 8 k (σ.1.1 11)).1.1) (v := .int (σ.1.1 3)) hx hb hT hH.1 0 xx_0 rfl in_X1 17 (by decide) rfl q193 rfl dX1_dig_80 ?_
                      refine gw_putN (C := RX5) (T := TX5) (N := 5) (ci := 4) (fs := xx_fs5 ad (xs_ar σ 8 k (σ.1.1 11)).1 k) (v := .int (σ.1.1 3)) hx hb hT hH (40 + k) (xx_chan hk (show k < nC by omega)) rfl in_X5 tyX5 tyX5_ok nmX5 2 (by decide) rfl rfl (List.mem_of_getElem? (i := 5) rfl) rfl rfl (Nat.le_of_ble_eq_true rfl) dX1_dig_83 (fun H locs hH => ?_)
                      rw [xx_up5 hk (show k < nC by omega) (k := 2) (j := 7) (by decide) (σ.1.1 3)] at hH
                      have hk := hk.ar (k := 7) (n := k) (σ.1.1 3) (by decide) (by decide)
                      refine lv_aload hx hb dX1_dig_86 (lv_at hl 0 rfl) ?_
                      refine lv_iload_n hx hb dX1_dig_88 rfl (lv_at hl 4 rfl) ?_
                      refine lv_sipush (v := 1440) hx hb dX1_dig_89 (by decide) ?_
                      refine lv_imul hx hb dX1_dig_92 ?_
                      refine gw_putN (C := RX5) (T := TX5) (N := 5) (ci := 4) (fs := xx_fs5 ad (xs_ar (xs_ar σ 8 k (σ.1.1 11)) 7 k (σ.1.1 3)).1 k) (v := .int (t * 1440)) hx hb hT hH (40 + k) (xx_chan hk (show k < nC by omega)) rfl in_X5 tyX5 tyX5_ok nmX5 4 (by decide) rfl rfl (List.mem_of_getElem? (i := 7) rfl) rfl rfl (Nat.le_of_ble_eq_true rfl) dX1_dig_93 (fun H locs hH => ?_)
                      rw [xx_up5 hk (show k < nC by omega) (k := 4) (j := 9) (by decide) (t * 1440)] at hH
                      have hk := hk.ar (k := 9) (n := k) (t * 1440) (by decide) (by decide)
                      refine lv_aload_n hx hb dX1_dig_96 rfl (lv_at hl 1 rfl) ?_
                      refine lv_dup hx hb dX1_dig_97 rfl ?_
                      refine gw_get (C := RX1) (T := TX1) (N := 21) (ci := 1) (fs := xx_fs1 ad (xs_ar (xs_ar (xs_ar σ 8 k (σ.1.1 11)) 7 k (σ.1.1 3)) 9 k (t * 1440)).1.1) (v := .int (σ.1.1 11)) hx hb hT hH.1 0 xx_0 rfl in_X1 13 (by decide) rfl q189 rfl dX1_dig_98 ?_
                      refine lv_iconst (v := 1) hx hb dX1_dig_101 (by decide) ?_
                      refine lv_iadd hx hb dX1_dig_102 ?_
                      refine gw_put (C := RX1) (T := TX1) (N := 21) (ci := 1) (fs := xx_fs1 ad (xs_ar (xs_ar (xs_ar σ 8 k (σ.1.1 11)) 7 k (σ.1.1 3)) 9 k (t * 1440)).1.1) (v := .int ((σ.1.1 11) + 1)) hx hb hT hH 0 xx_0 rfl in_X1 tyX1 tyX1_ok nmX1 13 (by decide) rfl rfl q189 rfl rfl (Nat.le_of_ble_eq_true rfl) dX1_dig_103 (fun H locs hH => ?_)
                      rw [xx_up1 (k := 13) (j := 11) (by decide) ((σ.1.1 11) + 1)] at hH
                      have hk := hk.st (j := 11) ((σ.1.1 11) + 1) (by decide) (by decide)
                      refine lv_aload_n hx hb dX1_dig_106 rfl (lv_at hl 1 rfl) ?_
                      refine lv_aload hx hb dX1_dig_107 (lv_at hl 0 rfl) ?_
                      refine lv_iload_n hx hb dX1_dig_109 rfl (lv_at hl 2 rfl) ?_
                      refine lv_iconst (v := 0) hx hb dX1_dig_110 (by decide) ?_
                      refine lv_aload hx hb dX1_dig_111 (lv_at hl 0 rfl) ?_
                      refine gw_getN (C := RX5) (T := TX5) (N := 5) (ci := 4) (fs := xx_fs5 ad (xs_st (xs_ar (xs_ar (xs_ar σ 8 k (σ.1.1 11)) 7 k (σ.1.1 3)) 9 k (t * 1440)) 11 ((σ.1.1 11) + 1)).1 k) (v := .int (t * 1440)) hx hb hT hH.1 (40 + k) (xx_chan hk (show k < nC by omega)) rfl in_X5 4 (by decide) rfl (List.mem_of_getElem? (i := 7) rfl) (congrArg some (congrArg Value.int (xs_ar_s (xs_ar (xs_ar σ 8 k (σ.1.1 11)) 7 k (σ.1.1 3)) 9 k (t * 1440)))) dX1_dig_113 ?_
                      refine lv_iload_n hx hb dX1_dig_116 rfl (lv_at hl 3 rfl) ?_
                      refine xx_call (yy_V (n := 5) 0 (c_X1_add l (xs_st (xs_ar (xs_ar (xs_ar σ 8 k (σ.1.1 11)) 7 k (σ.1.1 3)) 9 k (t * 1440)) 11 ((σ.1.1 11) + 1)) hk (by omega) k hkk 0 (t * 1440) o G A ad wk wv) hx hb hml hT hxc hA hH xx_0 rfl q522 (ex_code_of hT.2.1 q522) q521 qs6 q33 q519 (by decide +kernel) ⟨Nat.le_of_ble_eq_true rfl, Nat.le_of_ble_eq_true rfl⟩ rfl hl.1 rfl (Nat.le_of_ble_eq_true rfl) dX1_dig_117 ⟨Nat.le_of_ble_eq_true rfl, Nat.le_of_ble_eq_true rfl⟩) hH (fun v_117 u_117 ad1 H locs hext_117 hH hp_117 => ?_) (fun a_117 k_117 u_117 ad1 H locs hext_117 hH hp_117 hI_117 h6_117 => ?_)
                      rotate_left
                      · exact hp_117.elim
                      obtain ⟨rfl, rfl⟩ := hp_117
                      have hk' := hk.add (by omega) hkk 0 (t * 1440) o
                      have hx0 := xx_ext hk0 hk (Nat.le_refl _) (Nat.le_refl _) (fun _ => Nat.le_refl _) hext_117
                      refine lv_aload_n hx hb dX1_dig_120 rfl (lv_at hl 1 rfl) ?_
                      refine lv_ref (a' := ad1 0) (hext_117 0 _ xx_0).symm ?_
                      refine gw_get (C := RX1) (T := TX1) (N := 21) (ci := 1) (fs := xx_fs1 ad1 (xAdd (xs_st (xs_ar (xs_ar (xs_ar σ 8 k (σ.1.1 11)) 7 k (σ.1.1 3)) 9 k (t * 1440)) 11 (σ.1.1 11 + 1)) nS k 0 (t * 1440) o).1.1) (v := .int ((xAdd (xs_st (xs_ar (xs_ar (xs_ar σ 8 k (σ.1.1 11)) 7 k (σ.1.1 3)) 9 k (t * 1440)) 11 (σ.1.1 11 + 1)) nS k 0 (t * 1440) o).1.1 17)) hx hb hT hH.1 0 xx_0 rfl in_X1 14 (by decide) rfl q190 rfl dX1_dig_121 ?_
                      refine lv_as rfl ?_
                      refine lv_iconst (v := 1) hx hb dX1_dig_124 (by decide) ?_
                      refine lv_isub hx hb dX1_dig_125 ?_
                      refine lv_as (z := nI nS) (nI_pred nS) ?_
                      exact xx_ri hx hb hr hlocks hT hH hx0 rfl dX1_dig_126 (⟨k, hkk, rfl, h_9, ⟨h_24, h_34⟩, Or.inl ⟨h_51, by omega, rfl, rfl⟩⟩) (Nat.le_of_ble_eq_true rfl) (Nat.le_of_ble_eq_true rfl)
                    · skip
                      have c_63 : nS = 60 := (nI_eq (a := nS) (b := 60) (by omega) (by omega)).mp c_63
                      refine lv_iconst (v := (-1)) hx hb dX1_dig_66 (by decide) ?_
                      exact xx_ri hx hb hr hlocks hT hH (fun _ _ _ => rfl) rfl dX1_dig_67 (⟨k, hkk, rfl, h_9, ⟨h_24, h_34⟩, Or.inr ⟨fun g => by omega, rfl, rfl⟩⟩) (Nat.le_of_ble_eq_true rfl) (Nat.le_of_ble_eq_true rfl)
                · skip
                  refine lv_if_eq (tgt := 66) hx hb dX1_dig_54 (by decide) (fun c_54 => ?_) (fun c_54 => ?_)
                  · skip
                    refine lv_iconst (v := (-1)) hx hb dX1_dig_66 (by decide) ?_
                    exact xx_ri hx hb hr hlocks hT hH (fun _ _ _ => rfl) rfl dX1_dig_67 (⟨k, hkk, rfl, h_9, ⟨h_24, h_34⟩, Or.inr ⟨fun g => h_51 g.1, rfl, rfl⟩⟩) (Nat.le_of_ble_eq_true rfl) (Nat.le_of_ble_eq_true rfl)
                  · skip
                    exact absurd c_54 (by decide)
            · skip
              refine lv_if_eq (tgt := 44) hx hb dX1_dig_37 (by decide) (fun c_37 => ?_) (fun c_37 => ?_)
              · skip
                refine lv_iconst (v := 0) hx hb dX1_dig_44 (by decide) ?_
                exact xt_call (k := 3) (yy_S (n := 1) (c_X1_must0 l hfl σ G A ad wk wv) hx hb hml hT hxc hA hH q320 (ex_code_of hT.2.1 q320) (ex_named (hT.2.1 _ q320)) q319 q33 q318 (by decide +kernel) ⟨Nat.le_of_ble_eq_true rfl, Nat.le_of_ble_eq_true rfl⟩ rfl hl.1 rfl (Nat.le_of_ble_eq_true rfl) dX1_dig_45 ⟨Nat.le_of_ble_eq_true rfl, Nat.le_of_ble_eq_true rfl⟩) hlocks hE (xx_tq hT hH (fun _ _ _ => rfl) (by decide) (⟨rfl, Or.inr ⟨k, hkk, rfl, Or.inr ⟨h_9, rfl, fun g => h_34 g.2⟩⟩⟩)) hH.2.2.2.2 (Nat.le_of_ble_eq_true rfl) (Nat.le_of_ble_eq_true rfl)
              · skip
                exact absurd c_37 (by decide)
        · skip
          refine lv_if_eq (tgt := 44) hx hb dX1_dig_27 (by decide) (fun c_27 => ?_) (fun c_27 => ?_)
          · skip
            refine lv_iconst (v := 0) hx hb dX1_dig_44 (by decide) ?_
            exact xt_call (k := 3) (yy_S (n := 1) (c_X1_must0 l hfl σ G A ad wk wv) hx hb hml hT hxc hA hH q320 (ex_code_of hT.2.1 q320) (ex_named (hT.2.1 _ q320)) q319 q33 q318 (by decide +kernel) ⟨Nat.le_of_ble_eq_true rfl, Nat.le_of_ble_eq_true rfl⟩ rfl hl.1 rfl (Nat.le_of_ble_eq_true rfl) dX1_dig_45 ⟨Nat.le_of_ble_eq_true rfl, Nat.le_of_ble_eq_true rfl⟩) hlocks hE (xx_tq hT hH (fun _ _ _ => rfl) (by decide) (⟨rfl, Or.inr ⟨k, hkk, rfl, Or.inr ⟨h_9, rfl, fun g => h_24 g.1⟩⟩⟩)) hH.2.2.2.2 (Nat.le_of_ble_eq_true rfl) (Nat.le_of_ble_eq_true rfl)
          · skip
            exact absurd c_27 (by decide)
  · skip
    exact xt_call (k := 1) (yy_V (n := 1) 0 (c_X1_channelAt0 l hfl σ hk v h_2 G A ad wk wv) hx hb hml hT hxc hA hH xx_0 rfl q438 (ex_code_of hT.2.1 q438) q437 qs4 q33 q435 (by decide +kernel) ⟨Nat.le_of_ble_eq_true rfl, Nat.le_of_ble_eq_true rfl⟩ rfl hl.1 rfl (Nat.le_of_ble_eq_true rfl) dX1_dig_2 ⟨Nat.le_of_ble_eq_true rfl, Nat.le_of_ble_eq_true rfl⟩) hlocks hE (xx_tq hT hH (fun _ _ _ => rfl) (by decide) (⟨rfl, Or.inl ⟨rfl, h_2⟩⟩)) hH.2.2.2.2 (Nat.le_of_ble_eq_true rfl) (Nat.le_of_ble_eq_true rfl)
