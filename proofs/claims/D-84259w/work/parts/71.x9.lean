theorem pSk_up (tp : Nat → Int32) (lo hi : Int32) : ∀ n p q, q ≤ p + n → (∀ j, p ≤ j → j < q → lo ≤ tp j ∧ tp j ≤ hi) → q ≤ pSk tp lo hi n p
  | 0, p, q, h, _ => by rw [pSk]; omega
  | n + 1, p, q, h, hall => by
    rw [pSk]
    rcases Nat.lt_or_ge p q with g | g
    · rw [if_pos (hall p (Nat.le_refl _) g)]
      exact pSk_up tp lo hi n (p + 1) q (by omega) (fun j h1 h2 => hall j (by omega) h2)
    · split
      · exact Nat.le_trans (Nat.le_trans g (Nat.le_succ p)) (pSk_ge tp lo hi n (p + 1)).1
      · exact g
theorem pSkip_up {tp : Nat → Int32} {lo hi : Int32} {e p q : Nat} (hp : p ≤ e) (h : q ≤ e) (hall : ∀ j, p ≤ j → j < q → lo ≤ tp j ∧ tp j ≤ hi) : q ≤ pSkip tp lo hi e p := pSk_up tp lo hi (e - p) p q (by omega) hall
theorem and255 (x : Int32) : ¬ x &&& 255 = -1 := by
  intro h
  have h1 := congrArg (fun z : Int32 => z &&& 256) h
  simp only [Int32.and_assoc] at h1
  rw [show (255 : Int32) &&& 256 = 0 by decide, Int32.and_zero] at h1
  exact absurd h1 (by decide)

set_option maxHeartbeats 1000000 in
set_option maxRecDepth 100000 in
theorem lp_X2_sign {p : Program} {l : Launch} {e : Env} {s : State} {m : MethodId} {args : Array Value} {below : List Frame} {meth : Method} {c : Code} {Q : State → Prop} {G : gw_G} {A : Nat → Prop} {ad wk wv : Nat → Nat} (σ : xS) {pt en : Nat} (h26 : σ.1.1 26 = nI en) (he : en ≤ 400) (X : gx_Y RX2 cX2_sign 1 (some .int) G A wk wv p s m args meth c)  (K : (∀ (q : Nat) (H : Heap) (locs : List Loc) (ls : Array Slot), pt ≤ q → q ≤ en → pSkip (σ.1.2 23) 32 32 en pt = q → xx_H G A s.heap H locs ad wk (xs_st σ 25 (nI q)) → lv_has ls 1 [(0, .ref (ad 1))] → W p l e (xx_rm 1 0 0) s m args below meth c H locs 0 0 Q (F0 m 38 ls []))) : ∀ (n : Nat) (q : Nat), en < q + n → pt ≤ q ∧ q ≤ en → (∀ j, pt ≤ j → j < q → 32 ≤ (σ.1.2 23) j ∧ (σ.1.2 23) j ≤ 32) → ∀ (H : Heap) (locs : List Loc) (ls : Array Slot), xx_H G A s.heap H locs ad wk (xs_st σ 25 (nI q)) → lv_has ls 1 [(0, .ref (ad 1))] → W p l e (xx_rm 1 0 0) s m args below meth c H locs 0 0 Q (F0 m 0 ls []) := by
  obtain ⟨hx, hb, hml, hT, hr, hlocks, hxc, hA⟩ := id X
  intro n
  induction n with
  | zero =>
    intro q h0 hpe hall
    exact absurd h0 (by omega)
  | succ n ih =>
    intro q h0 hpe hall H locs ls hH hl
    have hpq := hpe.1
    refine lv_aload_n hx hb dX2_sign_0 rfl (lv_at hl 0 rfl) ?_
    refine gw_get (C := RX2) (T := TX2) (N := 6) (ci := 2) (fs := xx_fs2 ad (xs_st σ 25 (nI q)).1.1) (v := .int ((xs_st σ 25 (nI q)).1.1 25)) hx hb hT hH.1 1 xx_1 rfl in_X2 5 (by decide) rfl q158 rfl dX2_sign_1 ?_
    refine lv_as rfl ?_
    refine lv_aload_n hx hb dX2_sign_4 rfl (lv_at hl 0 rfl) ?_
    refine gw_get (C := RX2) (T := TX2) (N := 6) (ci := 2) (fs := xx_fs2 ad (xs_st σ 25 (nI q)).1.1) (v := .int ((xs_st σ 25 (nI q)).1.1 26)) hx hb hT hH.1 1 xx_1 rfl in_X2 4 (by decide) rfl q157 rfl dX2_sign_5 ?_
    refine lv_as h26 ?_
    refine lv_icmp_ge (tgt := 38) hx hb dX2_sign_8 (by decide) (fun c_8 => ?_) (fun c_8 => ?_)
    · skip
      have c_8 : en ≤ q := (nI_leI (a := en) (b := q) (by omega) (by omega)).mp c_8
      exact K q _ _ _ hpq (by omega) (pSkip_eq hpq (by omega) hall (fun h => by omega)) hH (lv_sub hl [0] rfl)
    · skip
      have c_8 : ¬ (en ≤ q) := fun h => c_8 ((nI_leI (a := en) (b := q) (by omega) (by omega)).mpr h)
      refine lv_aload_n hx hb dX2_sign_11 rfl (lv_at hl 0 rfl) ?_
      refine gw_get (C := RX2) (T := TX2) (N := 6) (ci := 2) (fs := xx_fs2 ad (xs_st σ 25 (nI q)).1.1) (v := .ref (ad 23)) hx hb hT hH.1 1 xx_1 rfl in_X2 0 (by decide) rfl q152 rfl dX2_sign_12 ?_
      refine lv_aload_n hx hb dX2_sign_15 rfl (lv_at hl 0 rfl) ?_
      refine gw_get (C := RX2) (T := TX2) (N := 6) (ci := 2) (fs := xx_fs2 ad (xs_st σ 25 (nI q)).1.1) (v := .int ((xs_st σ 25 (nI q)).1.1 25)) hx hb hT hH.1 1 xx_1 rfl in_X2 5 (by decide) rfl q158 rfl dX2_sign_16 ?_
      refine lv_as rfl ?_
      refine xx_bld (v := σ.1.2 23 q) hx hb hT hH.1 q rfl (show q < 400 by omega) rfl dX2_sign_19 ?_
      refine lv_bipush (v := 32) hx hb dX2_sign_20 (by decide) ?_
      refine lv_icmp_ne (tgt := 38) hx hb dX2_sign_22 (by decide) (fun c_22 => ?_) (fun c_22 => ?_)
      · skip
        exact K q _ _ _ hpq (by omega) (pSkip_eq hpq (by omega) hall (fun h => c_22 (Int32.le_antisymm h.2.2 h.2.1))) hH (lv_sub hl [0] rfl)
      · skip
        refine lv_aload_n hx hb dX2_sign_25 rfl (lv_at hl 0 rfl) ?_
        refine lv_dup hx hb dX2_sign_26 rfl ?_
        refine gw_get (C := RX2) (T := TX2) (N := 6) (ci := 2) (fs := xx_fs2 ad (xs_st σ 25 (nI q)).1.1) (v := .int ((xs_st σ 25 (nI q)).1.1 25)) hx hb hT hH.1 1 xx_1 rfl in_X2 5 (by decide) rfl q158 rfl dX2_sign_27 ?_
        refine lv_as rfl ?_
        refine lv_iconst (v := 1) hx hb dX2_sign_30 (by decide) ?_
        refine lv_iadd hx hb dX2_sign_31 ?_
        refine lv_as (nI_add q 1) ?_
        refine gw_put (C := RX2) (T := TX2) (N := 6) (ci := 2) (fs := xx_fs2 ad (xs_st σ 25 (nI q)).1.1) (v := .int (nI (q + 1))) hx hb hT hH 1 xx_1 rfl in_X2 tyX2 tyX2_ok nmX2 5 (by decide) rfl rfl q158 rfl rfl (Nat.le_of_ble_eq_true rfl) dX2_sign_32 (fun H locs hH => ?_)
        rw [xx_up2 (k := 5) (j := 25) (by decide) (nI (q + 1))] at hH
        refine lv_goto (tgt := 0) hx hb dX2_sign_35 (by decide) ?_
        rw [xs_st_st] at hH
        exact ih (q + 1) (by omega) (by omega) (fun j h1 h2 => by rcases Nat.lt_or_ge j q with y | y; exact hall j h1 y; rw [show j = q by omega, c_22]; decide) _ _ _ hH (lv_sub hl [0] rfl)

set_option maxHeartbeats 1000000 in
set_option maxRecDepth 100000 in
theorem c_X2_sign (l : Launch) (σ : xS) {pt en : Nat} (h25 : σ.1.1 25 = nI pt) (h26 : σ.1.1 26 = nI en) (hpe : pt ≤ en) (he : en ≤ 400) : xz_C l yX2_sign (Cond.code yX2_sign cX2_sign 1 (some .int)) 1 0 0 (fun ad => [.ref (ad 1)]) σ (fun r u => xs_st σ 25 (nI (pSkip (σ.1.2 23) 32 32 en pt)) = u ∧ (((pSkip (σ.1.2 23) 32 32 en pt) < en ∧ some (.int ((σ.1.2 23) (pSkip (σ.1.2 23) 32 32 en pt) &&& 255)) = r) ∨ ((pSkip (σ.1.2 23) 32 32 en pt) = en ∧ some (.int (-1)) = r))) (fun _ _ => False) := by
  refine xz_of (by decide) (fun ad => Nat.le_of_ble_eq_true rfl) ?_
  intro p e s m args below meth c G A ad wk wv ls X hE hH hl
  obtain ⟨hx, hb, hml, hT, hr, hlocks, hxc, hA⟩ := id X
  have hl : lv_has ls 1 [(0, .ref (ad 1))] := hl
  rw [← xs_st_id h25] at hH
  refine lp_X2_sign σ (pt := pt) h26 he X ?_ (en + 1) pt (by omega) ⟨Nat.le_refl _, hpe⟩ (fun j h1 h2 => absurd h1 (by omega)) _ _ _ hH hl
  intro q H locs ls hpq hqe hsk hH hl
  refine lv_aload_n hx hb dX2_sign_38 rfl (lv_at hl 0 rfl) ?_
  refine gw_get (C := RX2) (T := TX2) (N := 6) (ci := 2) (fs := xx_fs2 ad (xs_st σ 25 (nI q)).1.1) (v := .int ((xs_st σ 25 (nI q)).1.1 25)) hx hb hT hH.1 1 xx_1 rfl in_X2 5 (by decide) rfl q158 rfl dX2_sign_39 ?_
  refine lv_as rfl ?_
  refine lv_aload_n hx hb dX2_sign_42 rfl (lv_at hl 0 rfl) ?_
  refine gw_get (C := RX2) (T := TX2) (N := 6) (ci := 2) (fs := xx_fs2 ad (xs_st σ 25 (nI q)).1.1) (v := .int ((xs_st σ 25 (nI q)).1.1 26)) hx hb hT hH.1 1 xx_1 rfl in_X2 4 (by decide) rfl q157 rfl dX2_sign_43 ?_
  refine lv_as h26 ?_
  refine lv_icmp_ge (tgt := 65) hx hb dX2_sign_46 (by decide) (fun c_46 => ?_) (fun c_46 => ?_)
  · skip
    have c_46 : en ≤ q := (nI_leI (a := en) (b := q) (by omega) (by omega)).mp c_46
    refine lv_iconst (v := (-1)) hx hb dX2_sign_65 (by decide) ?_
    exact xz_ri hx hb hr hlocks hT hH rfl dX2_sign_66 (⟨by rw [hsk], by rw [hsk]; exact Or.inr ⟨by omega, rfl⟩⟩) (Nat.le_of_ble_eq_true rfl) (Nat.le_of_ble_eq_true rfl)
  · skip
    have c_46 : ¬ (en ≤ q) := fun h => c_46 ((nI_leI (a := en) (b := q) (by omega) (by omega)).mpr h)
    refine lv_aload_n hx hb dX2_sign_49 rfl (lv_at hl 0 rfl) ?_
    refine gw_get (C := RX2) (T := TX2) (N := 6) (ci := 2) (fs := xx_fs2 ad (xs_st σ 25 (nI q)).1.1) (v := .ref (ad 23)) hx hb hT hH.1 1 xx_1 rfl in_X2 0 (by decide) rfl q152 rfl dX2_sign_50 ?_
    refine lv_aload_n hx hb dX2_sign_53 rfl (lv_at hl 0 rfl) ?_
    refine gw_get (C := RX2) (T := TX2) (N := 6) (ci := 2) (fs := xx_fs2 ad (xs_st σ 25 (nI q)).1.1) (v := .int ((xs_st σ 25 (nI q)).1.1 25)) hx hb hT hH.1 1 xx_1 rfl in_X2 5 (by decide) rfl q158 rfl dX2_sign_54 ?_
    refine lv_as rfl ?_
    refine xx_bld (v := σ.1.2 23 q) hx hb hT hH.1 q rfl (show q < 400 by omega) rfl dX2_sign_57 ?_
    refine lv_sipush (v := 255) hx hb dX2_sign_58 (by decide) ?_
    refine lv_iand hx hb dX2_sign_61 ?_
    refine lv_goto (tgt := 66) hx hb dX2_sign_62 (by decide) ?_
    exact xz_ri hx hb hr hlocks hT hH rfl dX2_sign_66 (⟨by rw [hsk], by rw [hsk]; exact Or.inl ⟨by omega, rfl⟩⟩) (Nat.le_of_ble_eq_true rfl) (Nat.le_of_ble_eq_true rfl)

set_option maxHeartbeats 1000000 in
set_option maxRecDepth 100000 in
theorem c_X2_fail (l : Launch) (σ : xS) (z : Int32) : xz_C l yX2_fail (Cond.code yX2_fail cX2_fail 2 none) 1 0 0 (fun ad => [.ref (ad 1), .int z]) σ (fun r u => False) (fun k u => k = 6 ∧ xs_st σ 37 z = u) := by
  refine xz_of (by decide) (fun ad => Nat.le_of_ble_eq_true rfl) ?_
  intro p e s m args below meth c G A ad wk wv ls X hE hH hl
  obtain ⟨hx, hb, hml, hT, hr, hlocks, hxc, hA⟩ := id X
  have hl : lv_has ls 2 [(0, .ref (ad 1)), (1, .int z)] := hl
  refine lv_aload_n hx hb dX2_fail_0 rfl (lv_at hl 0 rfl) ?_
  refine gw_get (C := RX2) (T := TX2) (N := 6) (ci := 2) (fs := xx_fs2 ad σ.1.1) (v := .ref (ad 2)) hx hb hT hH.1 1 xx_1 rfl in_X2 2 (by decide) rfl q155 rfl dX2_fail_1 ?_
  refine lv_iload_n hx hb dX2_fail_4 rfl (lv_at hl 1 rfl) ?_
  refine gw_putN (C := RX3) (T := TX3) (N := 7) (ci := 3) (fs := xx_fs3 σ.1.1) (v := .int z) hx hb hT hH 2 xx_2 rfl in_X3 tyX3 tyX3_ok nmX3 6 (by decide) rfl rfl (List.mem_of_getElem? (i := 19) rfl) rfl rfl (Nat.le_of_ble_eq_true rfl) dX2_fail_5 (fun H locs hH => ?_)
  rw [xx_up3 z] at hH
  refine lv_aload_n hx hb dX2_fail_8 rfl (lv_at hl 0 rfl) ?_
  refine gw_get (C := RX2) (T := TX2) (N := 6) (ci := 2) (fs := xx_fs2 ad (xs_st σ 37 z).1.1) (v := .ref (ad 2)) hx hb hT hH.1 1 xx_1 rfl in_X2 2 (by decide) rfl q155 rfl dX2_fail_9 ?_
  exact ex_athrow hx hb dX2_fail_12 (xz_out (k := 6) hlocks hE hT hH (⟨rfl, rfl⟩) (gw_recv hT.2.2 hH.1 xx_2 rfl) (fun _ => rfl) (Nat.le_of_ble_eq_true rfl) (Nat.le_of_ble_eq_true rfl))

set_option maxHeartbeats 1000000 in
set_option maxRecDepth 100000 in
theorem lp_X2_number {p : Program} {l : Launch} {e : Env} {s : State} {m : MethodId} {args : Array Value} {below : List Frame} {meth : Method} {c : Code} {Q : State → Prop} {G : gw_G} {A : Nat → Prop} {ad wk wv : Nat → Nat} (σ : xS) {en : Nat} (h26 : σ.1.1 26 = nI en) (he : en ≤ 400) (b : Nat) (hi : Int32) (x5 : Nat) (X : gx_Y RX2 cX2_number 5 (some .int) G A wk wv p s m args meth c)  (K : (∀ (i : Nat) (H : Heap) (locs : List Loc) (ls : Array Slot), b + i ≤ en → i ≤ 4 → pSkip (σ.1.2 23) 48 57 en b = b + i → xx_H G A s.heap H locs ad wk (xs_st σ 25 (nI (b + i))) → lv_has ls 5 [(0, .ref (ad 1)), (1, .int hi), (3, .int (nI b)), (4, .int (pNum (σ.1.2 23) b i))] → W p l e (xx_rm 3 0 0) s m args below meth c H locs 0 0 Q (F0 m 100 ls []))) (K0 : (∀ (q : Nat) (H : Heap) (locs : List Loc) (ls : Array Slot), b + 5 ≤ pSkip (σ.1.2 23) 48 57 en b → xx_H G A s.heap H locs ad wk (xs_st σ 25 (nI q)) → lv_has ls 5 [(0, .ref (ad 1)), (3, .int (nI b))] → W p l e (xx_rm 3 0 0) s m args below meth c H locs 0 0 Q (F0 m 62 ls []))) : ∀ (n : Nat) (i : Nat), en < b + i + n → b + i ≤ en ∧ i ≤ 4 → (∀ j, b ≤ j → j < b + i → 48 ≤ (σ.1.2 23) j ∧ (σ.1.2 23) j ≤ 57) → ∀ (H : Heap) (locs : List Loc) (ls : Array Slot), xx_H G A s.heap H locs ad wk (xs_st σ 25 (nI (b + i))) → lv_has ls 5 [(0, .ref (ad 1)), (1, .int hi), (3, .int (nI b)), (4, .int (pNum (σ.1.2 23) b i))] → W p l e (xx_rm 3 0 0) s m args below meth c H locs 0 0 Q (F0 m 13 ls []) := by
  obtain ⟨hx, hb, hml, hT, hr, hlocks, hxc, hA⟩ := id X
  intro n
  induction n with
  | zero =>
    intro i h0 hbi hall
    exact absurd h0 (by omega)
  | succ n ih =>
    intro i h0 hbi hall H locs ls hH hl
    refine lv_aload_n hx hb dX2_number_13 rfl (lv_at hl 0 rfl) ?_
    refine gw_get (C := RX2) (T := TX2) (N := 6) (ci := 2) (fs := xx_fs2 ad (xs_st σ 25 (nI (b + i))).1.1) (v := .int ((xs_st σ 25 (nI (b + i))).1.1 25)) hx hb hT hH.1 1 xx_1 rfl in_X2 5 (by decide) rfl q158 rfl dX2_number_14 ?_
    refine lv_as rfl ?_
    refine lv_aload_n hx hb dX2_number_17 rfl (lv_at hl 0 rfl) ?_
    refine gw_get (C := RX2) (T := TX2) (N := 6) (ci := 2) (fs := xx_fs2 ad (xs_st σ 25 (nI (b + i))).1.1) (v := .int ((xs_st σ 25 (nI (b + i))).1.1 26)) hx hb hT hH.1 1 xx_1 rfl in_X2 4 (by decide) rfl q157 rfl dX2_number_18 ?_
    refine lv_as h26 ?_
    refine lv_icmp_ge (tgt := 100) hx hb dX2_number_21 (by decide) (fun c_21 => ?_) (fun c_21 => ?_)
    · skip
      have c_21 : en ≤ (b + i) := (nI_leI (a := en) (b := (b + i)) (by omega) (by omega)).mp c_21
      exact K i _ _ _ (by omega) (by omega) (pSkip_eq (by omega) (by omega) hall (fun h => by omega)) hH (lv_sub hl [0, 1, 2, 3] rfl)
    · skip
      have c_21 : ¬ (en ≤ (b + i)) := fun h => c_21 ((nI_leI (a := en) (b := (b + i)) (by omega) (by omega)).mpr h)
      refine lv_aload_n hx hb dX2_number_24 rfl (lv_at hl 0 rfl) ?_
      refine gw_get (C := RX2) (T := TX2) (N := 6) (ci := 2) (fs := xx_fs2 ad (xs_st σ 25 (nI (b + i))).1.1) (v := .ref (ad 23)) hx hb hT hH.1 1 xx_1 rfl in_X2 0 (by decide) rfl q152 rfl dX2_number_25 ?_
      refine lv_aload_n hx hb dX2_number_28 rfl (lv_at hl 0 rfl) ?_
      refine gw_get (C := RX2) (T := TX2) (N := 6) (ci := 2) (fs := xx_fs2 ad (xs_st σ 25 (nI (b + i))).1.1) (v := .int ((xs_st σ 25 (nI (b + i))).1.1 25)) hx hb hT hH.1 1 xx_1 rfl in_X2 5 (by decide) rfl q158 rfl dX2_number_29 ?_
      refine lv_as rfl ?_
      refine xx_bld (v := σ.1.2 23 (b + i)) hx hb hT hH.1 (b + i) rfl (show b + i < 400 by omega) rfl dX2_number_32 ?_
      refine lv_bipush (v := 48) hx hb dX2_number_33 (by decide) ?_
      refine lv_icmp_lt (tgt := 100) hx hb dX2_number_35 (by decide) (fun c_35 => ?_) (fun c_35 => ?_)
      · skip
        exact K i _ _ _ (by omega) (by omega) (pSkip_eq (by omega) (by omega) hall (fun h => absurd h.2.1 (Int32.not_le.mpr c_35))) hH (lv_sub hl [0, 1, 2, 3] rfl)
      · skip
        refine lv_aload_n hx hb dX2_number_38 rfl (lv_at hl 0 rfl) ?_
        refine gw_get (C := RX2) (T := TX2) (N := 6) (ci := 2) (fs := xx_fs2 ad (xs_st σ 25 (nI (b + i))).1.1) (v := .ref (ad 23)) hx hb hT hH.1 1 xx_1 rfl in_X2 0 (by decide) rfl q152 rfl dX2_number_39 ?_
        refine lv_aload_n hx hb dX2_number_42 rfl (lv_at hl 0 rfl) ?_
        refine gw_get (C := RX2) (T := TX2) (N := 6) (ci := 2) (fs := xx_fs2 ad (xs_st σ 25 (nI (b + i))).1.1) (v := .int ((xs_st σ 25 (nI (b + i))).1.1 25)) hx hb hT hH.1 1 xx_1 rfl in_X2 5 (by decide) rfl q158 rfl dX2_number_43 ?_
        refine lv_as rfl ?_
        refine xx_bld (v := σ.1.2 23 (b + i)) hx hb hT hH.1 (b + i) rfl (show b + i < 400 by omega) rfl dX2_number_46 ?_
        refine lv_bipush (v := 57) hx hb dX2_number_47 (by decide) ?_
        refine lv_icmp_gt (tgt := 100) hx hb dX2_number_49 (by decide) (fun c_49 => ?_) (fun c_49 => ?_)
        · skip
          exact K i _ _ _ (by omega) (by omega) (pSkip_eq (by omega) (by omega) hall (fun h => absurd h.2.2 (Int32.not_le.mpr c_49))) hH (lv_sub hl [0, 1, 2, 3] rfl)
        · skip
          refine lv_aload_n hx hb dX2_number_52 rfl (lv_at hl 0 rfl) ?_
          refine gw_get (C := RX2) (T := TX2) (N := 6) (ci := 2) (fs := xx_fs2 ad (xs_st σ 25 (nI (b + i))).1.1) (v := .int ((xs_st σ 25 (nI (b + i))).1.1 25)) hx hb hT hH.1 1 xx_1 rfl in_X2 5 (by decide) rfl q158 rfl dX2_number_53 ?_
          refine lv_as rfl ?_
          refine lv_iload_n hx hb dX2_number_56 rfl (lv_at hl 2 rfl) ?_
          refine lv_isub hx hb dX2_number_57 ?_
          refine lv_as (z := nI i) (by show nI (b + i) - nI b = nI i; rw [pk_sub (by omega)]; congr 1; omega) ?_
          refine lv_iconst (v := 4) hx hb dX2_number_58 (by decide) ?_
          refine lv_icmp_ne (tgt := 67) hx hb dX2_number_59 (by decide) (fun c_59 => ?_) (fun c_59 => ?_)
          · skip
            have c_59 : ¬ (i = 4) := fun h => c_59 ((nI_eq (a := i) (b := 4) (by omega) (by omega)).mpr h)
            refine lv_bipush (v := 10) hx hb dX2_number_67 (by decide) ?_
            refine lv_iload hx hb dX2_number_69 (lv_at hl 3 rfl) ?_
            refine lv_imul hx hb dX2_number_71 ?_
            refine lv_aload_n hx hb dX2_number_72 rfl (lv_at hl 0 rfl) ?_
            refine gw_get (C := RX2) (T := TX2) (N := 6) (ci := 2) (fs := xx_fs2 ad (xs_st σ 25 (nI (b + i))).1.1) (v := .ref (ad 23)) hx hb hT hH.1 1 xx_1 rfl in_X2 0 (by decide) rfl q152 rfl dX2_number_73 ?_
            refine lv_aload_n hx hb dX2_number_76 rfl (lv_at hl 0 rfl) ?_
            refine gw_get (C := RX2) (T := TX2) (N := 6) (ci := 2) (fs := xx_fs2 ad (xs_st σ 25 (nI (b + i))).1.1) (v := .int ((xs_st σ 25 (nI (b + i))).1.1 25)) hx hb hT hH.1 1 xx_1 rfl in_X2 5 (by decide) rfl q158 rfl dX2_number_77 ?_
            refine lv_as rfl ?_
            refine xx_bld (v := σ.1.2 23 (b + i)) hx hb hT hH.1 (b + i) rfl (show b + i < 400 by omega) rfl dX2_number_80 ?_
            refine lv_iadd hx hb dX2_number_81 ?_
            refine lv_bipush (v := 48) hx hb dX2_number_82 (by decide) ?_
            refine lv_isub hx hb dX2_number_84 ?_
            refine lv_as (z := pNum (σ.1.2 23) b (i + 1)) rfl ?_
            refine lv_istore (lv' := [(4, .int (pNum (σ.1.2 23) b (i + 1))), (0, .ref (ad 1)), (1, .int hi), (3, .int (nI b))]) hx hb dX2_number_85 hl (by decide) rfl (fun ls hl => ?_)
            refine lv_aload_n hx hb dX2_number_87 rfl (lv_at hl 1 rfl) ?_
            refine lv_dup hx hb dX2_number_88 rfl ?_
            refine gw_get (C := RX2) (T := TX2) (N := 6) (ci := 2) (fs := xx_fs2 ad (xs_st σ 25 (nI (b + i))).1.1) (v := .int ((xs_st σ 25 (nI (b + i))).1.1 25)) hx hb hT hH.1 1 xx_1 rfl in_X2 5 (by decide) rfl q158 rfl dX2_number_89 ?_
            refine lv_as rfl ?_
            refine lv_iconst (v := 1) hx hb dX2_number_92 (by decide) ?_
            refine lv_iadd hx hb dX2_number_93 ?_
            refine lv_as (nI_add (b + i) 1) ?_
            refine gw_put (C := RX2) (T := TX2) (N := 6) (ci := 2) (fs := xx_fs2 ad (xs_st σ 25 (nI (b + i))).1.1) (v := .int (nI ((b + i) + 1))) hx hb hT hH 1 xx_1 rfl in_X2 tyX2 tyX2_ok nmX2 5 (by decide) rfl rfl q158 rfl rfl (Nat.le_of_ble_eq_true rfl) dX2_number_94 (fun H locs hH => ?_)
            rw [xx_up2 (k := 5) (j := 25) (by decide) (nI ((b + i) + 1))] at hH
            refine lv_goto (tgt := 13) hx hb dX2_number_97 (by decide) ?_
            rw [xs_st_st] at hH
            exact ih (i + 1) (by omega) (by omega) (fun j h1 h2 => by rcases Nat.lt_or_ge j (b + i) with y | y; exact hall j h1 y; rw [show j = b + i by omega]; exact ⟨in_ge c_35, in_ge c_49⟩) _ _ _ hH (lv_sub hl [1, 2, 3, 0] rfl)
          · skip
            have c_59 : i = 4 := (nI_eq (a := i) (b := 4) (by omega) (by omega)).mp c_59
            refine (K0 (b + i) _ _ _ ?_ hH (lv_sub hl [0, 2] rfl))
            exact (Nat.le_trans (show b + 5 ≤ b + i + 1 by omega) (pSkip_up (by omega) (by omega) (fun j h1 h2 => by rcases Nat.lt_or_ge j (b + i) with y | y; exact hall j h1 y; rw [show j = b + i by omega]; exact ⟨in_ge c_35, in_ge c_49⟩)))

set_option maxHeartbeats 1000000 in
set_option maxRecDepth 100000 in
theorem c_X2_number (l : Launch) (σ : xS) {pt en : Nat} (h25 : σ.1.1 25 = nI pt) (h26 : σ.1.1 26 = nI en) (hpe : pt ≤ en) (he : en ≤ 400) (hi : Int32) : xz_C l yX2_number (Cond.code yX2_number cX2_number 5 (some .int)) 3 0 0 (fun ad => [.ref (ad 1), .int hi]) σ (fun r u => ((pSkip (σ.1.2 23) 32 32 en pt) < (pSkip (σ.1.2 23) 48 57 en (pSkip (σ.1.2 23) 32 32 en pt)) ∧ (pSkip (σ.1.2 23) 48 57 en (pSkip (σ.1.2 23) 32 32 en pt)) - (pSkip (σ.1.2 23) 32 32 en pt) < 5 ∧ pNum (σ.1.2 23) (pSkip (σ.1.2 23) 32 32 en pt) ((pSkip (σ.1.2 23) 48 57 en (pSkip (σ.1.2 23) 32 32 en pt)) - (pSkip (σ.1.2 23) 32 32 en pt)) ≤ hi) ∧ xs_st σ 25 (nI (pSkip (σ.1.2 23) 48 57 en (pSkip (σ.1.2 23) 32 32 en pt))) = u ∧ some (.int (pNum (σ.1.2 23) (pSkip (σ.1.2 23) 32 32 en pt) ((pSkip (σ.1.2 23) 48 57 en (pSkip (σ.1.2 23) 32 32 en pt)) - (pSkip (σ.1.2 23) 32 32 en pt)))) = r) (fun k u => k = 6 ∧ ¬ ((pSkip (σ.1.2 23) 32 32 en pt) < (pSkip (σ.1.2 23) 48 57 en (pSkip (σ.1.2 23) 32 32 en pt)) ∧ (pSkip (σ.1.2 23) 48 57 en (pSkip (σ.1.2 23) 32 32 en pt)) - (pSkip (σ.1.2 23) 32 32 en pt) < 5 ∧ pNum (σ.1.2 23) (pSkip (σ.1.2 23) 32 32 en pt) ((pSkip (σ.1.2 23) 48 57 en (pSkip (σ.1.2 23) 32 32 en pt)) - (pSkip (σ.1.2 23) 32 32 en pt)) ≤ hi) ∧ ∃ q, xs_st (xs_st σ 25 q) 37 (nI (pSkip (σ.1.2 23) 32 32 en pt)) = u) := by
  refine xz_of (by decide) (fun ad => Nat.le_of_ble_eq_true rfl) ?_
  intro p e s m args below meth c G A ad wk wv ls X hE hH hl
  obtain ⟨hx, hb, hml, hT, hr, hlocks, hxc, hA⟩ := id X
  have hl : lv_has ls 5 [(0, .ref (ad 1)), (1, .int hi)] := hl
  refine lv_aload_n hx hb dX2_number_0 rfl (lv_at hl 0 rfl) ?_
  refine xz_call (yy_V (n := 0) 1 (c_X2_sign l σ h25 h26 hpe he G A ad wk wv) hx hb hml hT hxc hA hH xx_1 rfl q694 (ex_code_of hT.2.1 q694) q693 qs10 q34 q691 (by decide +kernel) ⟨Nat.le_of_ble_eq_true rfl, Nat.le_of_ble_eq_true rfl⟩ rfl hl.1 rfl (Nat.le_of_ble_eq_true rfl) dX2_number_1 ⟨Nat.le_of_ble_eq_true rfl, Nat.le_of_ble_eq_true rfl⟩) hH (fun v_1 u_1 H locs hH hp_1 => ?_) (fun a_1 k_1 u_1 H locs hH hp_1 hI_1 h6_1 => ?_)
  rotate_left
  · exact hp_1.elim
  obtain ⟨rfl, hr_1⟩ := hp_1
  have hbb := pSkip_b (tp := (σ.1.2 23)) (lo := 32) (hi := 32) hpe
  obtain ⟨vs, hvs, hvs2⟩ : ∃ vs : Int32, v_1 = some (.int vs) ∧ True := by rcases hr_1 with ⟨_, h⟩ | ⟨_, h⟩ <;> exact ⟨_, h.symm, trivial⟩
  subst hvs
  refine lv_istore_n (lv' := [(2, .int vs), (0, .ref (ad 1)), (1, .int hi)]) hx hb dX2_number_4 rfl hl (by decide) rfl (fun ls hl => ?_)
  refine lv_aload_n hx hb dX2_number_5 rfl (lv_at hl 1 rfl) ?_
  refine gw_get (C := RX2) (T := TX2) (N := 6) (ci := 2) (fs := xx_fs2 ad (xs_st σ 25 (nI (pSkip (σ.1.2 23) 32 32 en pt))).1.1) (v := .int ((xs_st σ 25 (nI (pSkip (σ.1.2 23) 32 32 en pt))).1.1 25)) hx hb hT hH.1 1 xx_1 rfl in_X2 5 (by decide) rfl q158 rfl dX2_number_6 ?_
  refine lv_as rfl ?_
  refine lv_istore_n (lv' := [(3, .int (nI (pSkip (σ.1.2 23) 32 32 en pt))), (2, .int vs), (0, .ref (ad 1)), (1, .int hi)]) hx hb dX2_number_9 rfl hl (by decide) rfl (fun ls hl => ?_)
  refine lv_iconst (v := 0) hx hb dX2_number_10 (by decide) ?_
  refine lv_istore (lv' := [(4, .int 0), (3, .int (nI (pSkip (σ.1.2 23) 32 32 en pt))), (2, .int vs), (0, .ref (ad 1)), (1, .int hi)]) hx hb dX2_number_11 hl (by decide) rfl (fun ls hl => ?_)
  refine lp_X2_number σ h26 he (pSkip (σ.1.2 23) 32 32 en pt) hi 0 X ?_ ?_ (en + 1) 0 (by omega) ⟨by omega, by omega⟩ (fun j h1 h2 => absurd h1 (by omega)) _ _ _ hH (lv_sub hl [3, 4, 1, 0] rfl)
  · intro i H locs ls hie hi4 hsk hH hl
    refine lv_aload_n hx hb dX2_number_100 rfl (lv_at hl 0 rfl) ?_
    refine gw_get (C := RX2) (T := TX2) (N := 6) (ci := 2) (fs := xx_fs2 ad (xs_st σ 25 (nI ((pSkip (σ.1.2 23) 32 32 en pt) + i))).1.1) (v := .int ((xs_st σ 25 (nI ((pSkip (σ.1.2 23) 32 32 en pt) + i))).1.1 25)) hx hb hT hH.1 1 xx_1 rfl in_X2 5 (by decide) rfl q158 rfl dX2_number_101 ?_
    refine lv_as rfl ?_
    refine lv_iload_n hx hb dX2_number_104 rfl (lv_at hl 2 rfl) ?_
    refine lv_icmp_eq (tgt := 114) hx hb dX2_number_105 (by decide) (fun c_105 => ?_) (fun c_105 => ?_)
    · skip
      have c_105 : ((pSkip (σ.1.2 23) 32 32 en pt) + i) = (pSkip (σ.1.2 23) 32 32 en pt) := (nI_eq (a := ((pSkip (σ.1.2 23) 32 32 en pt) + i)) (b := (pSkip (σ.1.2 23) 32 32 en pt)) (by omega) (by omega)).mp c_105
      refine lv_aload_n hx hb dX2_number_114 rfl (lv_at hl 0 rfl) ?_
      refine lv_iload_n hx hb dX2_number_115 rfl (lv_at hl 2 rfl) ?_
      refine xz_call (yy_V (n := 1) 1 (c_X2_fail l (xs_st σ 25 (nI ((pSkip (σ.1.2 23) 32 32 en pt) + i))) (nI (pSkip (σ.1.2 23) 32 32 en pt)) G A ad wk wv) hx hb hml hT hxc hA hH xx_1 rfl q746 (ex_code_of hT.2.1 q746) q745 qs11 q34 q743 (by decide +kernel) ⟨Nat.le_of_ble_eq_true rfl, Nat.le_of_ble_eq_true rfl⟩ rfl hl.1 rfl (Nat.le_of_ble_eq_true rfl) dX2_number_116 ⟨Nat.le_of_ble_eq_true rfl, Nat.le_of_ble_eq_true rfl⟩) hH (fun v_116 u_116 H locs hH hp_116 => hp_116.elim) (fun a_116 k_116 u_116 H locs hH hp_116 hI_116 h6_116 => ?_)
      obtain ⟨rfl, rfl⟩ := hp_116
      exact xz_out hlocks hE hT hH (⟨rfl, fun h => by rw [hsk] at h; have := h.1; omega, ⟨_, rfl⟩⟩) hI_116 h6_116 (Nat.le_of_ble_eq_true rfl) (Nat.le_of_ble_eq_true rfl)
    · skip
      have c_105 : ¬ (((pSkip (σ.1.2 23) 32 32 en pt) + i) = (pSkip (σ.1.2 23) 32 32 en pt)) := fun h => c_105 ((nI_eq (a := ((pSkip (σ.1.2 23) 32 32 en pt) + i)) (b := (pSkip (σ.1.2 23) 32 32 en pt)) (by omega) (by omega)).mpr h)
      refine lv_iload hx hb dX2_number_108 (lv_at hl 3 rfl) ?_
      refine lv_iload_n hx hb dX2_number_110 rfl (lv_at hl 1 rfl) ?_
      refine lv_icmp_le (tgt := 119) hx hb dX2_number_111 (by decide) (fun c_111 => ?_) (fun c_111 => ?_)
      · skip
        refine lv_iload hx hb dX2_number_119 (lv_at hl 3 rfl) ?_
        exact xz_ri hx hb hr hlocks hT hH rfl dX2_number_121 (⟨by rw [hsk, show (pSkip (σ.1.2 23) 32 32 en pt) + i - (pSkip (σ.1.2 23) 32 32 en pt) = i by omega]; exact ⟨by omega, by omega, c_111⟩, by rw [hsk], by rw [hsk, show (pSkip (σ.1.2 23) 32 32 en pt) + i - (pSkip (σ.1.2 23) 32 32 en pt) = i by omega]⟩) (Nat.le_of_ble_eq_true rfl) (Nat.le_of_ble_eq_true rfl)
      · skip
        refine lv_aload_n hx hb dX2_number_114 rfl (lv_at hl 0 rfl) ?_
        refine lv_iload_n hx hb dX2_number_115 rfl (lv_at hl 2 rfl) ?_
        refine xz_call (yy_V (n := 1) 1 (c_X2_fail l (xs_st σ 25 (nI ((pSkip (σ.1.2 23) 32 32 en pt) + i))) (nI (pSkip (σ.1.2 23) 32 32 en pt)) G A ad wk wv) hx hb hml hT hxc hA hH xx_1 rfl q746 (ex_code_of hT.2.1 q746) q745 qs11 q34 q743 (by decide +kernel) ⟨Nat.le_of_ble_eq_true rfl, Nat.le_of_ble_eq_true rfl⟩ rfl hl.1 rfl (Nat.le_of_ble_eq_true rfl) dX2_number_116 ⟨Nat.le_of_ble_eq_true rfl, Nat.le_of_ble_eq_true rfl⟩) hH (fun v_116 u_116 H locs hH hp_116 => hp_116.elim) (fun a_116 k_116 u_116 H locs hH hp_116 hI_116 h6_116 => ?_)
        obtain ⟨rfl, rfl⟩ := hp_116
        exact xz_out hlocks hE hT hH (⟨rfl, fun h => by rw [hsk, show (pSkip (σ.1.2 23) 32 32 en pt) + i - (pSkip (σ.1.2 23) 32 32 en pt) = i by omega] at h; exact absurd h.2.2 (Int32.not_le.mpr (in_lt c_111)), ⟨_, rfl⟩⟩) hI_116 h6_116 (Nat.le_of_ble_eq_true rfl) (Nat.le_of_ble_eq_true rfl)
  · intro q H locs ls h5 hH hl
    refine lv_aload_n hx hb dX2_number_62 rfl (lv_at hl 0 rfl) ?_
    refine lv_iload_n hx hb dX2_number_63 rfl (lv_at hl 1 rfl) ?_
    refine xz_call (yy_V (n := 1) 1 (c_X2_fail l (xs_st σ 25 (nI q)) (nI (pSkip (σ.1.2 23) 32 32 en pt)) G A ad wk wv) hx hb hml hT hxc hA hH xx_1 rfl q746 (ex_code_of hT.2.1 q746) q745 qs11 q34 q743 (by decide +kernel) ⟨Nat.le_of_ble_eq_true rfl, Nat.le_of_ble_eq_true rfl⟩ rfl hl.1 rfl (Nat.le_of_ble_eq_true rfl) dX2_number_64 ⟨Nat.le_of_ble_eq_true rfl, Nat.le_of_ble_eq_true rfl⟩) hH (fun v_64 u_64 H locs hH hp_64 => hp_64.elim) (fun a_64 k_64 u_64 H locs hH hp_64 hI_64 h6_64 => ?_)
    obtain ⟨rfl, rfl⟩ := hp_64
    exact xz_out hlocks hE hT hH (⟨rfl, fun h => by have := h.2.1; omega, ⟨_, rfl⟩⟩) hI_64 h6_64 (Nat.le_of_ble_eq_true rfl) (Nat.le_of_ble_eq_true rfl)

set_option maxHeartbeats 1000000 in
set_option maxRecDepth 100000 in
theorem lp_X2_wordA {p : Program} {l : Launch} {e : Env} {s : State} {m : MethodId} {args : Array Value} {below : List Frame} {meth : Method} {c : Code} {Q : State → Prop} {G : gw_G} {A : Nat → Prop} {ad wk wv : Nat → Nat} (σ : xS) {en : Nat} (h26 : σ.1.1 26 = nI en) (he : en ≤ 400) (b lo hh : Nat) (X : gx_Y RX2 cX2_word 8 (some .int) G A wk wv p s m args meth c)  (K : (∀ (q : Nat) (H : Heap) (locs : List Loc) (ls : Array Slot), b ≤ q → q ≤ en → pSkip (σ.1.2 23) 97 122 en b = q → xx_H G A s.heap H locs ad wk (xs_st σ 25 (nI b)) → lv_has ls 8 [(0, .ref (ad 1)), (1, .int (nI lo)), (2, .int (nI hh)), (4, .int (nI q))] → W p l e (xx_rm 5 0 0) s m args below meth c H locs 0 0 Q (F0 m 50 ls []))) : ∀ (n : Nat) (q : Nat), en < q + n → b ≤ q ∧ q ≤ en → (∀ j, b ≤ j → j < q → 97 ≤ (σ.1.2 23) j ∧ (σ.1.2 23) j ≤ 122) → ∀ (H : Heap) (locs : List Loc) (ls : Array Slot), xx_H G A s.heap H locs ad wk (xs_st σ 25 (nI b)) → lv_has ls 8 [(0, .ref (ad 1)), (1, .int (nI lo)), (2, .int (nI hh)), (4, .int (nI q))] → W p l e (xx_rm 5 0 0) s m args below meth c H locs 0 0 Q (F0 m 11 ls []) := by
  obtain ⟨hx, hb, hml, hT, hr, hlocks, hxc, hA⟩ := id X
  intro n
  induction n with
  | zero =>
    intro q h0 hbq hall
    exact absurd h0 (by omega)
  | succ n ih =>
    intro q h0 hbq hall H locs ls hH hl
    refine lv_iload hx hb dX2_word_11 (lv_at hl 3 rfl) ?_
    refine lv_aload_n hx hb dX2_word_13 rfl (lv_at hl 0 rfl) ?_
    refine gw_get (C := RX2) (T := TX2) (N := 6) (ci := 2) (fs := xx_fs2 ad (xs_st σ 25 (nI b)).1.1) (v := .int ((xs_st σ 25 (nI b)).1.1 26)) hx hb hT hH.1 1 xx_1 rfl in_X2 4 (by decide) rfl q157 rfl dX2_word_14 ?_
    refine lv_as h26 ?_
    refine lv_icmp_ge (tgt := 50) hx hb dX2_word_17 (by decide) (fun c_17 => ?_) (fun c_17 => ?_)
    · skip
      have c_17 : en ≤ q := (nI_leI (a := en) (b := q) (by omega) (by omega)).mp c_17
      exact K q _ _ _ (by omega) (by omega) (pSkip_eq (by omega) (by omega) hall (fun h => by omega)) hH (lv_sub hl [0, 1, 2, 3] rfl)
    · skip
      have c_17 : ¬ (en ≤ q) := fun h => c_17 ((nI_leI (a := en) (b := q) (by omega) (by omega)).mpr h)
      refine lv_aload_n hx hb dX2_word_20 rfl (lv_at hl 0 rfl) ?_
      refine gw_get (C := RX2) (T := TX2) (N := 6) (ci := 2) (fs := xx_fs2 ad (xs_st σ 25 (nI b)).1.1) (v := .ref (ad 23)) hx hb hT hH.1 1 xx_1 rfl in_X2 0 (by decide) rfl q152 rfl dX2_word_21 ?_
      refine lv_iload hx hb dX2_word_24 (lv_at hl 3 rfl) ?_
      refine xx_bld (v := σ.1.2 23 q) hx hb hT hH.1 q rfl (show q < 400 by omega) rfl dX2_word_26 ?_
      refine lv_bipush (v := 97) hx hb dX2_word_27 (by decide) ?_
      refine lv_icmp_lt (tgt := 50) hx hb dX2_word_29 (by decide) (fun c_29 => ?_) (fun c_29 => ?_)
      · skip
        exact K q _ _ _ (by omega) (by omega) (pSkip_eq (by omega) (by omega) hall (fun h => absurd h.2.1 (Int32.not_le.mpr c_29))) hH (lv_sub hl [0, 1, 2, 3] rfl)
      · skip
        refine lv_aload_n hx hb dX2_word_32 rfl (lv_at hl 0 rfl) ?_
        refine gw_get (C := RX2) (T := TX2) (N := 6) (ci := 2) (fs := xx_fs2 ad (xs_st σ 25 (nI b)).1.1) (v := .ref (ad 23)) hx hb hT hH.1 1 xx_1 rfl in_X2 0 (by decide) rfl q152 rfl dX2_word_33 ?_
        refine lv_iload hx hb dX2_word_36 (lv_at hl 3 rfl) ?_
        refine xx_bld (v := σ.1.2 23 q) hx hb hT hH.1 q rfl (show q < 400 by omega) rfl dX2_word_38 ?_
        refine lv_bipush (v := 122) hx hb dX2_word_39 (by decide) ?_
        refine lv_icmp_gt (tgt := 50) hx hb dX2_word_41 (by decide) (fun c_41 => ?_) (fun c_41 => ?_)
        · skip
          exact K q _ _ _ (by omega) (by omega) (pSkip_eq (by omega) (by omega) hall (fun h => absurd h.2.2 (Int32.not_le.mpr c_41))) hH (lv_sub hl [0, 1, 2, 3] rfl)
        · skip
          refine lv_iinc (v := nI (q + 1)) (lv' := [(4, .int (nI (q + 1))), (0, .ref (ad 1)), (1, .int (nI lo)), (2, .int (nI hh))]) hx hb dX2_word_44 hl (k := 3) rfl (nI_add q 1) (by decide) rfl (fun ls hl => ?_)
          refine lv_goto (tgt := 11) hx hb dX2_word_47 (by decide) ?_
          exact ih (q + 1) (by omega) (by omega) (fun j h1 h2 => by rcases Nat.lt_or_ge j q with y | y; exact hall j h1 y; rw [show j = q by omega]; exact ⟨in_ge c_29, in_ge c_41⟩) _ _ _ hH (lv_sub hl [1, 2, 3, 0] rfl)

set_option maxHeartbeats 1000000 in
set_option maxRecDepth 100000 in
theorem lp_X2_wordB {p : Program} {l : Launch} {e : Env} {s : State} {m : MethodId} {args : Array Value} {below : List Frame} {meth : Method} {c : Code} {Q : State → Prop} {G : gw_G} {A : Nat → Prop} {ad wk wv : Nat → Nat} (σ : xS) {en : Nat} (h26 : σ.1.1 26 = nI en) (he : en ≤ 400) (b lo hh q i : Nat) (hbq : b ≤ q) (hq : q ≤ en) (hi : i < 6) (X : gx_Y RX2 cX2_word 8 (some .int) G A wk wv p s m args meth c)  (K : (∀ (x : Int32) (H : Heap) (locs : List Loc) (ls : Array Slot), ((x = 1 ∧ pIsW (σ.1.2 23) b q i) ∨ (x = 0 ∧ ¬ pIsW (σ.1.2 23) b q i)) → xx_H G A s.heap H locs ad wk (xs_st σ 25 (nI b)) → lv_has ls 8 [(0, .ref (ad 1)), (1, .int (nI lo)), (2, .int (nI hh)), (4, .int (nI q)), (5, .int (nI i)), (6, .int x)] → W p l e (xx_rm 5 0 0) s m args below meth c H locs 0 0 Q (F0 m 146 ls []))) : ∀ (n : Nat) (j : Nat) (x : Int32), q - b < j + n → j ≤ q - b → ((x = 1 ∧ q - b = kc_len i ∧ ∀ z, z < j → (σ.1.2 23) (b + z) = kc_byt i z) ∨ (x = 0 ∧ ¬ pIsW (σ.1.2 23) b q i)) → ∀ (H : Heap) (locs : List Loc) (ls : Array Slot), xx_H G A s.heap H locs ad wk (xs_st σ 25 (nI b)) → lv_has ls 8 [(0, .ref (ad 1)), (1, .int (nI lo)), (2, .int (nI hh)), (4, .int (nI q)), (5, .int (nI i)), (6, .int x), (7, .int (nI j))] → W p l e (xx_rm 5 0 0) s m args below meth c H locs 0 0 Q (F0 m 89 ls []) := by
  obtain ⟨hx, hb, hml, hT, hr, hlocks, hxc, hA⟩ := id X
  intro n
  induction n with
  | zero =>
    intro j x h0 hjq hfl
    exact absurd h0 (by omega)
  | succ n ih =>
    intro j x h0 hjq hfl H locs ls hH hl
    have hlb := kc_lb i (by omega)
    rcases hfl with ⟨rfl, hlen, hall⟩ | ⟨rfl, hno⟩
    · skip
      refine lv_iload hx hb dX2_word_89 (lv_at hl 6 rfl) ?_
      refine lv_iload hx hb dX2_word_91 (lv_at hl 3 rfl) ?_
      refine lv_aload_n hx hb dX2_word_93 rfl (lv_at hl 0 rfl) ?_
      refine gw_get (C := RX2) (T := TX2) (N := 6) (ci := 2) (fs := xx_fs2 ad (xs_st σ 25 (nI b)).1.1) (v := .int ((xs_st σ 25 (nI b)).1.1 25)) hx hb hT hH.1 1 xx_1 rfl in_X2 5 (by decide) rfl q158 rfl dX2_word_94 ?_
      refine lv_as rfl ?_
      refine lv_isub hx hb dX2_word_97 ?_
      refine lv_as (z := nI (q - b)) (by show nI q - nI b = nI (q - b); exact pk_sub (by omega)) ?_
      refine lv_icmp_ge (tgt := 146) hx hb dX2_word_98 (by decide) (fun c_98 => ?_) (fun c_98 => ?_)
      · skip
        have c_98 : (q - b) ≤ j := (nI_leI (a := (q - b)) (b := j) (by omega) (by omega)).mp c_98
        exact K _ _ _ _ (Or.inl ⟨rfl, by omega, fun z hz => hall z (by omega)⟩) hH (lv_sub hl [0, 1, 2, 3, 4, 5] rfl)
      · skip
        have c_98 : ¬ ((q - b) ≤ j) := fun h => c_98 ((nI_leI (a := (q - b)) (b := j) (by omega) (by omega)).mpr h)
        refine lv_iload hx hb dX2_word_101 (lv_at hl 5 rfl) ?_
        refine lv_if_eq (tgt := 146) hx hb dX2_word_103 (by decide) (fun c_103 => ?_) (fun c_103 => ?_)
        · skip
          exact absurd c_103 (by decide)
        · skip
          refine lv_aload_n hx hb dX2_word_106 rfl (lv_at hl 0 rfl) ?_
          refine gw_get (C := RX2) (T := TX2) (N := 6) (ci := 2) (fs := xx_fs2 ad (xs_st σ 25 (nI b)).1.1) (v := .ref (ad 3)) hx hb hT hH.1 1 xx_1 rfl in_X2 1 (by decide) rfl q154 rfl dX2_word_107 ?_
          refine lv_iload hx hb dX2_word_110 (lv_at hl 4 rfl) ?_
          refine gw_aald (b := wk i) hx hb hT hH.1 3 7 xx_3 rfl i rfl (show i < 6 by omega) (by decide) (if_pos (show i < 6 by omega)) dX2_word_112 ?_
          refine lv_iload hx hb dX2_word_113 (lv_at hl 6 rfl) ?_
          refine tk_cV (n := 1) (c_J7_charAt l (wk i) (wv i) (kc_len i) (kc_byt i) j (by omega) (by omega)) hx hb hml hT.1 hT.2.1 (tk_blind _ _ _ _ _) (fun U hU hW => by show tk_S _ _ _ _ tk_F U U.heap; rw [hU]; exact (((hxc.2.2.1 i (by omega)).kept hH.2.2.2.1).narrow (fun _ h => h.elim)).moved hW.alike) (have ⟨ce, h1, h2, h3, _⟩ := ((hxc.2.2.1 i (by omega)).kept hH.2.2.2.1).1; ⟨ce, h1, h2, h3⟩) (lw_V q705 q706 q707 q45 q708) (by decide +kernel) ⟨Nat.le_of_ble_eq_true rfl, Nat.le_of_ble_eq_true rfl⟩ rfl hl.1 rfl (Nat.le_of_ble_eq_true rfl) dX2_word_115 ⟨Nat.le_refl _, Nat.le_refl _⟩ (fun r_115 hp_115 => ?_)
          obtain rfl := hp_115
          refine lv_as (z := kc_byt i j) (kc_chr i (by omega) j (by omega)) ?_
          refine lv_aload_n hx hb dX2_word_118 rfl (lv_at hl 0 rfl) ?_
          refine gw_get (C := RX2) (T := TX2) (N := 6) (ci := 2) (fs := xx_fs2 ad (xs_st σ 25 (nI b)).1.1) (v := .ref (ad 23)) hx hb hT hH.1 1 xx_1 rfl in_X2 0 (by decide) rfl q152 rfl dX2_word_119 ?_
          refine lv_aload_n hx hb dX2_word_122 rfl (lv_at hl 0 rfl) ?_
          refine gw_get (C := RX2) (T := TX2) (N := 6) (ci := 2) (fs := xx_fs2 ad (xs_st σ 25 (nI b)).1.1) (v := .int ((xs_st σ 25 (nI b)).1.1 25)) hx hb hT hH.1 1 xx_1 rfl in_X2 5 (by decide) rfl q158 rfl dX2_word_123 ?_
          refine lv_as rfl ?_
          refine lv_iload hx hb dX2_word_126 (lv_at hl 6 rfl) ?_
          refine lv_iadd hx hb dX2_word_128 ?_
          refine lv_as (z := nI (b + j)) (nI_add b j) ?_
          refine xx_bld (v := σ.1.2 23 (b + j)) hx hb hT hH.1 (b + j) rfl (show b + j < 400 by omega) rfl dX2_word_129 ?_
          refine lv_icmp_ne (tgt := 137) hx hb dX2_word_130 (by decide) (fun c_130 => ?_) (fun c_130 => ?_)
          · skip
            refine lv_iconst (v := 0) hx hb dX2_word_137 (by decide) ?_
            refine lv_istore (lv' := [(6, .int 0), (0, .ref (ad 1)), (1, .int (nI lo)), (2, .int (nI hh)), (4, .int (nI q)), (5, .int (nI i)), (7, .int (nI j))]) hx hb dX2_word_138 hl (by decide) rfl (fun ls hl => ?_)
            refine lv_iinc (v := nI (j + 1)) (lv' := [(7, .int (nI (j + 1))), (6, .int 0), (0, .ref (ad 1)), (1, .int (nI lo)), (2, .int (nI hh)), (4, .int (nI q)), (5, .int (nI i))]) hx hb dX2_word_140 hl (k := 6) rfl (nI_add j 1) (by decide) rfl (fun ls hl => ?_)
            refine lv_goto (tgt := 89) hx hb dX2_word_143 (by decide) ?_
            exact ih (j + 1) _ (by omega) (by omega) (Or.inr ⟨rfl, fun h => c_130 (h.2 j (by omega)).symm⟩) _ _ _ hH (lv_sub hl [2, 3, 4, 5, 6, 1, 0] rfl)
          · skip
            refine lv_iconst (v := 1) hx hb dX2_word_133 (by decide) ?_
            refine lv_goto (tgt := 138) hx hb dX2_word_134 (by decide) ?_
            refine lv_istore (lv' := [(6, .int 1), (0, .ref (ad 1)), (1, .int (nI lo)), (2, .int (nI hh)), (4, .int (nI q)), (5, .int (nI i)), (7, .int (nI j))]) hx hb dX2_word_138 hl (by decide) rfl (fun ls hl => ?_)
            refine lv_iinc (v := nI (j + 1)) (lv' := [(7, .int (nI (j + 1))), (6, .int 1), (0, .ref (ad 1)), (1, .int (nI lo)), (2, .int (nI hh)), (4, .int (nI q)), (5, .int (nI i))]) hx hb dX2_word_140 hl (k := 6) rfl (nI_add j 1) (by decide) rfl (fun ls hl => ?_)
            refine lv_goto (tgt := 89) hx hb dX2_word_143 (by decide) ?_
            exact ih (j + 1) _ (by omega) (by omega) (Or.inl ⟨rfl, hlen, fun z hz => by rcases Nat.lt_or_ge z j with y | y; exact hall z y; rw [show z = j by omega]; exact c_130.symm⟩) _ _ _ hH (lv_sub hl [2, 3, 4, 5, 6, 1, 0] rfl)
    · skip
      refine lv_iload hx hb dX2_word_89 (lv_at hl 6 rfl) ?_
      refine lv_iload hx hb dX2_word_91 (lv_at hl 3 rfl) ?_
      refine lv_aload_n hx hb dX2_word_93 rfl (lv_at hl 0 rfl) ?_
      refine gw_get (C := RX2) (T := TX2) (N := 6) (ci := 2) (fs := xx_fs2 ad (xs_st σ 25 (nI b)).1.1) (v := .int ((xs_st σ 25 (nI b)).1.1 25)) hx hb hT hH.1 1 xx_1 rfl in_X2 5 (by decide) rfl q158 rfl dX2_word_94 ?_
      refine lv_as rfl ?_
      refine lv_isub hx hb dX2_word_97 ?_
      refine lv_as (z := nI (q - b)) (by show nI q - nI b = nI (q - b); exact pk_sub (by omega)) ?_
      refine lv_icmp_ge (tgt := 146) hx hb dX2_word_98 (by decide) (fun c_98 => ?_) (fun c_98 => ?_)
      · skip
        have c_98 : (q - b) ≤ j := (nI_leI (a := (q - b)) (b := j) (by omega) (by omega)).mp c_98
        exact K _ _ _ _ (Or.inr ⟨rfl, hno⟩) hH (lv_sub hl [0, 1, 2, 3, 4, 5] rfl)
      · skip
        have c_98 : ¬ ((q - b) ≤ j) := fun h => c_98 ((nI_leI (a := (q - b)) (b := j) (by omega) (by omega)).mpr h)
        refine lv_iload hx hb dX2_word_101 (lv_at hl 5 rfl) ?_
        refine lv_if_eq (tgt := 146) hx hb dX2_word_103 (by decide) (fun c_103 => ?_) (fun c_103 => ?_)
        · skip
          exact K _ _ _ _ (Or.inr ⟨rfl, hno⟩) hH (lv_sub hl [0, 1, 2, 3, 4, 5] rfl)
        · skip
          exact absurd c_103 (by decide)

set_option maxHeartbeats 1000000 in
set_option maxRecDepth 100000 in
theorem lp_X2_wordC {p : Program} {l : Launch} {e : Env} {s : State} {m : MethodId} {args : Array Value} {below : List Frame} {meth : Method} {c : Code} {Q : State → Prop} {G : gw_G} {A : Nat → Prop} {ad wk wv : Nat → Nat} (σ : xS) {en : Nat} (h26 : σ.1.1 26 = nI en) (he : en ≤ 400) (b lo hh q : Nat) (hbq : b ≤ q) (hq : q ≤ en) (hh6 : hh ≤ 6) (X : gx_Y RX2 cX2_word 8 (some .int) G A wk wv p s m args meth c)  (K1 : (∀ (i : Nat) (H : Heap) (locs : List Loc) (ls : Array Slot), lo ≤ i → i < hh → pIsW (σ.1.2 23) b q i → (∀ z, lo ≤ z → z < i → ¬ pIsW (σ.1.2 23) b q z) → xx_H G A s.heap H locs ad wk (xs_st σ 25 (nI b)) → lv_has ls 8 [(0, .ref (ad 1)), (1, .int (nI lo)), (2, .int (nI hh)), (4, .int (nI q)), (5, .int (nI i))] → W p l e (xx_rm 5 0 0) s m args below meth c H locs 0 0 Q (F0 m 154 ls []))) (K0 : (∀ (H : Heap) (locs : List Loc) (ls : Array Slot), (∀ z, lo ≤ z → z < hh → ¬ pIsW (σ.1.2 23) b q z) → xx_H G A s.heap H locs ad wk (xs_st σ 25 (nI b)) → lv_has ls 8 [(0, .ref (ad 1))] → W p l e (xx_rm 5 0 0) s m args below meth c H locs 0 0 Q (F0 m 169 ls []))) : ∀ (n : Nat) (i : Nat), hh < i + n → lo ≤ i ∧ i ≤ hh → (∀ z, lo ≤ z → z < i → ¬ pIsW (σ.1.2 23) b q z) → ∀ (H : Heap) (locs : List Loc) (ls : Array Slot), xx_H G A s.heap H locs ad wk (xs_st σ 25 (nI b)) → lv_has ls 8 [(0, .ref (ad 1)), (1, .int (nI lo)), (2, .int (nI hh)), (4, .int (nI q)), (5, .int (nI i))] → W p l e (xx_rm 5 0 0) s m args below meth c H locs 0 0 Q (F0 m 53 ls []) := by
  obtain ⟨hx, hb, hml, hT, hr, hlocks, hxc, hA⟩ := id X
  intro n
  induction n with
  | zero =>
    intro i h0 hli hall
    exact absurd h0 (by omega)
  | succ n ih =>
    intro i h0 hli hall H locs ls hH hl
    refine lv_iload hx hb dX2_word_53 (lv_at hl 4 rfl) ?_
    refine lv_iload_n hx hb dX2_word_55 rfl (lv_at hl 2 rfl) ?_
    refine lv_icmp_ge (tgt := 169) hx hb dX2_word_56 (by decide) (fun c_56 => ?_) (fun c_56 => ?_)
    · skip
      have c_56 : hh ≤ i := (nI_leI (a := hh) (b := i) (by omega) (by omega)).mp c_56
      obtain rfl : i = hh := by omega
      exact K0 _ _ _ hall hH (lv_sub hl [0] rfl)
    · skip
      have c_56 : ¬ (hh ≤ i) := fun h => c_56 ((nI_leI (a := hh) (b := i) (by omega) (by omega)).mpr h)
      have hlb := kc_lb i (by omega)
      refine lv_aload_n hx hb dX2_word_59 rfl (lv_at hl 0 rfl) ?_
      refine gw_get (C := RX2) (T := TX2) (N := 6) (ci := 2) (fs := xx_fs2 ad (xs_st σ 25 (nI b)).1.1) (v := .ref (ad 3)) hx hb hT hH.1 1 xx_1 rfl in_X2 1 (by decide) rfl q154 rfl dX2_word_60 ?_
      refine lv_iload hx hb dX2_word_63 (lv_at hl 4 rfl) ?_
      refine gw_aald (b := wk i) hx hb hT hH.1 3 7 xx_3 rfl i rfl (show i < 6 by omega) (by decide) (if_pos (show i < 6 by omega)) dX2_word_65 ?_
      refine tk_cV (n := 0) (c_J7_length l (wk i) (wv i) (kc_len i) (kc_byt i) (by omega)) hx hb hml hT.1 hT.2.1 (tk_blind _ _ _ _ _) (fun U hU hW => by show tk_S _ _ _ _ tk_F U U.heap; rw [hU]; exact (((hxc.2.2.1 i (by omega)).kept hH.2.2.2.1).narrow (fun _ h => h.elim)).moved hW.alike) (have ⟨ce, h1, h2, h3, _⟩ := ((hxc.2.2.1 i (by omega)).kept hH.2.2.2.1).1; ⟨ce, h1, h2, h3⟩) (lw_V q695 q696 q697 q45 q698) (by decide +kernel) ⟨Nat.le_of_ble_eq_true rfl, Nat.le_of_ble_eq_true rfl⟩ rfl hl.1 rfl (Nat.le_of_ble_eq_true rfl) dX2_word_66 ⟨Nat.le_refl _, Nat.le_refl _⟩ (fun r_66 hp_66 => ?_)
      obtain rfl := hp_66
      refine lv_iload hx hb dX2_word_69 (lv_at hl 3 rfl) ?_
      refine lv_aload_n hx hb dX2_word_71 rfl (lv_at hl 0 rfl) ?_
      refine gw_get (C := RX2) (T := TX2) (N := 6) (ci := 2) (fs := xx_fs2 ad (xs_st σ 25 (nI b)).1.1) (v := .int ((xs_st σ 25 (nI b)).1.1 25)) hx hb hT hH.1 1 xx_1 rfl in_X2 5 (by decide) rfl q158 rfl dX2_word_72 ?_
      refine lv_as rfl ?_
      refine lv_isub hx hb dX2_word_75 ?_
      refine lv_as (z := nI (q - b)) (by show nI q - nI b = nI (q - b); exact pk_sub (by omega)) ?_
      refine lv_icmp_ne (tgt := 83) hx hb dX2_word_76 (by decide) (fun c_76 => ?_) (fun c_76 => ?_)
      · skip
        have c_76 : ¬ ((kc_len i) = (q - b)) := fun h => c_76 ((nI_eq (a := (kc_len i)) (b := (q - b)) (by omega) (by omega)).mpr h)
        refine lv_iconst (v := 0) hx hb dX2_word_83 (by decide) ?_
        refine lv_istore (lv' := [(6, .int 0), (0, .ref (ad 1)), (1, .int (nI lo)), (2, .int (nI hh)), (4, .int (nI q)), (5, .int (nI i))]) hx hb dX2_word_84 hl (by decide) rfl (fun ls hl => ?_)
        refine lv_iconst (v := 0) hx hb dX2_word_86 (by decide) ?_
        refine lv_istore (lv' := [(7, .int 0), (6, .int 0), (0, .ref (ad 1)), (1, .int (nI lo)), (2, .int (nI hh)), (4, .int (nI q)), (5, .int (nI i))]) hx hb dX2_word_87 hl (by decide) rfl (fun ls hl => ?_)
        refine lp_X2_wordB σ h26 he b lo hh q i hbq hq (by omega) X ?_ (q - b + 1) 0 _ (by omega) (Nat.zero_le _) (Or.inr ⟨rfl, fun h => c_76 h.1.symm⟩) _ _ _ hH (lv_sub hl [2, 3, 4, 5, 6, 1, 0] rfl)
        intro x H locs ls hfl hH hl
        rcases hfl with ⟨rfl, hyes⟩ | ⟨rfl, hno⟩
        · skip
          refine lv_iload hx hb dX2_word_146 (lv_at hl 5 rfl) ?_
          refine lv_if_ne (tgt := 154) hx hb dX2_word_148 (by decide) (fun c_148 => ?_) (fun c_148 => ?_)
          · skip
            exact K1 i _ _ _ (by omega) (by omega) hyes hall hH (lv_sub hl [0, 1, 2, 3, 4] rfl)
          · skip
            exact absurd c_148 (by decide)
        · skip
          refine lv_iload hx hb dX2_word_146 (lv_at hl 5 rfl) ?_
          refine lv_if_ne (tgt := 154) hx hb dX2_word_148 (by decide) (fun c_148 => ?_) (fun c_148 => ?_)
          · skip
            exact absurd c_148 (by decide)
          · skip
            refine lv_goto (tgt := 163) hx hb dX2_word_151 (by decide) ?_
            refine lv_iinc (v := nI (i + 1)) (lv' := [(5, .int (nI (i + 1))), (0, .ref (ad 1)), (1, .int (nI lo)), (2, .int (nI hh)), (4, .int (nI q)), (6, .int 0)]) hx hb dX2_word_163 hl (k := 4) rfl (nI_add i 1) (by decide) rfl (fun ls hl => ?_)
            refine lv_goto (tgt := 53) hx hb dX2_word_166 (by decide) ?_
            exact ih (i + 1) (by omega) (by omega) (fun z h1 h2 => by rcases Nat.lt_or_ge z i with y | y; exact hall z h1 y; rw [show z = i by omega]; exact hno) _ _ _ hH (lv_sub hl [1, 2, 3, 4, 0] rfl)
      · skip
        have c_76 : (kc_len i) = (q - b) := (nI_eq (a := (kc_len i)) (b := (q - b)) (by omega) (by omega)).mp c_76
        refine lv_iconst (v := 1) hx hb dX2_word_79 (by decide) ?_
        refine lv_goto (tgt := 84) hx hb dX2_word_80 (by decide) ?_
        refine lv_istore (lv' := [(6, .int 1), (0, .ref (ad 1)), (1, .int (nI lo)), (2, .int (nI hh)), (4, .int (nI q)), (5, .int (nI i))]) hx hb dX2_word_84 hl (by decide) rfl (fun ls hl => ?_)
        refine lv_iconst (v := 0) hx hb dX2_word_86 (by decide) ?_
        refine lv_istore (lv' := [(7, .int 0), (6, .int 1), (0, .ref (ad 1)), (1, .int (nI lo)), (2, .int (nI hh)), (4, .int (nI q)), (5, .int (nI i))]) hx hb dX2_word_87 hl (by decide) rfl (fun ls hl => ?_)
        refine lp_X2_wordB σ h26 he b lo hh q i hbq hq (by omega) X ?_ (q - b + 1) 0 _ (by omega) (Nat.zero_le _) (Or.inl ⟨rfl, c_76.symm, fun z hz => absurd hz (Nat.not_lt_zero z)⟩) _ _ _ hH (lv_sub hl [2, 3, 4, 5, 6, 1, 0] rfl)
        intro x H locs ls hfl hH hl
        rcases hfl with ⟨rfl, hyes⟩ | ⟨rfl, hno⟩
        · skip
          refine lv_iload hx hb dX2_word_146 (lv_at hl 5 rfl) ?_
          refine lv_if_ne (tgt := 154) hx hb dX2_word_148 (by decide) (fun c_148 => ?_) (fun c_148 => ?_)
          · skip
            exact K1 i _ _ _ (by omega) (by omega) hyes hall hH (lv_sub hl [0, 1, 2, 3, 4] rfl)
          · skip
            exact absurd c_148 (by decide)
        · skip
          refine lv_iload hx hb dX2_word_146 (lv_at hl 5 rfl) ?_
          refine lv_if_ne (tgt := 154) hx hb dX2_word_148 (by decide) (fun c_148 => ?_) (fun c_148 => ?_)
          · skip
            exact absurd c_148 (by decide)
          · skip
            refine lv_goto (tgt := 163) hx hb dX2_word_151 (by decide) ?_
            refine lv_iinc (v := nI (i + 1)) (lv' := [(5, .int (nI (i + 1))), (0, .ref (ad 1)), (1, .int (nI lo)), (2, .int (nI hh)), (4, .int (nI q)), (6, .int 0)]) hx hb dX2_word_163 hl (k := 4) rfl (nI_add i 1) (by decide) rfl (fun ls hl => ?_)
            refine lv_goto (tgt := 53) hx hb dX2_word_166 (by decide) ?_
            exact ih (i + 1) (by omega) (by omega) (fun z h1 h2 => by rcases Nat.lt_or_ge z i with y | y; exact hall z h1 y; rw [show z = i by omega]; exact hno) _ _ _ hH (lv_sub hl [1, 2, 3, 4, 0] rfl)

set_option maxHeartbeats 1000000 in
set_option maxRecDepth 100000 in
theorem c_X2_word (l : Launch) (σ : xS) {pt en : Nat} (h25 : σ.1.1 25 = nI pt) (h26 : σ.1.1 26 = nI en) (hpe : pt ≤ en) (he : en ≤ 400) (lo hh : Nat) (hlh : lo ≤ hh) (hh6 : hh ≤ 6) : xz_C l yX2_word (Cond.code yX2_word cX2_word 8 (some .int)) 5 0 0 (fun ad => [.ref (ad 1), .int (nI lo), .int (nI hh)]) σ (fun r u => ∃ i, lo ≤ i ∧ i < hh ∧ pIsW (σ.1.2 23) (pSkip (σ.1.2 23) 32 32 en pt) (pSkip (σ.1.2 23) 97 122 en (pSkip (σ.1.2 23) 32 32 en pt)) i ∧ (∀ z, lo ≤ z → z < i → ¬ pIsW (σ.1.2 23) (pSkip (σ.1.2 23) 32 32 en pt) (pSkip (σ.1.2 23) 97 122 en (pSkip (σ.1.2 23) 32 32 en pt)) z) ∧ xs_st σ 25 (nI (pSkip (σ.1.2 23) 97 122 en (pSkip (σ.1.2 23) 32 32 en pt))) = u ∧ some (.int (nI i)) = r) (fun k u => k = 6 ∧ (∀ z, lo ≤ z → z < hh → ¬ pIsW (σ.1.2 23) (pSkip (σ.1.2 23) 32 32 en pt) (pSkip (σ.1.2 23) 97 122 en (pSkip (σ.1.2 23) 32 32 en pt)) z) ∧ xs_st (xs_st σ 25 (nI (pSkip (σ.1.2 23) 32 32 en pt))) 37 (nI (pSkip (σ.1.2 23) 32 32 en pt)) = u) := by
  refine xz_of (by decide) (fun ad => Nat.le_of_ble_eq_true rfl) ?_
  intro p e s m args below meth c G A ad wk wv ls X hE hH hl
  obtain ⟨hx, hb, hml, hT, hr, hlocks, hxc, hA⟩ := id X
  have hl : lv_has ls 8 [(0, .ref (ad 1)), (1, .int (nI lo)), (2, .int (nI hh))] := hl
  refine lv_aload_n hx hb dX2_word_0 rfl (lv_at hl 0 rfl) ?_
  refine xz_call (yy_V (n := 0) 1 (c_X2_sign l σ h25 h26 hpe he G A ad wk wv) hx hb hml hT hxc hA hH xx_1 rfl q694 (ex_code_of hT.2.1 q694) q693 qs10 q34 q691 (by decide +kernel) ⟨Nat.le_of_ble_eq_true rfl, Nat.le_of_ble_eq_true rfl⟩ rfl hl.1 rfl (Nat.le_of_ble_eq_true rfl) dX2_word_1 ⟨Nat.le_of_ble_eq_true rfl, Nat.le_of_ble_eq_true rfl⟩) hH (fun v_1 u_1 H locs hH hp_1 => ?_) (fun a_1 k_1 u_1 H locs hH hp_1 hI_1 h6_1 => ?_)
  rotate_left
  · exact hp_1.elim
  obtain ⟨rfl, hr_1⟩ := hp_1
  have hbb := pSkip_b (tp := (σ.1.2 23)) (lo := 32) (hi := 32) hpe
  obtain ⟨vs, hvs, hvs2⟩ : ∃ vs : Int32, v_1 = some (.int vs) ∧ True := by rcases hr_1 with ⟨_, h⟩ | ⟨_, h⟩ <;> exact ⟨_, h.symm, trivial⟩
  subst hvs
  refine lv_istore_n (lv' := [(3, .int vs), (0, .ref (ad 1)), (1, .int (nI lo)), (2, .int (nI hh))]) hx hb dX2_word_4 rfl hl (by decide) rfl (fun ls hl => ?_)
  refine lv_aload_n hx hb dX2_word_5 rfl (lv_at hl 1 rfl) ?_
  refine gw_get (C := RX2) (T := TX2) (N := 6) (ci := 2) (fs := xx_fs2 ad (xs_st σ 25 (nI (pSkip (σ.1.2 23) 32 32 en pt))).1.1) (v := .int ((xs_st σ 25 (nI (pSkip (σ.1.2 23) 32 32 en pt))).1.1 25)) hx hb hT hH.1 1 xx_1 rfl in_X2 5 (by decide) rfl q158 rfl dX2_word_6 ?_
  refine lv_as rfl ?_
  refine lv_istore (lv' := [(4, .int (nI (pSkip (σ.1.2 23) 32 32 en pt))), (3, .int vs), (0, .ref (ad 1)), (1, .int (nI lo)), (2, .int (nI hh))]) hx hb dX2_word_9 hl (by decide) rfl (fun ls hl => ?_)
  refine lp_X2_wordA σ h26 he (pSkip (σ.1.2 23) 32 32 en pt) lo hh X ?_ (en + 1) (pSkip (σ.1.2 23) 32 32 en pt) (by omega) ⟨Nat.le_refl _, hbb.2⟩ (fun j h1 h2 => absurd h1 (by omega)) _ _ _ hH (lv_sub hl [2, 3, 4, 0] rfl)
  intro q H locs ls hbq hqe hsk hH hl
  refine lv_iload_n hx hb dX2_word_50 rfl (lv_at hl 1 rfl) ?_
  refine lv_istore (lv' := [(5, .int (nI lo)), (0, .ref (ad 1)), (1, .int (nI lo)), (2, .int (nI hh)), (4, .int (nI q))]) hx hb dX2_word_51 hl (by decide) rfl (fun ls hl => ?_)
  refine lp_X2_wordC σ h26 he (pSkip (σ.1.2 23) 32 32 en pt) lo hh q hbq hqe hh6 X ?_ ?_ (hh + 1) lo (by omega) ⟨Nat.le_refl _, hlh⟩ (fun z h1 h2 => absurd h1 (by omega)) _ _ _ hH (lv_sub hl [1, 2, 3, 4, 0] rfl)
  · intro i H locs ls hli hih hyes hall hH hl
    refine lv_aload_n hx hb dX2_word_154 rfl (lv_at hl 0 rfl) ?_
    refine lv_iload hx hb dX2_word_155 (lv_at hl 3 rfl) ?_
    refine gw_put (C := RX2) (T := TX2) (N := 6) (ci := 2) (fs := xx_fs2 ad (xs_st σ 25 (nI (pSkip (σ.1.2 23) 32 32 en pt))).1.1) (v := .int (nI q)) hx hb hT hH 1 xx_1 rfl in_X2 tyX2 tyX2_ok nmX2 5 (by decide) rfl rfl q158 rfl rfl (Nat.le_of_ble_eq_true rfl) dX2_word_157 (fun H locs hH => ?_)
    rw [xx_up2 (k := 5) (j := 25) (by decide) (nI q)] at hH
    refine lv_iload hx hb dX2_word_160 (lv_at hl 4 rfl) ?_
    exact xz_ri hx hb hr hlocks hT hH rfl dX2_word_162 (⟨i, hli, hih, by rw [hsk]; exact hyes, by rw [hsk]; exact hall, by rw [hsk, xs_st_st], rfl⟩) (Nat.le_of_ble_eq_true rfl) (Nat.le_of_ble_eq_true rfl)
  · intro H locs ls hno hH hl
    rw [← hsk] at hno
    refine lv_aload_n hx hb dX2_word_169 rfl (lv_at hl 0 rfl) ?_
    refine lv_aload_n hx hb dX2_word_170 rfl (lv_at hl 0 rfl) ?_
    refine gw_get (C := RX2) (T := TX2) (N := 6) (ci := 2) (fs := xx_fs2 ad (xs_st σ 25 (nI (pSkip (σ.1.2 23) 32 32 en pt))).1.1) (v := .int ((xs_st σ 25 (nI (pSkip (σ.1.2 23) 32 32 en pt))).1.1 25)) hx hb hT hH.1 1 xx_1 rfl in_X2 5 (by decide) rfl q158 rfl dX2_word_171 ?_
    refine lv_as rfl ?_
    refine xz_call (yy_V (n := 1) 1 (c_X2_fail l (xs_st σ 25 (nI (pSkip (σ.1.2 23) 32 32 en pt))) (nI (pSkip (σ.1.2 23) 32 32 en pt)) G A ad wk wv) hx hb hml hT hxc hA hH xx_1 rfl q746 (ex_code_of hT.2.1 q746) q745 qs11 q34 q743 (by decide +kernel) ⟨Nat.le_of_ble_eq_true rfl, Nat.le_of_ble_eq_true rfl⟩ rfl hl.1 rfl (Nat.le_of_ble_eq_true rfl) dX2_word_174 ⟨Nat.le_of_ble_eq_true rfl, Nat.le_of_ble_eq_true rfl⟩) hH (fun v_174 u_174 H locs hH hp_174 => hp_174.elim) (fun a_174 k_174 u_174 H locs hH hp_174 hI_174 h6_174 => ?_)
    obtain ⟨rfl, rfl⟩ := hp_174
    exact xz_out hlocks hE hT hH (⟨rfl, hno, rfl⟩) hI_174 h6_174 (Nat.le_of_ble_eq_true rfl) (Nat.le_of_ble_eq_true rfl)
