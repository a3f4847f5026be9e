/-! constructors of Share, Well, Channel -/
set_option maxHeartbeats 1000000 in
set_option maxRecDepth 100000 in
theorem c_X7_init (l : Launch) (G : gw_G) (A : Nat → Prop) (ad wk wv : Nat → Nat) (w : gw_W) (i j : Nat) (q f t o : Int32) (hi : w i = some (.inr (6, [.null, .int 0, .int 0, .int 0, .int 0, .int 0, .int 0, .int 0]))) : gv_C l yX7_init cX7_init 6 2 0 0 [.ref (ad i), .ref (ad j), .int q, .int f, .int t, .int o] G A ad wk wv w (fun u => u = (ad, va_up w i (some (.inr (6, [.ref (ad j), .int q, .int f, .int t, .int o, .int (-1), .int 0, .int 0]))))) := by
  refine gv_of (by decide) rfl (Nat.le_of_ble_eq_true rfl) ?_
  intro p e s m args below meth c ls X hini hH hl
  obtain ⟨hx, hb, hml, hT, hr, hlocks, hxc, hA⟩ := id X
  have hl : lv_has ls 6 [(0, .ref (ad i)), (1, .ref (ad j)), (2, .int q), (3, .int f), (4, .int t), (5, .int o)] := hl
  refine lv_aload_n hx hb dX7_init_0 rfl (lv_at hl 0 rfl) ?_
  refine W.objInit hx hb hT.1 (hT.2.1 _ q527) (hT.2.1 _ q61) (hT.2.1 _ q62) rfl (by rw [hml]; exact hl.1) rfl dX7_init_1 (Nat.le_of_ble_eq_true rfl) (Nat.le_of_ble_eq_true rfl) ?_
  refine lv_aload_n hx hb dX7_init_4 rfl (lv_at hl 0 rfl) ?_
  refine lv_iconst (v := (-1)) hx hb dX7_init_5 (by decide) ?_
  refine gw_put (C := RX7) (T := TX7) (N := 8) (ci := 6) (fs := [.null, .int 0, .int 0, .int 0, .int 0, .int 0, .int 0, .int 0]) (v := .int (-1)) hx hb hT hH i hi rfl in_X7 tyX7 tyX7_ok nmX7 5 (by decide) rfl rfl q538 rfl rfl (Nat.le_of_ble_eq_true rfl) dX7_init_6 (fun H locs hH => ?_)
  replace hH : gw_H G A s.heap H locs ad (va_up w i (some (.inr (6, [.null, .int 0, .int 0, .int 0, .int 0, .int (-1), .int 0, .int 0])))) := by exact hH
  refine lv_aload_n hx hb dX7_init_9 rfl (lv_at hl 0 rfl) ?_
  refine lv_aload_n hx hb dX7_init_10 rfl (lv_at hl 1 rfl) ?_
  refine gw_putF (T := TX7) (N := 8) (ci := 6) (fs := [.null, .int 0, .int 0, .int 0, .int 0, .int (-1), .int 0, .int 0]) (v := .ref (ad j)) hx hb hT hH i xx_as rfl in_X7 tyX7 tyX7_ok nmX7 0 (by decide) rfl rfl hini q528 rfl rfl (Nat.le_of_ble_eq_true rfl) dX7_init_11 (fun H locs hH => ?_)
  replace hH : gw_H G A s.heap H locs ad (va_up w i (some (.inr (6, [.ref (ad j), .int 0, .int 0, .int 0, .int 0, .int (-1), .int 0, .int 0])))) := by rw [va_up_s] at hH; exact hH
  refine lv_aload_n hx hb dX7_init_14 rfl (lv_at hl 0 rfl) ?_
  refine lv_iload_n hx hb dX7_init_15 rfl (lv_at hl 2 rfl) ?_
  refine gw_putF (T := TX7) (N := 8) (ci := 6) (fs := [.ref (ad j), .int 0, .int 0, .int 0, .int 0, .int (-1), .int 0, .int 0]) (v := .int q) hx hb hT hH i xx_as rfl in_X7 tyX7 tyX7_ok nmX7 1 (by decide) rfl rfl hini q530 rfl rfl (Nat.le_of_ble_eq_true rfl) dX7_init_16 (fun H locs hH => ?_)
  replace hH : gw_H G A s.heap H locs ad (va_up w i (some (.inr (6, [.ref (ad j), .int q, .int 0, .int 0, .int 0, .int (-1), .int 0, .int 0])))) := by rw [va_up_s] at hH; exact hH
  refine lv_aload_n hx hb dX7_init_19 rfl (lv_at hl 0 rfl) ?_
  refine lv_iload_n hx hb dX7_init_20 rfl (lv_at hl 3 rfl) ?_
  refine gw_put (C := RX7) (T := TX7) (N := 8) (ci := 6) (fs := [.ref (ad j), .int q, .int 0, .int 0, .int 0, .int (-1), .int 0, .int 0]) (v := .int f) hx hb hT hH i xx_as rfl in_X7 tyX7 tyX7_ok nmX7 2 (by decide) rfl rfl q532 rfl rfl (Nat.le_of_ble_eq_true rfl) dX7_init_21 (fun H locs hH => ?_)
  replace hH : gw_H G A s.heap H locs ad (va_up w i (some (.inr (6, [.ref (ad j), .int q, .int f, .int 0, .int 0, .int (-1), .int 0, .int 0])))) := by rw [va_up_s] at hH; exact hH
  refine lv_aload_n hx hb dX7_init_24 rfl (lv_at hl 0 rfl) ?_
  refine lv_iload hx hb dX7_init_25 (lv_at hl 4 rfl) ?_
  refine gw_put (C := RX7) (T := TX7) (N := 8) (ci := 6) (fs := [.ref (ad j), .int q, .int f, .int 0, .int 0, .int (-1), .int 0, .int 0]) (v := .int t) hx hb hT hH i xx_as rfl in_X7 tyX7 tyX7_ok nmX7 3 (by decide) rfl rfl q534 rfl rfl (Nat.le_of_ble_eq_true rfl) dX7_init_27 (fun H locs hH => ?_)
  replace hH : gw_H G A s.heap H locs ad (va_up w i (some (.inr (6, [.ref (ad j), .int q, .int f, .int t, .int 0, .int (-1), .int 0, .int 0])))) := by rw [va_up_s] at hH; exact hH
  refine lv_aload_n hx hb dX7_init_30 rfl (lv_at hl 0 rfl) ?_
  refine lv_iload hx hb dX7_init_31 (lv_at hl 5 rfl) ?_
  refine gw_put (C := RX7) (T := TX7) (N := 8) (ci := 6) (fs := [.ref (ad j), .int q, .int f, .int t, .int 0, .int (-1), .int 0, .int 0]) (v := .int o) hx hb hT hH i xx_as rfl in_X7 tyX7 tyX7_ok nmX7 4 (by decide) rfl rfl q536 rfl rfl (Nat.le_of_ble_eq_true rfl) dX7_init_33 (fun H locs hH => ?_)
  replace hH : gw_H G A s.heap H locs ad (va_up w i (some (.inr (6, [.ref (ad j), .int q, .int f, .int t, .int o, .int (-1), .int 0, .int 0])))) := by rw [va_up_s] at hH; exact hH
  exact gv_rv hx hb hr hlocks hT hH dX7_init_36 rfl (Nat.le_of_ble_eq_true rfl) (Nat.le_of_ble_eq_true rfl)

set_option maxHeartbeats 1000000 in
set_option maxRecDepth 100000 in
theorem c_X6_init (l : Launch) (G : gw_G) (A : Nat → Prop) (ad wk wv : Nat → Nat) (w : gw_W) (i : Nat) (x y z : Int32) (hi : w i = some (.inr (5, [.int 0, .int 0, .int 0, .int 0]))) : gv_C l yX6_init cX6_init 4 2 0 0 [.ref (ad i), .int x, .int y, .int z] G A ad wk wv w (fun u => u = (ad, va_up w i (some (.inr (5, [.int x, .int y, .int z, .int 0]))))) := by
  refine gv_of (by decide) rfl (Nat.le_of_ble_eq_true rfl) ?_
  intro p e s m args below meth c ls X hini hH hl
  obtain ⟨hx, hb, hml, hT, hr, hlocks, hxc, hA⟩ := id X
  have hl : lv_has ls 4 [(0, .ref (ad i)), (1, .int x), (2, .int y), (3, .int z)] := hl
  refine lv_aload_n hx hb dX6_init_0 rfl (lv_at hl 0 rfl) ?_
  refine W.objInit hx hb hT.1 (hT.2.1 _ q480) (hT.2.1 _ q61) (hT.2.1 _ q62) rfl (by rw [hml]; exact hl.1) rfl dX6_init_1 (Nat.le_of_ble_eq_true rfl) (Nat.le_of_ble_eq_true rfl) ?_
  refine lv_aload_n hx hb dX6_init_4 rfl (lv_at hl 0 rfl) ?_
  refine lv_iload_n hx hb dX6_init_5 rfl (lv_at hl 1 rfl) ?_
  refine gw_putF (T := TX6) (N := 4) (ci := 5) (fs := [.int 0, .int 0, .int 0, .int 0]) (v := .int x) hx hb hT hH i hi rfl in_X6 tyX6 tyX6_ok nmX6 0 (by decide) rfl rfl hini q481 rfl rfl (Nat.le_of_ble_eq_true rfl) dX6_init_6 (fun H locs hH => ?_)
  replace hH : gw_H G A s.heap H locs ad (va_up w i (some (.inr (5, [.int x, .int 0, .int 0, .int 0])))) := by exact hH
  refine lv_aload_n hx hb dX6_init_9 rfl (lv_at hl 0 rfl) ?_
  refine lv_iload_n hx hb dX6_init_10 rfl (lv_at hl 2 rfl) ?_
  refine gw_putF (T := TX6) (N := 4) (ci := 5) (fs := [.int x, .int 0, .int 0, .int 0]) (v := .int y) hx hb hT hH i xx_as rfl in_X6 tyX6 tyX6_ok nmX6 1 (by decide) rfl rfl hini q483 rfl rfl (Nat.le_of_ble_eq_true rfl) dX6_init_11 (fun H locs hH => ?_)
  replace hH : gw_H G A s.heap H locs ad (va_up w i (some (.inr (5, [.int x, .int y, .int 0, .int 0])))) := by rw [va_up_s] at hH; exact hH
  refine lv_aload_n hx hb dX6_init_14 rfl (lv_at hl 0 rfl) ?_
  refine lv_iload_n hx hb dX6_init_15 rfl (lv_at hl 3 rfl) ?_
  refine gw_putF (T := TX6) (N := 4) (ci := 5) (fs := [.int x, .int y, .int 0, .int 0]) (v := .int z) hx hb hT hH i xx_as rfl in_X6 tyX6 tyX6_ok nmX6 2 (by decide) rfl rfl hini q484 rfl rfl (Nat.le_of_ble_eq_true rfl) dX6_init_16 (fun H locs hH => ?_)
  replace hH : gw_H G A s.heap H locs ad (va_up w i (some (.inr (5, [.int x, .int y, .int z, .int 0])))) := by rw [va_up_s] at hH; exact hH
  exact gv_rv hx hb hr hlocks hT hH dX6_init_19 rfl (Nat.le_of_ble_eq_true rfl) (Nat.le_of_ble_eq_true rfl)

set_option maxHeartbeats 1000000 in
set_option maxRecDepth 100000 in
theorem c_X5_init (l : Launch) (G : gw_G) (A : Nat → Prop) (ad wk wv : Nat → Nat) (w : gw_W) (i j : Nat) (hi : w i = some (.inr (4, [.null, .int 0, .int 0, .int 0, .int 0]))) (hj : w j = none) (hj5 : j < 512) (hij : i ≠ j) : gv_C l yX5_init cX5_init 1 2 1 20 [.ref (ad i)] G A ad wk wv w (fun u => (∀ k, k ≠ j → u.1 k = ad k) ∧ u.2 = va_up (va_up w j (some (.inl (G.2 5, 20, xx_rf (fun _ => none))))) i (some (.inr (4, [.ref (u.1 j), .int 0, .int 0, .int (-1), .int 0])))) := by
  refine gv_of (by decide) rfl (Nat.le_of_ble_eq_true rfl) ?_
  intro p e s m args below meth c ls X hini hH hl
  obtain ⟨hx, hb, hml, hT, hr, hlocks, hxc, hA⟩ := id X
  have hl : lv_has ls 1 [(0, .ref (ad i))] := hl
  refine lv_aload_n hx hb dX5_init_0 rfl (lv_at hl 0 rfl) ?_
  refine W.objInit hx hb hT.1 (hT.2.1 _ q372) (hT.2.1 _ q61) (hT.2.1 _ q62) rfl (by rw [hml]; exact hl.1) rfl dX5_init_1 (Nat.le_of_ble_eq_true rfl) (Nat.le_of_ble_eq_true rfl) ?_
  refine lv_aload_n hx hb dX5_init_4 rfl (lv_at hl 0 rfl) ?_
  refine lv_bipush (v := 20) hx hb dX5_init_5 (by decide) ?_
  refine gw_newq (N := 20) hx hb hT hH hA j hj hj5 q373 hT.2.2.2.2.2.1 5 rfl (by decide) rfl (by decide) (Nat.le_of_ble_eq_true rfl) (Nat.le_of_ble_eq_true rfl) dX5_init_7 (fun ad1 H hext hH => ?_)
  refine lv_ref1 (a' := ad1 i) (by rw [hext _ hij]) ?_
  refine gw_putF (T := TX5) (N := 5) (ci := 4) (fs := [.null, .int 0, .int 0, .int 0, .int 0]) (v := .ref (ad1 j)) hx hb hT hH i (by rw [xx_at hij]; exact hi) rfl in_X5 tyX5 tyX5_ok nmX5 0 (by decide) rfl rfl hini q375 rfl rfl (Nat.le_of_ble_eq_true rfl) dX5_init_10 (fun H locs hH => ?_)
  replace hH : gw_H G A s.heap H locs ad1 (va_up (va_up w j (some (.inl (G.2 5, 20, xx_rf (fun _ => none))))) i (some (.inr (4, [.ref (ad1 j), .int 0, .int 0, .int 0, .int 0])))) := by exact hH
  refine lv_aload_n hx hb dX5_init_13 rfl (lv_at hl 0 rfl) ?_
  refine lv_iconst (v := (-1)) hx hb dX5_init_14 (by decide) ?_
  refine lv_ref1 (a' := ad1 i) (by rw [hext _ hij]) ?_
  refine gw_put (C := RX5) (T := TX5) (N := 5) (ci := 4) (fs := [.ref (ad1 j), .int 0, .int 0, .int 0, .int 0]) (v := .int (-1)) hx hb hT hH i xx_as rfl in_X5 tyX5 tyX5_ok nmX5 3 (by decide) rfl rfl q381 rfl rfl (Nat.le_of_ble_eq_true rfl) dX5_init_15 (fun H locs hH => ?_)
  replace hH : gw_H G A s.heap H locs ad1 (va_up (va_up w j (some (.inl (G.2 5, 20, xx_rf (fun _ => none))))) i (some (.inr (4, [.ref (ad1 j), .int 0, .int 0, .int (-1), .int 0])))) := by rw [va_up_s] at hH; exact hH
  exact gv_rv hx hb hr hlocks hT hH dX5_init_18 (⟨hext, rfl⟩) (Nat.le_of_ble_eq_true rfl) (Nat.le_of_ble_eq_true rfl)
