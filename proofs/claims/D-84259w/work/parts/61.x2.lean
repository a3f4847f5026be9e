set_option maxHeartbeats 1000000 in
set_option maxRecDepth 100000 in
theorem c_X1_ground (l : Launch) (hfl : l.flags = pinnedFlags ++ [noTraceFlag]) (σ : xS) (h z : Int32) : xx_C l yX1_ground (Cond.code yX1_ground cX1_ground 3 none) 7 8 100 (fun ad => [.ref (ad 0), .int h, .int z]) σ (fun v u => none = v ∧ ((0 ≤ h ∧ h ≤ 2000) ∧ (0 ≤ z ∧ z ≤ 20)) ∧ xs_st (xs_st σ 1 h) 2 z = u) (fun k u => k = 3 ∧ ¬ ((0 ≤ h ∧ h ≤ 2000) ∧ (0 ≤ z ∧ z ≤ 20)) ∧ σ = u) := by
  refine xx_of (by decide) (fun ad => Nat.le_of_ble_eq_true rfl) ?_
  intro p e s m args below meth c G A ad wk wv ls X hE hH hl
  obtain ⟨hx, hb, hml, hT, hr, hlocks, hxc, hA⟩ := id X
  have hl : lv_has ls 3 [(0, .ref (ad 0)), (1, .int h), (2, .int z)] := hl
  refine lv_iload_n hx hb dX1_ground_0 rfl (lv_at hl 1 rfl) ?_
  refine lv_iconst (v := 0) hx hb dX1_ground_1 (by decide) ?_
  refine lv_sipush (v := 2000) hx hb dX1_ground_2 (by decide) ?_
  refine ss_ci (n := 3) (c_X1_isIn l h 0 2000) hx hb hml hT.1 hT.2.1 (lw_S q254 q255 q33 q256) (by decide +kernel) ⟨Nat.le_of_ble_eq_true rfl, Nat.le_of_ble_eq_true rfl⟩ rfl hl.1 rfl (Nat.le_of_ble_eq_true rfl) dX1_ground_5 ⟨Nat.le_of_ble_eq_true rfl, Nat.le_of_ble_eq_true rfl⟩ (fun r_5 hp_5 => ?_)
  rcases hp_5 with ⟨rfl, h_5⟩ | ⟨rfl, h_5⟩
  · skip
    refine lv_if_eq (tgt := 25) hx hb dX1_ground_8 (by decide) (fun c_8 => ?_) (fun c_8 => ?_)
    · skip
      exact absurd c_8 (by decide)
    · skip
      refine lv_iload_n hx hb dX1_ground_11 rfl (lv_at hl 2 rfl) ?_
      refine lv_iconst (v := 0) hx hb dX1_ground_12 (by decide) ?_
      refine lv_bipush (v := 20) hx hb dX1_ground_13 (by decide) ?_
      refine ss_ci (n := 3) (c_X1_isIn l z 0 20) hx hb hml hT.1 hT.2.1 (lw_S q254 q255 q33 q256) (by decide +kernel) ⟨Nat.le_of_ble_eq_true rfl, Nat.le_of_ble_eq_true rfl⟩ rfl hl.1 rfl (Nat.le_of_ble_eq_true rfl) dX1_ground_15 ⟨Nat.le_of_ble_eq_true rfl, Nat.le_of_ble_eq_true rfl⟩ (fun r_15 hp_15 => ?_)
      rcases hp_15 with ⟨rfl, h_15⟩ | ⟨rfl, h_15⟩
      · skip
        refine lv_if_eq (tgt := 25) hx hb dX1_ground_18 (by decide) (fun c_18 => ?_) (fun c_18 => ?_)
        · skip
          exact absurd c_18 (by decide)
        · skip
          refine lv_iconst (v := 1) hx hb dX1_ground_21 (by decide) ?_
          refine lv_goto (tgt := 26) hx hb dX1_ground_22 (by decide) ?_
          refine tk_cSv (n := 1) (c_X1_must1 l) hx hb hml hT.1 hT.2.1 (fun a U g mk h => h) (fun U hU hW => trivial) (lw_S q318 q319 q33 q320) (by decide +kernel) ⟨Nat.le_of_ble_eq_true rfl, Nat.le_of_ble_eq_true rfl⟩ rfl hl.1 rfl (Nat.le_of_ble_eq_true rfl) dX1_ground_26 ⟨Nat.le_of_ble_eq_true rfl, Nat.le_of_ble_eq_true rfl⟩ ?_
          refine lv_aload_n hx hb dX1_ground_29 rfl (lv_at hl 0 rfl) ?_
          refine lv_iload_n hx hb dX1_ground_30 rfl (lv_at hl 1 rfl) ?_
          refine gw_put (C := RX1) (T := TX1) (N := 21) (ci := 1) (fs := xx_fs1 ad σ.1.1) (v := .int h) hx hb hT hH 0 xx_0 rfl in_X1 tyX1 tyX1_ok nmX1 15 (by decide) rfl rfl q191 rfl rfl (Nat.le_of_ble_eq_true rfl) dX1_ground_31 (fun H locs hH => ?_)
          rw [xx_up1 (k := 15) (j := 1) (by decide) h] at hH
          refine lv_aload_n hx hb dX1_ground_34 rfl (lv_at hl 0 rfl) ?_
          refine lv_iload_n hx hb dX1_ground_35 rfl (lv_at hl 2 rfl) ?_
          refine gw_put (C := RX1) (T := TX1) (N := 21) (ci := 1) (fs := xx_fs1 ad (xs_st σ 1 h).1.1) (v := .int z) hx hb hT hH 0 xx_0 rfl in_X1 tyX1 tyX1_ok nmX1 16 (by decide) rfl rfl q192 rfl rfl (Nat.le_of_ble_eq_true rfl) dX1_ground_36 (fun H locs hH => ?_)
          rw [xx_up1 (k := 16) (j := 2) (by decide) z] at hH
          exact xx_rv hx hb hr hlocks hT hH (fun _ _ _ => rfl) dX1_ground_39 (⟨rfl, ⟨h_5, h_15⟩, rfl⟩) (Nat.le_of_ble_eq_true rfl) (Nat.le_of_ble_eq_true rfl)
      · skip
        refine lv_if_eq (tgt := 25) hx hb dX1_ground_18 (by decide) (fun c_18 => ?_) (fun c_18 => ?_)
        · skip
          refine lv_iconst (v := 0) hx hb dX1_ground_25 (by decide) ?_
          exact xt_call (k := 3) (yy_S (n := 1) (c_X1_must0 l hfl σ G A ad wk wv) hx hb hml hT hxc hA hH q320 (ex_code_of hT.2.1 q320) (ex_named (hT.2.1 _ q320)) q319 q33 q318 (by decide +kernel) ⟨Nat.le_of_ble_eq_true rfl, Nat.le_of_ble_eq_true rfl⟩ rfl hl.1 rfl (Nat.le_of_ble_eq_true rfl) dX1_ground_26 ⟨Nat.le_of_ble_eq_true rfl, Nat.le_of_ble_eq_true rfl⟩) hlocks hE (xx_tq hT hH (fun _ _ _ => rfl) (by decide) (⟨rfl, fun g => h_15 g.2, rfl⟩)) hH.2.2.2.2 (Nat.le_of_ble_eq_true rfl) (Nat.le_of_ble_eq_true rfl)
        · skip
          exact absurd c_18 (by decide)
  · skip
    refine lv_if_eq (tgt := 25) hx hb dX1_ground_8 (by decide) (fun c_8 => ?_) (fun c_8 => ?_)
    · skip
      refine lv_iconst (v := 0) hx hb dX1_ground_25 (by decide) ?_
      exact xt_call (k := 3) (yy_S (n := 1) (c_X1_must0 l hfl σ G A ad wk wv) hx hb hml hT hxc hA hH q320 (ex_code_of hT.2.1 q320) (ex_named (hT.2.1 _ q320)) q319 q33 q318 (by decide +kernel) ⟨Nat.le_of_ble_eq_true rfl, Nat.le_of_ble_eq_true rfl⟩ rfl hl.1 rfl (Nat.le_of_ble_eq_true rfl) dX1_ground_26 ⟨Nat.le_of_ble_eq_true rfl, Nat.le_of_ble_eq_true rfl⟩) hlocks hE (xx_tq hT hH (fun _ _ _ => rfl) (by decide) (⟨rfl, fun g => h_5 g.1, rfl⟩)) hH.2.2.2.2 (Nat.le_of_ble_eq_true rfl) (Nat.le_of_ble_eq_true rfl)
    · skip
      exact absurd c_8 (by decide)

set_option maxHeartbeats 1000000 in
set_option maxRecDepth 100000 in
theorem c_X1_years (l : Launch) (hfl : l.flags = pinnedFlags ++ [noTraceFlag]) (σ : xS) (n : Int32) : xx_C l yX1_years (Cond.code yX1_years cX1_years 2 (some .int)) 7 8 100 (fun ad => [.ref (ad 0), .int n]) σ (fun v u => some (.int (σ.1.1 3 + n)) = v ∧ (0 ≤ n ∧ n ≤ 100) ∧ xs_st σ 3 (σ.1.1 3 + n) = u) (fun k u => k = 3 ∧ ¬ (0 ≤ n ∧ n ≤ 100) ∧ σ = u) := by
  refine xx_of (by decide) (fun ad => Nat.le_of_ble_eq_true rfl) ?_
  intro p e s m args below meth c G A ad wk wv ls X hE hH hl
  obtain ⟨hx, hb, hml, hT, hr, hlocks, hxc, hA⟩ := id X
  have hl : lv_has ls 2 [(0, .ref (ad 0)), (1, .int n)] := hl
  refine lv_iload_n hx hb dX1_years_0 rfl (lv_at hl 1 rfl) ?_
  refine lv_iconst (v := 0) hx hb dX1_years_1 (by decide) ?_
  refine lv_bipush (v := 100) hx hb dX1_years_2 (by decide) ?_
  refine ss_ci (n := 3) (c_X1_isIn l n 0 100) hx hb hml hT.1 hT.2.1 (lw_S q254 q255 q33 q256) (by decide +kernel) ⟨Nat.le_of_ble_eq_true rfl, Nat.le_of_ble_eq_true rfl⟩ rfl hl.1 rfl (Nat.le_of_ble_eq_true rfl) dX1_years_4 ⟨Nat.le_of_ble_eq_true rfl, Nat.le_of_ble_eq_true rfl⟩ (fun r_4 hp_4 => ?_)
  rcases hp_4 with ⟨rfl, h_4⟩ | ⟨rfl, h_4⟩
  · skip
    refine tk_cSv (n := 1) (c_X1_must1 l) hx hb hml hT.1 hT.2.1 (fun a U g mk h => h) (fun U hU hW => trivial) (lw_S q318 q319 q33 q320) (by decide +kernel) ⟨Nat.le_of_ble_eq_true rfl, Nat.le_of_ble_eq_true rfl⟩ rfl hl.1 rfl (Nat.le_of_ble_eq_true rfl) dX1_years_7 ⟨Nat.le_of_ble_eq_true rfl, Nat.le_of_ble_eq_true rfl⟩ ?_
    refine lv_aload_n hx hb dX1_years_10 rfl (lv_at hl 0 rfl) ?_
    refine lv_dup hx hb dX1_years_11 rfl ?_
    refine gw_get (C := RX1) (T := TX1) (N := 21) (ci := 1) (fs := xx_fs1 ad σ.1.1) (v := .int (σ.1.1 3)) hx hb hT hH.1 0 xx_0 rfl in_X1 17 (by decide) rfl q193 rfl dX1_years_12 ?_
    refine lv_iload_n hx hb dX1_years_15 rfl (lv_at hl 1 rfl) ?_
    refine lv_iadd hx hb dX1_years_16 ?_
    refine gw_put (C := RX1) (T := TX1) (N := 21) (ci := 1) (fs := xx_fs1 ad σ.1.1) (v := .int ((σ.1.1 3) + n)) hx hb hT hH 0 xx_0 rfl in_X1 tyX1 tyX1_ok nmX1 17 (by decide) rfl rfl q193 rfl rfl (Nat.le_of_ble_eq_true rfl) dX1_years_17 (fun H locs hH => ?_)
    rw [xx_up1 (k := 17) (j := 3) (by decide) ((σ.1.1 3) + n)] at hH
    refine lv_aload_n hx hb dX1_years_20 rfl (lv_at hl 0 rfl) ?_
    refine gw_get (C := RX1) (T := TX1) (N := 21) (ci := 1) (fs := xx_fs1 ad (xs_st σ 3 ((σ.1.1 3) + n)).1.1) (v := .int ((σ.1.1 3) + n)) hx hb hT hH.1 0 xx_0 rfl in_X1 17 (by decide) rfl q193 rfl dX1_years_21 ?_
    exact xx_ri hx hb hr hlocks hT hH (fun _ _ _ => rfl) rfl dX1_years_24 (⟨rfl, h_4, rfl⟩) (Nat.le_of_ble_eq_true rfl) (Nat.le_of_ble_eq_true rfl)
  · skip
    exact xt_call (k := 3) (yy_S (n := 1) (c_X1_must0 l hfl σ G A ad wk wv) hx hb hml hT hxc hA hH q320 (ex_code_of hT.2.1 q320) (ex_named (hT.2.1 _ q320)) q319 q33 q318 (by decide +kernel) ⟨Nat.le_of_ble_eq_true rfl, Nat.le_of_ble_eq_true rfl⟩ rfl hl.1 rfl (Nat.le_of_ble_eq_true rfl) dX1_years_7 ⟨Nat.le_of_ble_eq_true rfl, Nat.le_of_ble_eq_true rfl⟩) hlocks hE (xx_tq hT hH (fun _ _ _ => rfl) (by decide) (⟨rfl, h_4, rfl⟩)) hH.2.2.2.2 (Nat.le_of_ble_eq_true rfl) (Nat.le_of_ble_eq_true rfl)

set_option maxHeartbeats 1000000 in
set_option maxRecDepth 100000 in
theorem c_X1_minutes (l : Launch) (hfl : l.flags = pinnedFlags ++ [noTraceFlag]) (σ : xS) (n : Int32) : xx_C l yX1_minutes (Cond.code yX1_minutes cX1_minutes 2 (some .int)) 7 8 100 (fun ad => [.ref (ad 0), .int n]) σ (fun v u => some (.int (σ.1.1 4 + n)) = v ∧ (0 ≤ n ∧ n ≤ 100000) ∧ xs_st σ 4 (σ.1.1 4 + n) = u) (fun k u => k = 3 ∧ ¬ (0 ≤ n ∧ n ≤ 100000) ∧ σ = u) := by
  refine xx_of (by decide) (fun ad => Nat.le_of_ble_eq_true rfl) ?_
  intro p e s m args below meth c G A ad wk wv ls X hE hH hl
  obtain ⟨hx, hb, hml, hT, hr, hlocks, hxc, hA⟩ := id X
  have hl : lv_has ls 2 [(0, .ref (ad 0)), (1, .int n)] := hl
  refine lv_iload_n hx hb dX1_minutes_0 rfl (lv_at hl 1 rfl) ?_
  refine lv_iconst (v := 0) hx hb dX1_minutes_1 (by decide) ?_
  refine lv_ldc (v := 100000) hx hb hT.1 (hT.2.1 _ q637) dX1_minutes_2 ?_
  refine ss_ci (n := 3) (c_X1_isIn l n 0 100000) hx hb hml hT.1 hT.2.1 (lw_S q254 q255 q33 q256) (by decide +kernel) ⟨Nat.le_of_ble_eq_true rfl, Nat.le_of_ble_eq_true rfl⟩ rfl hl.1 rfl (Nat.le_of_ble_eq_true rfl) dX1_minutes_4 ⟨Nat.le_of_ble_eq_true rfl, Nat.le_of_ble_eq_true rfl⟩ (fun r_4 hp_4 => ?_)
  rcases hp_4 with ⟨rfl, h_4⟩ | ⟨rfl, h_4⟩
  · skip
    refine tk_cSv (n := 1) (c_X1_must1 l) hx hb hml hT.1 hT.2.1 (fun a U g mk h => h) (fun U hU hW => trivial) (lw_S q318 q319 q33 q320) (by decide +kernel) ⟨Nat.le_of_ble_eq_true rfl, Nat.le_of_ble_eq_true rfl⟩ rfl hl.1 rfl (Nat.le_of_ble_eq_true rfl) dX1_minutes_7 ⟨Nat.le_of_ble_eq_true rfl, Nat.le_of_ble_eq_true rfl⟩ ?_
    refine lv_aload_n hx hb dX1_minutes_10 rfl (lv_at hl 0 rfl) ?_
    refine lv_dup hx hb dX1_minutes_11 rfl ?_
    refine gw_get (C := RX1) (T := TX1) (N := 21) (ci := 1) (fs := xx_fs1 ad σ.1.1) (v := .int (σ.1.1 4)) hx hb hT hH.1 0 xx_0 rfl in_X1 18 (by decide) rfl q194 rfl dX1_minutes_12 ?_
    refine lv_iload_n hx hb dX1_minutes_15 rfl (lv_at hl 1 rfl) ?_
    refine lv_iadd hx hb dX1_minutes_16 ?_
    refine gw_put (C := RX1) (T := TX1) (N := 21) (ci := 1) (fs := xx_fs1 ad σ.1.1) (v := .int ((σ.1.1 4) + n)) hx hb hT hH 0 xx_0 rfl in_X1 tyX1 tyX1_ok nmX1 18 (by decide) rfl rfl q194 rfl rfl (Nat.le_of_ble_eq_true rfl) dX1_minutes_17 (fun H locs hH => ?_)
    rw [xx_up1 (k := 18) (j := 4) (by decide) ((σ.1.1 4) + n)] at hH
    refine lv_aload_n hx hb dX1_minutes_20 rfl (lv_at hl 0 rfl) ?_
    refine gw_get (C := RX1) (T := TX1) (N := 21) (ci := 1) (fs := xx_fs1 ad (xs_st σ 4 ((σ.1.1 4) + n)).1.1) (v := .int ((σ.1.1 4) + n)) hx hb hT hH.1 0 xx_0 rfl in_X1 18 (by decide) rfl q194 rfl dX1_minutes_21 ?_
    exact xx_ri hx hb hr hlocks hT hH (fun _ _ _ => rfl) rfl dX1_minutes_24 (⟨rfl, h_4, rfl⟩) (Nat.le_of_ble_eq_true rfl) (Nat.le_of_ble_eq_true rfl)
  · skip
    exact xt_call (k := 3) (yy_S (n := 1) (c_X1_must0 l hfl σ G A ad wk wv) hx hb hml hT hxc hA hH q320 (ex_code_of hT.2.1 q320) (ex_named (hT.2.1 _ q320)) q319 q33 q318 (by decide +kernel) ⟨Nat.le_of_ble_eq_true rfl, Nat.le_of_ble_eq_true rfl⟩ rfl hl.1 rfl (Nat.le_of_ble_eq_true rfl) dX1_minutes_7 ⟨Nat.le_of_ble_eq_true rfl, Nat.le_of_ble_eq_true rfl⟩) hlocks hE (xx_tq hT hH (fun _ _ _ => rfl) (by decide) (⟨rfl, h_4, rfl⟩)) hH.2.2.2.2 (Nat.le_of_ble_eq_true rfl) (Nat.le_of_ble_eq_true rfl)

set_option maxHeartbeats 1000000 in
set_option maxRecDepth 100000 in
theorem c_X1_says (l : Launch) (hfl : l.flags = pinnedFlags ++ [noTraceFlag]) (σ : xS) (v : Int32) : xx_C l yX1_says (Cond.code yX1_says cX1_says 2 (some .int)) 7 8 100 (fun ad => [.ref (ad 0), .int v]) σ (fun r u => ∃ k, k < 4 ∧ nI k = v ∧ σ = u ∧ some (.int (σ.1.2 21 k)) = r) (fun k u => k = 5 ∧ (¬ ∃ k, k < 4 ∧ nI k = v) ∧ σ = u) := by
  refine xx_of (by decide) (fun ad => Nat.le_of_ble_eq_true rfl) ?_
  intro p e s m args below meth c G A ad wk wv ls X hE hH hl
  obtain ⟨hx, hb, hml, hT, hr, hlocks, hxc, hA⟩ := id X
  have hl : lv_has ls 2 [(0, .ref (ad 0)), (1, .int v)] := hl
  refine lv_iload_n hx hb dX1_says_0 rfl (lv_at hl 1 rfl) ?_
  refine lv_iconst (v := 0) hx hb dX1_says_1 (by decide) ?_
  refine lv_iconst (v := 3) hx hb dX1_says_2 (by decide) ?_
  refine ss_ci (n := 3) (c_X1_isIn l v 0 3) hx hb hml hT.1 hT.2.1 (lw_S q254 q255 q33 q256) (by decide +kernel) ⟨Nat.le_of_ble_eq_true rfl, Nat.le_of_ble_eq_true rfl⟩ rfl hl.1 rfl (Nat.le_of_ble_eq_true rfl) dX1_says_3 ⟨Nat.le_of_ble_eq_true rfl, Nat.le_of_ble_eq_true rfl⟩ (fun r_3 hp_3 => ?_)
  rcases hp_3 with ⟨rfl, h_3⟩ | ⟨rfl, h_3⟩
  · skip
    obtain ⟨k, hk4, rfl⟩ := (in_rg (n := 4) (by decide) v).mp h_3
    refine lv_if_ne (tgt := 17) hx hb dX1_says_6 (by decide) (fun c_6 => ?_) (fun c_6 => ?_)
    · skip
      refine lv_aload_n hx hb dX1_says_17 rfl (lv_at hl 0 rfl) ?_
      refine gw_get (C := RX1) (T := TX1) (N := 21) (ci := 1) (fs := xx_fs1 ad σ.1.1) (v := .ref (ad 21)) hx hb hT hH.1 0 xx_0 rfl in_X1 3 (by decide) rfl q179 rfl dX1_says_18 ?_
      refine lv_iload_n hx hb dX1_says_21 rfl (lv_at hl 1 rfl) ?_
      refine xx_ild (v := σ.1.2 21 k) hx hb hT hH.1 21 (by decide) (by decide) rfl k rfl (show k < 4 by omega) rfl dX1_says_22 ?_
      exact xx_ri hx hb hr hlocks hT hH (fun _ _ _ => rfl) rfl dX1_says_23 (⟨k, hk4, rfl, rfl, rfl⟩) (Nat.le_of_ble_eq_true rfl) (Nat.le_of_ble_eq_true rfl)
    · skip
      exact absurd c_6 (by decide)
  · skip
    refine lv_if_ne (tgt := 17) hx hb dX1_says_6 (by decide) (fun c_6 => ?_) (fun c_6 => ?_)
    · skip
      exact absurd c_6 (by decide)
    · skip
      refine W.widen (k := 7) (n := 94) (Nat.le_of_ble_eq_true rfl) (Nat.le_of_ble_eq_true rfl) ?_
      exact ex_thr (own := RX1) (cls := "java/util/NoSuchElementException") (ic := 249) (inw := 247) hx hb hfl hT.1 hT.2.1 (by decide +kernel) (fun U hU hW => ex_ats5 (A := A) hT.2.1 hxc.1 hW (hxc.at hW hH.2.2 hU).2.1) q657 q50 q658 hE hlocks hml hl.1 dX1_says_9 dX1_says_12 dX1_says_13 dX1_says_16 (Nat.le_of_ble_eq_true rfl) (Nat.le_of_ble_eq_true rfl) (Nat.le_of_ble_eq_true rfl) (Nat.le_of_ble_eq_true rfl) (xx_tq hT hH (fun _ _ _ => rfl) (k := 5) (by decide) (⟨rfl, fun g => h_3 ((in_rg (n := 4) (by decide) v).mpr g), rfl⟩)) hH.2.2.2.2

set_option maxHeartbeats 1000000 in
set_option maxRecDepth 100000 in
theorem c_X1_fault (l : Launch) (σ : xS) : xx_C l yX1_fault (Cond.code yX1_fault cX1_fault 1 (some .int)) 1 8 100 (fun ad => [.ref (ad 0)]) σ (fun r u => σ = u ∧ some (.int (σ.1.1 28)) = r) (fun _ _ => False) := by
  refine xx_of (by decide) (fun ad => Nat.le_of_ble_eq_true rfl) ?_
  intro p e s m args below meth c G A ad wk wv ls X hE hH hl
  obtain ⟨hx, hb, hml, hT, hr, hlocks, hxc, hA⟩ := id X
  have hl : lv_has ls 1 [(0, .ref (ad 0))] := hl
  refine lv_aload_n hx hb dX1_fault_0 rfl (lv_at hl 0 rfl) ?_
  refine gw_get (C := RX1) (T := TX1) (N := 21) (ci := 1) (fs := xx_fs1 ad σ.1.1) (v := .int (σ.1.1 28)) hx hb hT hH.1 0 xx_0 rfl in_X1 20 (by decide) rfl q196 rfl dX1_fault_1 ?_
  exact xx_ri hx hb hr hlocks hT hH (fun _ _ _ => rfl) rfl dX1_fault_4 (⟨rfl, rfl⟩) (Nat.le_of_ble_eq_true rfl) (Nat.le_of_ble_eq_true rfl)

set_option maxHeartbeats 1000000 in
set_option maxRecDepth 100000 in
theorem c_X1_end (l : Launch) (σ : xS) (n : Int32) : xx_C l yX1_end (Cond.code yX1_end cX1_end 2 (some .boolean)) 2 8 100 (fun ad => [.ref (ad 0), .int n]) σ (fun r u => ((0 ≤ n ∧ n ≤ σ.1.1 24) ∧ xs_st σ 24 n = u ∧ some (.int 1) = r) ∨ (¬ (0 ≤ n ∧ n ≤ σ.1.1 24) ∧ σ = u ∧ some (.int 0) = r)) (fun _ _ => False) := by
  refine xx_of (by decide) (fun ad => Nat.le_of_ble_eq_true rfl) ?_
  intro p e s m args below meth c G A ad wk wv ls X hE hH hl
  obtain ⟨hx, hb, hml, hT, hr, hlocks, hxc, hA⟩ := id X
  have hl : lv_has ls 2 [(0, .ref (ad 0)), (1, .int n)] := hl
  refine lv_iload_n hx hb dX1_end_0 rfl (lv_at hl 1 rfl) ?_
  refine lv_iconst (v := 0) hx hb dX1_end_1 (by decide) ?_
  refine lv_aload_n hx hb dX1_end_2 rfl (lv_at hl 0 rfl) ?_
  refine gw_get (C := RX1) (T := TX1) (N := 21) (ci := 1) (fs := xx_fs1 ad σ.1.1) (v := .ref (ad 1)) hx hb hT hH.1 0 xx_0 rfl in_X1 0 (by decide) rfl q176 rfl dX1_end_3 ?_
  refine gw_getN (C := RX2) (T := TX2) (N := 6) (ci := 2) (fs := xx_fs2 ad σ.1.1) (v := .int (σ.1.1 24)) hx hb hT hH.1 1 xx_1 rfl in_X2 3 (by decide) rfl (List.mem_of_getElem? (i := 2) rfl) rfl dX1_end_6 ?_
  refine ss_ci (n := 3) (c_X1_isIn l n 0 (σ.1.1 24)) hx hb hml hT.1 hT.2.1 (lw_S q254 q255 q33 q256) (by decide +kernel) ⟨Nat.le_of_ble_eq_true rfl, Nat.le_of_ble_eq_true rfl⟩ rfl hl.1 rfl (Nat.le_of_ble_eq_true rfl) dX1_end_9 ⟨Nat.le_of_ble_eq_true rfl, Nat.le_of_ble_eq_true rfl⟩ (fun r_9 hp_9 => ?_)
  rcases hp_9 with ⟨rfl, h_9⟩ | ⟨rfl, h_9⟩
  · skip
    refine lv_if_ne (tgt := 17) hx hb dX1_end_12 (by decide) (fun c_12 => ?_) (fun c_12 => ?_)
    · skip
      refine lv_aload_n hx hb dX1_end_17 rfl (lv_at hl 0 rfl) ?_
      refine gw_get (C := RX1) (T := TX1) (N := 21) (ci := 1) (fs := xx_fs1 ad σ.1.1) (v := .ref (ad 1)) hx hb hT hH.1 0 xx_0 rfl in_X1 0 (by decide) rfl q176 rfl dX1_end_18 ?_
      refine lv_iload_n hx hb dX1_end_21 rfl (lv_at hl 1 rfl) ?_
      refine gw_putN (C := RX2) (T := TX2) (N := 6) (ci := 2) (fs := xx_fs2 ad σ.1.1) (v := .int n) hx hb hT hH 1 xx_1 rfl in_X2 tyX2 tyX2_ok nmX2 3 (by decide) rfl rfl (List.mem_of_getElem? (i := 2) rfl) rfl rfl (Nat.le_of_ble_eq_true rfl) dX1_end_22 (fun H locs hH => ?_)
      rw [xx_up2 (k := 3) (j := 24) (by decide) n] at hH
      refine lv_iconst (v := 1) hx hb dX1_end_25 (by decide) ?_
      exact xx_ri hx hb hr hlocks hT hH (fun _ _ _ => rfl) rfl dX1_end_26 (Or.inl ⟨h_9, rfl, rfl⟩) (Nat.le_of_ble_eq_true rfl) (Nat.le_of_ble_eq_true rfl)
    · skip
      exact absurd c_12 (by decide)
  · skip
    refine lv_if_ne (tgt := 17) hx hb dX1_end_12 (by decide) (fun c_12 => ?_) (fun c_12 => ?_)
    · skip
      exact absurd c_12 (by decide)
    · skip
      refine lv_iconst (v := 0) hx hb dX1_end_15 (by decide) ?_
      exact xx_ri hx hb hr hlocks hT hH (fun _ _ _ => rfl) rfl dX1_end_16 (Or.inr ⟨h_9, rfl, rfl⟩) (Nat.le_of_ble_eq_true rfl) (Nat.le_of_ble_eq_true rfl)

set_option maxHeartbeats 1000000 in
set_option maxRecDepth 100000 in
theorem c_X1_field (l : Launch) (hfl : l.flags = pinnedFlags ++ [noTraceFlag]) (σ : xS) (a b z : Int32) {nF : Nat} (h34 : σ.1.1 34 = nI nF) (hF : nF ≤ 9) : xx_C l yX1_field (Cond.code yX1_field cX1_field 4 (some .int)) 7 8 100 (fun ad => [.ref (ad 0), .int a, .int b, .int z]) σ (fun r u => ((1 ≤ a ∧ a ≤ 1000) ∧ (0 ≤ b ∧ b ≤ 10000) ∧ (0 ≤ z ∧ z ≤ 100)) ∧ ((nF < 9 ∧ xs_st (xs_ar (xs_ar (xs_ar σ 31 nF a) 32 nF b) 33 nF z) 34 (nI (nF + 1)) = u ∧ some (.int (nI (nF + 1))) = r) ∨ (nF = 9 ∧ σ = u ∧ some (.int (-1)) = r))) (fun k u => k = 3 ∧ ¬ ((1 ≤ a ∧ a ≤ 1000) ∧ (0 ≤ b ∧ b ≤ 10000) ∧ (0 ≤ z ∧ z ≤ 100)) ∧ σ = u) := by
  refine xx_of (by decide) (fun ad => Nat.le_of_ble_eq_true rfl) ?_
  intro p e s m args below meth c G A ad wk wv ls X hE hH hl
  obtain ⟨hx, hb, hml, hT, hr, hlocks, hxc, hA⟩ := id X
  have hl : lv_has ls 4 [(0, .ref (ad 0)), (1, .int a), (2, .int b), (3, .int z)] := hl
  refine lv_iload_n hx hb dX1_field_0 rfl (lv_at hl 1 rfl) ?_
  refine lv_iconst (v := 1) hx hb dX1_field_1 (by decide) ?_
  refine lv_sipush (v := 1000) hx hb dX1_field_2 (by decide) ?_
  refine ss_ci (n := 3) (c_X1_isIn l a 1 1000) hx hb hml hT.1 hT.2.1 (lw_S q254 q255 q33 q256) (by decide +kernel) ⟨Nat.le_of_ble_eq_true rfl, Nat.le_of_ble_eq_true rfl⟩ rfl hl.1 rfl (Nat.le_of_ble_eq_true rfl) dX1_field_5 ⟨Nat.le_of_ble_eq_true rfl, Nat.le_of_ble_eq_true rfl⟩ (fun r_5 hp_5 => ?_)
  rcases hp_5 with ⟨rfl, h_5⟩ | ⟨rfl, h_5⟩
  · skip
    refine lv_if_eq (tgt := 36) hx hb dX1_field_8 (by decide) (fun c_8 => ?_) (fun c_8 => ?_)
    · skip
      exact absurd c_8 (by decide)
    · skip
      refine lv_iload_n hx hb dX1_field_11 rfl (lv_at hl 2 rfl) ?_
      refine lv_iconst (v := 0) hx hb dX1_field_12 (by decide) ?_
      refine lv_sipush (v := 10000) hx hb dX1_field_13 (by decide) ?_
      refine ss_ci (n := 3) (c_X1_isIn l b 0 10000) hx hb hml hT.1 hT.2.1 (lw_S q254 q255 q33 q256) (by decide +kernel) ⟨Nat.le_of_ble_eq_true rfl, Nat.le_of_ble_eq_true rfl⟩ rfl hl.1 rfl (Nat.le_of_ble_eq_true rfl) dX1_field_16 ⟨Nat.le_of_ble_eq_true rfl, Nat.le_of_ble_eq_true rfl⟩ (fun r_16 hp_16 => ?_)
      rcases hp_16 with ⟨rfl, h_16⟩ | ⟨rfl, h_16⟩
      · skip
        refine lv_if_eq (tgt := 36) hx hb dX1_field_19 (by decide) (fun c_19 => ?_) (fun c_19 => ?_)
        · skip
          exact absurd c_19 (by decide)
        · skip
          refine lv_iload_n hx hb dX1_field_22 rfl (lv_at hl 3 rfl) ?_
          refine lv_iconst (v := 0) hx hb dX1_field_23 (by decide) ?_
          refine lv_bipush (v := 100) hx hb dX1_field_24 (by decide) ?_
          refine ss_ci (n := 3) (c_X1_isIn l z 0 100) hx hb hml hT.1 hT.2.1 (lw_S q254 q255 q33 q256) (by decide +kernel) ⟨Nat.le_of_ble_eq_true rfl, Nat.le_of_ble_eq_true rfl⟩ rfl hl.1 rfl (Nat.le_of_ble_eq_true rfl) dX1_field_26 ⟨Nat.le_of_ble_eq_true rfl, Nat.le_of_ble_eq_true rfl⟩ (fun r_26 hp_26 => ?_)
          rcases hp_26 with ⟨rfl, h_26⟩ | ⟨rfl, h_26⟩
          · skip
            refine lv_if_eq (tgt := 36) hx hb dX1_field_29 (by decide) (fun c_29 => ?_) (fun c_29 => ?_)
            · skip
              exact absurd c_29 (by decide)
            · skip
              refine lv_iconst (v := 1) hx hb dX1_field_32 (by decide) ?_
              refine lv_goto (tgt := 37) hx hb dX1_field_33 (by decide) ?_
              refine tk_cSv (n := 1) (c_X1_must1 l) hx hb hml hT.1 hT.2.1 (fun a U g mk h => h) (fun U hU hW => trivial) (lw_S q318 q319 q33 q320) (by decide +kernel) ⟨Nat.le_of_ble_eq_true rfl, Nat.le_of_ble_eq_true rfl⟩ rfl hl.1 rfl (Nat.le_of_ble_eq_true rfl) dX1_field_37 ⟨Nat.le_of_ble_eq_true rfl, Nat.le_of_ble_eq_true rfl⟩ ?_
              refine lv_aload_n hx hb dX1_field_40 rfl (lv_at hl 0 rfl) ?_
              refine gw_get (C := RX1) (T := TX1) (N := 21) (ci := 1) (fs := xx_fs1 ad σ.1.1) (v := .int (σ.1.1 34)) hx hb hT hH.1 0 xx_0 rfl in_X1 19 (by decide) rfl q195 rfl dX1_field_41 ?_
              refine lv_as h34 ?_
              refine lv_bipush (v := 9) hx hb dX1_field_44 (by decide) ?_
              refine lv_icmp_ne (tgt := 51) hx hb dX1_field_46 (by decide) (fun c_46 => ?_) (fun c_46 => ?_)
              · skip
                have c_46 : ¬ (nF = 9) := fun h => c_46 ((nI_eq (a := nF) (b := 9) (by omega) (by omega)).mpr h)
                refine lv_aload_n hx hb dX1_field_51 rfl (lv_at hl 0 rfl) ?_
                refine gw_get (C := RX1) (T := TX1) (N := 21) (ci := 1) (fs := xx_fs1 ad σ.1.1) (v := .ref (ad 31)) hx hb hT hH.1 0 xx_0 rfl in_X1 5 (by decide) rfl q181 rfl dX1_field_52 ?_
                refine lv_aload_n hx hb dX1_field_55 rfl (lv_at hl 0 rfl) ?_
                refine gw_get (C := RX1) (T := TX1) (N := 21) (ci := 1) (fs := xx_fs1 ad σ.1.1) (v := .int (σ.1.1 34)) hx hb hT hH.1 0 xx_0 rfl in_X1 19 (by decide) rfl q195 rfl dX1_field_56 ?_
                refine lv_as h34 ?_
                refine lv_iload_n hx hb dX1_field_59 rfl (lv_at hl 1 rfl) ?_
                refine xx_ist hx hb hT hH 31 (by decide) (by decide) rfl nF rfl (show nF < 9 by omega) dX1_field_60 (fun H locs hH => ?_)
                refine lv_aload_n hx hb dX1_field_61 rfl (lv_at hl 0 rfl) ?_
                refine gw_get (C := RX1) (T := TX1) (N := 21) (ci := 1) (fs := xx_fs1 ad (xs_ar σ 31 nF a).1.1) (v := .ref (ad 32)) hx hb hT hH.1 0 xx_0 rfl in_X1 6 (by decide) rfl q182 rfl dX1_field_62 ?_
                refine lv_aload_n hx hb dX1_field_65 rfl (lv_at hl 0 rfl) ?_
                refine gw_get (C := RX1) (T := TX1) (N := 21) (ci := 1) (fs := xx_fs1 ad (xs_ar σ 31 nF a).1.1) (v := .int (σ.1.1 34)) hx hb hT hH.1 0 xx_0 rfl in_X1 19 (by decide) rfl q195 rfl dX1_field_66 ?_
                refine lv_as h34 ?_
                refine lv_iload_n hx hb dX1_field_69 rfl (lv_at hl 2 rfl) ?_
                refine xx_ist hx hb hT hH 32 (by decide) (by decide) rfl nF rfl (show nF < 9 by omega) dX1_field_70 (fun H locs hH => ?_)
                refine lv_aload_n hx hb dX1_field_71 rfl (lv_at hl 0 rfl) ?_
                refine gw_get (C := RX1) (T := TX1) (N := 21) (ci := 1) (fs := xx_fs1 ad (xs_ar (xs_ar σ 31 nF a) 32 nF b).1.1) (v := .ref (ad 33)) hx hb hT hH.1 0 xx_0 rfl in_X1 7 (by decide) rfl q183 rfl dX1_field_72 ?_
                refine lv_aload_n hx hb dX1_field_75 rfl (lv_at hl 0 rfl) ?_
                refine gw_get (C := RX1) (T := TX1) (N := 21) (ci := 1) (fs := xx_fs1 ad (xs_ar (xs_ar σ 31 nF a) 32 nF b).1.1) (v := .int (σ.1.1 34)) hx hb hT hH.1 0 xx_0 rfl in_X1 19 (by decide) rfl q195 rfl dX1_field_76 ?_
                refine lv_as h34 ?_
                refine lv_iload_n hx hb dX1_field_79 rfl (lv_at hl 3 rfl) ?_
                refine xx_ist hx hb hT hH 33 (by decide) (by decide) rfl nF rfl (show nF < 9 by omega) dX1_field_80 (fun H locs hH => ?_)
                refine lv_aload_n hx hb dX1_field_81 rfl (lv_at hl 0 rfl) ?_
                refine lv_dup hx hb dX1_field_82 rfl ?_
                refine gw_get (C := RX1) (T := TX1) (N := 21) (ci := 1) (fs := xx_fs1 ad (xs_ar (xs_ar (xs_ar σ 31 nF a) 32 nF b) 33 nF z).1.1) (v := .int (σ.1.1 34)) hx hb hT hH.1 0 xx_0 rfl in_X1 19 (by decide) rfl q195 rfl dX1_field_83 ?_
                refine lv_as h34 ?_
                refine lv_iconst (v := 1) hx hb dX1_field_86 (by decide) ?_
                refine lv_iadd hx hb dX1_field_87 ?_
                refine lv_as (nI_add nF 1) ?_
                refine gw_put (C := RX1) (T := TX1) (N := 21) (ci := 1) (fs := xx_fs1 ad (xs_ar (xs_ar (xs_ar σ 31 nF a) 32 nF b) 33 nF z).1.1) (v := .int (nI (nF + 1))) hx hb hT hH 0 xx_0 rfl in_X1 tyX1 tyX1_ok nmX1 19 (by decide) rfl rfl q195 rfl rfl (Nat.le_of_ble_eq_true rfl) dX1_field_88 (fun H locs hH => ?_)
                rw [xx_up1 (k := 19) (j := 34) (by decide) (nI (nF + 1))] at hH
                refine lv_aload_n hx hb dX1_field_91 rfl (lv_at hl 0 rfl) ?_
                refine gw_get (C := RX1) (T := TX1) (N := 21) (ci := 1) (fs := xx_fs1 ad (xs_st (xs_ar (xs_ar (xs_ar σ 31 nF a) 32 nF b) 33 nF z) 34 (nI (nF + 1))).1.1) (v := .int (nI (nF + 1))) hx hb hT hH.1 0 xx_0 rfl in_X1 19 (by decide) rfl q195 rfl dX1_field_92 ?_
                exact xx_ri hx hb hr hlocks hT hH (fun _ _ _ => rfl) rfl dX1_field_95 (⟨⟨h_5, h_16, h_26⟩, Or.inl ⟨by omega, rfl, rfl⟩⟩) (Nat.le_of_ble_eq_true rfl) (Nat.le_of_ble_eq_true rfl)
              · skip
                have c_46 : nF = 9 := (nI_eq (a := nF) (b := 9) (by omega) (by omega)).mp c_46
                refine lv_iconst (v := (-1)) hx hb dX1_field_49 (by decide) ?_
                exact xx_ri hx hb hr hlocks hT hH (fun _ _ _ => rfl) rfl dX1_field_50 (⟨⟨h_5, h_16, h_26⟩, Or.inr ⟨c_46, rfl, rfl⟩⟩) (Nat.le_of_ble_eq_true rfl) (Nat.le_of_ble_eq_true rfl)
          · skip
            refine lv_if_eq (tgt := 36) hx hb dX1_field_29 (by decide) (fun c_29 => ?_) (fun c_29 => ?_)
            · skip
              refine lv_iconst (v := 0) hx hb dX1_field_36 (by decide) ?_
              exact xt_call (k := 3) (yy_S (n := 1) (c_X1_must0 l hfl σ G A ad wk wv) hx hb hml hT hxc hA hH q320 (ex_code_of hT.2.1 q320) (ex_named (hT.2.1 _ q320)) q319 q33 q318 (by decide +kernel) ⟨Nat.le_of_ble_eq_true rfl, Nat.le_of_ble_eq_true rfl⟩ rfl hl.1 rfl (Nat.le_of_ble_eq_true rfl) dX1_field_37 ⟨Nat.le_of_ble_eq_true rfl, Nat.le_of_ble_eq_true rfl⟩) hlocks hE (xx_tq hT hH (fun _ _ _ => rfl) (by decide) (⟨rfl, fun g => h_26 g.2.2, rfl⟩)) hH.2.2.2.2 (Nat.le_of_ble_eq_true rfl) (Nat.le_of_ble_eq_true rfl)
            · skip
              exact absurd c_29 (by decide)
      · skip
        refine lv_if_eq (tgt := 36) hx hb dX1_field_19 (by decide) (fun c_19 => ?_) (fun c_19 => ?_)
        · skip
          refine lv_iconst (v := 0) hx hb dX1_field_36 (by decide) ?_
          exact xt_call (k := 3) (yy_S (n := 1) (c_X1_must0 l hfl σ G A ad wk wv) hx hb hml hT hxc hA hH q320 (ex_code_of hT.2.1 q320) (ex_named (hT.2.1 _ q320)) q319 q33 q318 (by decide +kernel) ⟨Nat.le_of_ble_eq_true rfl, Nat.le_of_ble_eq_true rfl⟩ rfl hl.1 rfl (Nat.le_of_ble_eq_true rfl) dX1_field_37 ⟨Nat.le_of_ble_eq_true rfl, Nat.le_of_ble_eq_true rfl⟩) hlocks hE (xx_tq hT hH (fun _ _ _ => rfl) (by decide) (⟨rfl, fun g => h_16 g.2.1, rfl⟩)) hH.2.2.2.2 (Nat.le_of_ble_eq_true rfl) (Nat.le_of_ble_eq_true rfl)
        · skip
          exact absurd c_19 (by decide)
  · skip
    refine lv_if_eq (tgt := 36) hx hb dX1_field_8 (by decide) (fun c_8 => ?_) (fun c_8 => ?_)
    · skip
      refine lv_iconst (v := 0) hx hb dX1_field_36 (by decide) ?_
      exact xt_call (k := 3) (yy_S (n := 1) (c_X1_must0 l hfl σ G A ad wk wv) hx hb hml hT hxc hA hH q320 (ex_code_of hT.2.1 q320) (ex_named (hT.2.1 _ q320)) q319 q33 q318 (by decide +kernel) ⟨Nat.le_of_ble_eq_true rfl, Nat.le_of_ble_eq_true rfl⟩ rfl hl.1 rfl (Nat.le_of_ble_eq_true rfl) dX1_field_37 ⟨Nat.le_of_ble_eq_true rfl, Nat.le_of_ble_eq_true rfl⟩) hlocks hE (xx_tq hT hH (fun _ _ _ => rfl) (by decide) (⟨rfl, fun g => h_5 g.1, rfl⟩)) hH.2.2.2.2 (Nat.le_of_ble_eq_true rfl) (Nat.le_of_ble_eq_true rfl)
    · skip
      exact absurd c_8 (by decide)

set_option maxHeartbeats 1000000 in
set_option maxRecDepth 100000 in
theorem c_X1_let (l : Launch) (hfl : l.flags = pinnedFlags ++ [noTraceFlag]) (σ : xS) {nC nS : Nat} {nW : Nat → Nat} (hk : xk σ nC nS nW) (v o f t : Int32) : xx_C l yX1_let (Cond.code yX1_let cX1_let 6 none) 9 8 100 (fun ad => [.ref (ad 0), .int v, .int o, .int f, .int t]) σ (fun r u => none = r ∧ ∃ k, k < nS ∧ nI k = v ∧ ¬ (¬ σ.1.2 16 (7 * k + 4) = -1 ∧ σ.1.1 4 < σ.1.2 16 (7 * k + 6)) ∧ ((0 ≤ o ∧ o ≤ 30) ∧ ¬ o = σ.1.2 16 (7 * k + 3) ∧ σ.1.1 4 ≤ f ∧ f < t ∧ t ≤ 100000000) ∧ xs_ar (xs_ar (xs_ar σ 16 (7 * k + 4) o) 16 (7 * k + 5) f) 16 (7 * k + 6) t = u) (fun q u => σ = u ∧ ((q = 1 ∧ (¬ ∃ k, k < nS ∧ nI k = v)) ∨ ∃ k, k < nS ∧ nI k = v ∧ ((q = 2 ∧ (¬ σ.1.2 16 (7 * k + 4) = -1 ∧ σ.1.1 4 < σ.1.2 16 (7 * k + 6))) ∨ (q = 3 ∧ ¬ (¬ σ.1.2 16 (7 * k + 4) = -1 ∧ σ.1.1 4 < σ.1.2 16 (7 * k + 6)) ∧ ¬ ((0 ≤ o ∧ o ≤ 30) ∧ ¬ o = σ.1.2 16 (7 * k + 3) ∧ σ.1.1 4 ≤ f ∧ f < t ∧ t ≤ 100000000))))) := by
  refine xx_of (by decide) (fun ad => Nat.le_of_ble_eq_true rfl) ?_
  intro p e s m args below meth c G A ad wk wv ls X hE hH hl
  obtain ⟨hx, hb, hml, hT, hr, hlocks, hxc, hA⟩ := id X
  have hl : lv_has ls 6 [(0, .ref (ad 0)), (1, .int v), (2, .int o), (3, .int f), (4, .int t)] := hl
  refine lv_aload_n hx hb dX1_let_0 rfl (lv_at hl 0 rfl) ?_
  refine lv_iload_n hx hb dX1_let_1 rfl (lv_at hl 1 rfl) ?_
  by_cases h_2 : ∃ k, k < nS ∧ nI k = v
  · skip
    obtain ⟨k, hkk, rfl⟩ := h_2
    refine xr_Vr (n := 1) 0 ((c_X1_shareAt1 l σ hk k (by omega)) G ad wk) hx hb hml hT hH.1 hH.2.1 xx_0 rfl (lw_V q607 q609 qs8 q33 q610) (by decide +kernel) ⟨Nat.le_of_ble_eq_true rfl, Nat.le_of_ble_eq_true rfl⟩ rfl hl.1 rfl (Nat.le_of_ble_eq_true rfl) dX1_let_2 ⟨Nat.le_of_ble_eq_true rfl, Nat.le_of_ble_eq_true rfl⟩ ?_
    refine lv_astore (lv' := [(5, .ref (ad (220 + k))), (0, .ref (ad 0)), (1, .int (nI k)), (2, .int o), (3, .int f), (4, .int t)]) hx hb dX1_let_5 hl (by decide) rfl (fun ls hl => ?_)
    refine lv_aload hx hb dX1_let_7 (lv_at hl 0 rfl) ?_
    refine lv_aload_n hx hb dX1_let_9 rfl (lv_at hl 1 rfl) ?_
    refine gw_get (C := RX1) (T := TX1) (N := 21) (ci := 1) (fs := xx_fs1 ad σ.1.1) (v := .int (σ.1.1 4)) hx hb hT hH.1 0 xx_0 rfl in_X1 18 (by decide) rfl q194 rfl dX1_let_10 ?_
    refine xr_V (n := 1) (220 + k) ((c_X7_isLet l σ hk k (by omega) (σ.1.1 4)) G ad wk) hx hb hml hT hH.1 hH.2.1 (xx_share hk (show k < nS by omega)) rfl (lw_V q276 q277 q278 q49 q279) (by decide +kernel) ⟨Nat.le_of_ble_eq_true rfl, Nat.le_of_ble_eq_true rfl⟩ rfl hl.1 rfl (Nat.le_of_ble_eq_true rfl) dX1_let_13 ⟨Nat.le_of_ble_eq_true rfl, Nat.le_of_ble_eq_true rfl⟩ (fun r_13 hp_13 => ?_)
    rcases hp_13 with ⟨rfl, h_13⟩ | ⟨rfl, h_13⟩
    · skip
      refine lv_if_ne (tgt := 23) hx hb dX1_let_16 (by decide) (fun c_16 => ?_) (fun c_16 => ?_)
      · skip
        refine lv_iconst (v := 0) hx hb dX1_let_23 (by decide) ?_
        exact xt_call (k := 2) (yy_S (n := 1) (c_X1_stands0 l hfl σ G A ad wk wv) hx hb hml hT hxc hA hH q459 (ex_code_of hT.2.1 q459) (ex_named (hT.2.1 _ q459)) q458 q33 q457 (by decide +kernel) ⟨Nat.le_of_ble_eq_true rfl, Nat.le_of_ble_eq_true rfl⟩ rfl hl.1 rfl (Nat.le_of_ble_eq_true rfl) dX1_let_24 ⟨Nat.le_of_ble_eq_true rfl, Nat.le_of_ble_eq_true rfl⟩) hlocks hE (xx_tq hT hH (fun _ _ _ => rfl) (by decide) (⟨rfl, Or.inr ⟨k, hkk, rfl, Or.inl ⟨rfl, h_13⟩⟩⟩)) hH.2.2.2.2 (Nat.le_of_ble_eq_true rfl) (Nat.le_of_ble_eq_true rfl)
      · skip
        exact absurd c_16 (by decide)
    · skip
      refine lv_if_ne (tgt := 23) hx hb dX1_let_16 (by decide) (fun c_16 => ?_) (fun c_16 => ?_)
      · skip
        exact absurd c_16 (by decide)
      · skip
        refine lv_iconst (v := 1) hx hb dX1_let_19 (by decide) ?_
        refine lv_goto (tgt := 24) hx hb dX1_let_20 (by decide) ?_
        refine tk_cSv (n := 1) (c_X1_stands1 l) hx hb hml hT.1 hT.2.1 (fun a U g mk h => h) (fun U hU hW => trivial) (lw_S q457 q458 q33 q459) (by decide +kernel) ⟨Nat.le_of_ble_eq_true rfl, Nat.le_of_ble_eq_true rfl⟩ rfl hl.1 rfl (Nat.le_of_ble_eq_true rfl) dX1_let_24 ⟨Nat.le_of_ble_eq_true rfl, Nat.le_of_ble_eq_true rfl⟩ ?_
        refine lv_iload_n hx hb dX1_let_27 rfl (lv_at hl 3 rfl) ?_
        refine ss_ci (n := 1) (c_X1_isOwner l o) hx hb hml hT.1 hT.2.1 (lw_S q516 q517 q33 q518) (by decide +kernel) ⟨Nat.le_of_ble_eq_true rfl, Nat.le_of_ble_eq_true rfl⟩ rfl hl.1 rfl (Nat.le_of_ble_eq_true rfl) dX1_let_28 ⟨Nat.le_of_ble_eq_true rfl, Nat.le_of_ble_eq_true rfl⟩ (fun r_28 hp_28 => ?_)
        rcases hp_28 with ⟨rfl, h_28⟩ | ⟨rfl, h_28⟩
        · skip
          refine lv_if_eq (tgt := 68) hx hb dX1_let_31 (by decide) (fun c_31 => ?_) (fun c_31 => ?_)
          · skip
            exact absurd c_31 (by decide)
          · skip
            refine lv_iload_n hx hb dX1_let_34 rfl (lv_at hl 3 rfl) ?_
            refine lv_aload hx hb dX1_let_35 (lv_at hl 0 rfl) ?_
            refine gw_getN (C := RX7) (T := TX7) (N := 8) (ci := 6) (fs := xx_fs7 ad σ.1 k) (v := .int (σ.1.2 16 (7 * k + 3))) hx hb hT hH.1 (220 + k) (xx_share hk (show k < nS by omega)) rfl in_X7 4 (by decide) rfl (List.mem_of_getElem? (i := 15) rfl) rfl dX1_let_37 ?_
            refine lv_icmp_eq (tgt := 68) hx hb dX1_let_40 (by decide) (fun c_40 => ?_) (fun c_40 => ?_)
            · skip
              refine lv_iconst (v := 0) hx hb dX1_let_68 (by decide) ?_
              exact xt_call (k := 3) (yy_S (n := 1) (c_X1_must0 l hfl σ G A ad wk wv) hx hb hml hT hxc hA hH q320 (ex_code_of hT.2.1 q320) (ex_named (hT.2.1 _ q320)) q319 q33 q318 (by decide +kernel) ⟨Nat.le_of_ble_eq_true rfl, Nat.le_of_ble_eq_true rfl⟩ rfl hl.1 rfl (Nat.le_of_ble_eq_true rfl) dX1_let_69 ⟨Nat.le_of_ble_eq_true rfl, Nat.le_of_ble_eq_true rfl⟩) hlocks hE (xx_tq hT hH (fun _ _ _ => rfl) (by decide) (⟨rfl, Or.inr ⟨k, hkk, rfl, Or.inr ⟨rfl, h_13, fun g => g.2.1 c_40⟩⟩⟩)) hH.2.2.2.2 (Nat.le_of_ble_eq_true rfl) (Nat.le_of_ble_eq_true rfl)
            · skip
              refine lv_iload_n hx hb dX1_let_43 rfl (lv_at hl 4 rfl) ?_
              refine lv_aload_n hx hb dX1_let_44 rfl (lv_at hl 1 rfl) ?_
              refine gw_get (C := RX1) (T := TX1) (N := 21) (ci := 1) (fs := xx_fs1 ad σ.1.1) (v := .int (σ.1.1 4)) hx hb hT hH.1 0 xx_0 rfl in_X1 18 (by decide) rfl q194 rfl dX1_let_45 ?_
              refine lv_icmp_lt (tgt := 68) hx hb dX1_let_48 (by decide) (fun c_48 => ?_) (fun c_48 => ?_)
              · skip
                refine lv_iconst (v := 0) hx hb dX1_let_68 (by decide) ?_
                exact xt_call (k := 3) (yy_S (n := 1) (c_X1_must0 l hfl σ G A ad wk wv) hx hb hml hT hxc hA hH q320 (ex_code_of hT.2.1 q320) (ex_named (hT.2.1 _ q320)) q319 q33 q318 (by decide +kernel) ⟨Nat.le_of_ble_eq_true rfl, Nat.le_of_ble_eq_true rfl⟩ rfl hl.1 rfl (Nat.le_of_ble_eq_true rfl) dX1_let_69 ⟨Nat.le_of_ble_eq_true rfl, Nat.le_of_ble_eq_true rfl⟩) hlocks hE (xx_tq hT hH (fun _ _ _ => rfl) (by decide) (⟨rfl, Or.inr ⟨k, hkk, rfl, Or.inr ⟨rfl, h_13, fun g => absurd g.2.2.1 (Int32.not_le.mpr c_48)⟩⟩⟩)) hH.2.2.2.2 (Nat.le_of_ble_eq_true rfl) (Nat.le_of_ble_eq_true rfl)
              · skip
                refine lv_iload_n hx hb dX1_let_51 rfl (lv_at hl 4 rfl) ?_
                refine lv_iload hx hb dX1_let_52 (lv_at hl 5 rfl) ?_
                refine lv_icmp_ge (tgt := 68) hx hb dX1_let_54 (by decide) (fun c_54 => ?_) (fun c_54 => ?_)
                · skip
                  refine lv_iconst (v := 0) hx hb dX1_let_68 (by decide) ?_
                  exact xt_call (k := 3) (yy_S (n := 1) (c_X1_must0 l hfl σ G A ad wk wv) hx hb hml hT hxc hA hH q320 (ex_code_of hT.2.1 q320) (ex_named (hT.2.1 _ q320)) q319 q33 q318 (by decide +kernel) ⟨Nat.le_of_ble_eq_true rfl, Nat.le_of_ble_eq_true rfl⟩ rfl hl.1 rfl (Nat.le_of_ble_eq_true rfl) dX1_let_69 ⟨Nat.le_of_ble_eq_true rfl, Nat.le_of_ble_eq_true rfl⟩) hlocks hE (xx_tq hT hH (fun _ _ _ => rfl) (by decide) (⟨rfl, Or.inr ⟨k, hkk, rfl, Or.inr ⟨rfl, h_13, fun g => absurd g.2.2.2.1 (Int32.not_lt.mpr c_54)⟩⟩⟩)) hH.2.2.2.2 (Nat.le_of_ble_eq_true rfl) (Nat.le_of_ble_eq_true rfl)
                · skip
                  refine lv_iload hx hb dX1_let_57 (lv_at hl 5 rfl) ?_
                  refine lv_ldc (v := 100000000) hx hb hT.1 (hT.2.1 _ q629) dX1_let_59 ?_
                  refine lv_icmp_gt (tgt := 68) hx hb dX1_let_61 (by decide) (fun c_61 => ?_) (fun c_61 => ?_)
                  · skip
                    refine lv_iconst (v := 0) hx hb dX1_let_68 (by decide) ?_
                    exact xt_call (k := 3) (yy_S (n := 1) (c_X1_must0 l hfl σ G A ad wk wv) hx hb hml hT hxc hA hH q320 (ex_code_of hT.2.1 q320) (ex_named (hT.2.1 _ q320)) q319 q33 q318 (by decide +kernel) ⟨Nat.le_of_ble_eq_true rfl, Nat.le_of_ble_eq_true rfl⟩ rfl hl.1 rfl (Nat.le_of_ble_eq_true rfl) dX1_let_69 ⟨Nat.le_of_ble_eq_true rfl, Nat.le_of_ble_eq_true rfl⟩) hlocks hE (xx_tq hT hH (fun _ _ _ => rfl) (by decide) (⟨rfl, Or.inr ⟨k, hkk, rfl, Or.inr ⟨rfl, h_13, fun g => absurd g.2.2.2.2 (Int32.not_le.mpr c_61)⟩⟩⟩)) hH.2.2.2.2 (Nat.le_of_ble_eq_true rfl) (Nat.le_of_ble_eq_true rfl)
                  · skip
                    refine lv_iconst (v := 1) hx hb dX1_let_64 (by decide) ?_
                    refine lv_goto (tgt := 69) hx hb dX1_let_65 (by decide) ?_
                    refine tk_cSv (n := 1) (c_X1_must1 l) hx hb hml hT.1 hT.2.1 (fun a U g mk h => h) (fun U hU hW => trivial) (lw_S q318 q319 q33 q320) (by decide +kernel) ⟨Nat.le_of_ble_eq_true rfl, Nat.le_of_ble_eq_true rfl⟩ rfl hl.1 rfl (Nat.le_of_ble_eq_true rfl) dX1_let_69 ⟨Nat.le_of_ble_eq_true rfl, Nat.le_of_ble_eq_true rfl⟩ ?_
                    refine lv_aload hx hb dX1_let_72 (lv_at hl 0 rfl) ?_
                    refine lv_iload_n hx hb dX1_let_74 rfl (lv_at hl 3 rfl) ?_
                    refine gw_putN (C := RX7) (T := TX7) (N := 8) (ci := 6) (fs := xx_fs7 ad σ.1 k) (v := .int o) hx hb hT hH (220 + k) (xx_share hk (show k < nS by omega)) rfl in_X7 tyX7 tyX7_ok nmX7 5 (by decide) rfl rfl (List.mem_of_getElem? (i := 16) rfl) rfl rfl (Nat.le_of_ble_eq_true rfl) dX1_let_75 (fun H locs hH => ?_)
                    rw [xx_up7 hk (show k < nS by omega) (k := 5) (o := 4) (by decide) o] at hH
                    have hk := hk.sh (n := k) (o := 4) o (by decide)
                    refine lv_aload hx hb dX1_let_78 (lv_at hl 0 rfl) ?_
                    refine lv_iload_n hx hb dX1_let_80 rfl (lv_at hl 4 rfl) ?_
                    refine gw_putN (C := RX7) (T := TX7) (N := 8) (ci := 6) (fs := xx_fs7 ad (xs_ar σ 16 (7 * k + 4) o).1 k) (v := .int f) hx hb hT hH (220 + k) (xx_share hk (show k < nS by omega)) rfl in_X7 tyX7 tyX7_ok nmX7 6 (by decide) rfl rfl (List.mem_of_getElem? (i := 17) rfl) rfl rfl (Nat.le_of_ble_eq_true rfl) dX1_let_81 (fun H locs hH => ?_)
                    rw [xx_up7 hk (show k < nS by omega) (k := 6) (o := 5) (by decide) f] at hH
                    have hk := hk.sh (n := k) (o := 5) f (by decide)
                    refine lv_aload hx hb dX1_let_84 (lv_at hl 0 rfl) ?_
                    refine lv_iload hx hb dX1_let_86 (lv_at hl 5 rfl) ?_
                    refine gw_putN (C := RX7) (T := TX7) (N := 8) (ci := 6) (fs := xx_fs7 ad (xs_ar (xs_ar σ 16 (7 * k + 4) o) 16 (7 * k + 5) f).1 k) (v := .int t) hx hb hT hH (220 + k) (xx_share hk (show k < nS by omega)) rfl in_X7 tyX7 tyX7_ok nmX7 7 (by decide) rfl rfl (List.mem_of_getElem? (i := 18) rfl) rfl rfl (Nat.le_of_ble_eq_true rfl) dX1_let_88 (fun H locs hH => ?_)
                    rw [xx_up7 hk (show k < nS by omega) (k := 7) (o := 6) (by decide) t] at hH
                    have hk := hk.sh (n := k) (o := 6) t (by decide)
                    exact xx_rv hx hb hr hlocks hT hH (fun _ _ _ => rfl) dX1_let_91 (⟨rfl, k, hkk, rfl, h_13, ⟨h_28, c_40, in_ge c_48, in_lt c_54, in_ge c_61⟩, rfl⟩) (Nat.le_of_ble_eq_true rfl) (Nat.le_of_ble_eq_true rfl)
        · skip
          refine lv_if_eq (tgt := 68) hx hb dX1_let_31 (by decide) (fun c_31 => ?_) (fun c_31 => ?_)
          · skip
            refine lv_iconst (v := 0) hx hb dX1_let_68 (by decide) ?_
            exact xt_call (k := 3) (yy_S (n := 1) (c_X1_must0 l hfl σ G A ad wk wv) hx hb hml hT hxc hA hH q320 (ex_code_of hT.2.1 q320) (ex_named (hT.2.1 _ q320)) q319 q33 q318 (by decide +kernel) ⟨Nat.le_of_ble_eq_true rfl, Nat.le_of_ble_eq_true rfl⟩ rfl hl.1 rfl (Nat.le_of_ble_eq_true rfl) dX1_let_69 ⟨Nat.le_of_ble_eq_true rfl, Nat.le_of_ble_eq_true rfl⟩) hlocks hE (xx_tq hT hH (fun _ _ _ => rfl) (by decide) (⟨rfl, Or.inr ⟨k, hkk, rfl, Or.inr ⟨rfl, h_13, fun g => h_28 g.1⟩⟩⟩)) hH.2.2.2.2 (Nat.le_of_ble_eq_true rfl) (Nat.le_of_ble_eq_true rfl)
          · skip
            exact absurd c_31 (by decide)
  · skip
    exact xt_call (k := 1) (yy_V (n := 1) 0 (c_X1_shareAt0 l hfl σ hk v h_2 G A ad wk wv) hx hb hml hT hxc hA hH xx_0 rfl q610 (ex_code_of hT.2.1 q610) q609 qs8 q33 q607 (by decide +kernel) ⟨Nat.le_of_ble_eq_true rfl, Nat.le_of_ble_eq_true rfl⟩ rfl hl.1 rfl (Nat.le_of_ble_eq_true rfl) dX1_let_2 ⟨Nat.le_of_ble_eq_true rfl, Nat.le_of_ble_eq_true rfl⟩) hlocks hE (xx_tq hT hH (fun _ _ _ => rfl) (by decide) (⟨rfl, Or.inl ⟨rfl, h_2⟩⟩)) hH.2.2.2.2 (Nat.le_of_ble_eq_true rfl) (Nat.le_of_ble_eq_true rfl)

set_option maxHeartbeats 1000000 in
set_option maxRecDepth 100000 in
theorem c_X1_share (l : Launch) (hfl : l.flags = pinnedFlags ++ [noTraceFlag]) (σ : xS) {nC nS : Nat} {nW : Nat → Nat} (hk : xk σ nC nS nW) (v x : Int32) : xx_C l yX1_share (Cond.code yX1_share cX1_share 4 (some .int)) 8 8 100 (fun ad => [.ref (ad 0), .int v, .int x]) σ (fun r u => ∃ k, k < nS ∧ nI k = v ∧ σ = u ∧ ((∃ i, i < 4 ∧ nI i = x ∧ some (.int (σ.1.2 16 (7 * k + i))) = r) ∨ (x = 4 ∧ ((some (.int 1) = r ∧ (¬ σ.1.2 16 (7 * k + 4) = -1 ∧ σ.1.1 4 < σ.1.2 16 (7 * k + 6))) ∨ (some (.int 0) = r ∧ ¬ (¬ σ.1.2 16 (7 * k + 4) = -1 ∧ σ.1.1 4 < σ.1.2 16 (7 * k + 6))))))) (fun q u => σ = u ∧ ((q = 1 ∧ (¬ ∃ k, k < nS ∧ nI k = v)) ∨ ∃ k, k < nS ∧ nI k = v ∧ q = 5 ∧ (x.toInt < 0 ∨ 4 < x.toInt))) := by
  refine xx_of (by decide) (fun ad => Nat.le_of_ble_eq_true rfl) ?_
  intro p e s m args below meth c G A ad wk wv ls X hE hH hl
  obtain ⟨hx, hb, hml, hT, hr, hlocks, hxc, hA⟩ := id X
  have hl : lv_has ls 4 [(0, .ref (ad 0)), (1, .int v), (2, .int x)] := hl
  refine lv_aload_n hx hb dX1_share_0 rfl (lv_at hl 0 rfl) ?_
  refine lv_iload_n hx hb dX1_share_1 rfl (lv_at hl 1 rfl) ?_
  by_cases h_2 : ∃ k, k < nS ∧ nI k = v
  · skip
    obtain ⟨k, hkk, rfl⟩ := h_2
    refine xr_Vr (n := 1) 0 ((c_X1_shareAt1 l σ hk k (by omega)) G ad wk) hx hb hml hT hH.1 hH.2.1 xx_0 rfl (lw_V q607 q609 qs8 q33 q610) (by decide +kernel) ⟨Nat.le_of_ble_eq_true rfl, Nat.le_of_ble_eq_true rfl⟩ rfl hl.1 rfl (Nat.le_of_ble_eq_true rfl) dX1_share_2 ⟨Nat.le_of_ble_eq_true rfl, Nat.le_of_ble_eq_true rfl⟩ ?_
    refine lv_astore_n (lv' := [(3, .ref (ad (220 + k))), (0, .ref (ad 0)), (1, .int (nI k)), (2, .int x)]) hx hb dX1_share_5 rfl hl (by decide) rfl (fun ls hl => ?_)
    refine lv_iload_n hx hb dX1_share_6 rfl (lv_at hl 3 rfl) ?_
    by_cases c_7 : x.toInt < 0 ∨ 4 < x.toInt
    · refine lv_tableOut (tgt := 77) hx hb dX1_share_7 c_7 (by decide) ?_
      refine W.widen (k := 7) (n := 94) (Nat.le_of_ble_eq_true rfl) (Nat.le_of_ble_eq_true rfl) ?_
      exact ex_thr (own := RX1) (cls := "java/util/NoSuchElementException") (ic := 249) (inw := 247) hx hb hfl hT.1 hT.2.1 (by decide +kernel) (fun U hU hW => ex_ats5 (A := A) hT.2.1 hxc.1 hW (hxc.at hW hH.2.2 hU).2.1) q657 q50 q658 hE hlocks hml hl.1 dX1_share_77 dX1_share_80 dX1_share_81 dX1_share_84 (Nat.le_of_ble_eq_true rfl) (Nat.le_of_ble_eq_true rfl) (Nat.le_of_ble_eq_true rfl) (Nat.le_of_ble_eq_true rfl) (xx_tq hT hH (fun _ _ _ => rfl) (k := 5) (by decide) (⟨rfl, Or.inr ⟨k, hkk, rfl, rfl, c_7⟩⟩)) hH.2.2.2.2
    · skip
      have c_7 : x = 0 ∨ x = 1 ∨ x = 2 ∨ x = 3 ∨ x = 4 := gx_sw5 c_7
      rcases c_7 with c_7 | c_7 | c_7 | c_7 | c_7
      · subst c_7
        refine lv_tableIn (tgt := 40) (off := 33) hx hb dX1_share_7 (by decide) (by decide) rfl (by decide) ?_
        refine lv_aload_n hx hb dX1_share_40 rfl (lv_at hl 0 rfl) ?_
        refine gw_getN (C := RX7) (T := TX7) (N := 8) (ci := 6) (fs := xx_fs7 ad σ.1 k) (v := .int (σ.1.2 16 (7 * k))) hx hb hT hH.1 (220 + k) (xx_share hk (show k < nS by omega)) rfl in_X7 1 (by decide) rfl (List.mem_of_getElem? (i := 12) rfl) rfl dX1_share_41 ?_
        exact xx_ri hx hb hr hlocks hT hH (fun _ _ _ => rfl) rfl dX1_share_44 (⟨k, hkk, rfl, rfl, Or.inl ⟨0, by decide, rfl, rfl⟩⟩) (Nat.le_of_ble_eq_true rfl) (Nat.le_of_ble_eq_true rfl)
      · subst c_7
        refine lv_tableIn (tgt := 45) (off := 38) hx hb dX1_share_7 (by decide) (by decide) rfl (by decide) ?_
        refine lv_aload_n hx hb dX1_share_45 rfl (lv_at hl 0 rfl) ?_
        refine gw_getN (C := RX7) (T := TX7) (N := 8) (ci := 6) (fs := xx_fs7 ad σ.1 k) (v := .int (σ.1.2 16 (7 * k + 1))) hx hb hT hH.1 (220 + k) (xx_share hk (show k < nS by omega)) rfl in_X7 2 (by decide) rfl (List.mem_of_getElem? (i := 13) rfl) rfl dX1_share_46 ?_
        exact xx_ri hx hb hr hlocks hT hH (fun _ _ _ => rfl) rfl dX1_share_49 (⟨k, hkk, rfl, rfl, Or.inl ⟨1, by decide, rfl, rfl⟩⟩) (Nat.le_of_ble_eq_true rfl) (Nat.le_of_ble_eq_true rfl)
      · subst c_7
        refine lv_tableIn (tgt := 50) (off := 43) hx hb dX1_share_7 (by decide) (by decide) rfl (by decide) ?_
        refine lv_aload_n hx hb dX1_share_50 rfl (lv_at hl 0 rfl) ?_
        refine gw_getN (C := RX7) (T := TX7) (N := 8) (ci := 6) (fs := xx_fs7 ad σ.1 k) (v := .int (σ.1.2 16 (7 * k + 2))) hx hb hT hH.1 (220 + k) (xx_share hk (show k < nS by omega)) rfl in_X7 3 (by decide) rfl (List.mem_of_getElem? (i := 14) rfl) rfl dX1_share_51 ?_
        exact xx_ri hx hb hr hlocks hT hH (fun _ _ _ => rfl) rfl dX1_share_54 (⟨k, hkk, rfl, rfl, Or.inl ⟨2, by decide, rfl, rfl⟩⟩) (Nat.le_of_ble_eq_true rfl) (Nat.le_of_ble_eq_true rfl)
      · subst c_7
        refine lv_tableIn (tgt := 55) (off := 48) hx hb dX1_share_7 (by decide) (by decide) rfl (by decide) ?_
        refine lv_aload_n hx hb dX1_share_55 rfl (lv_at hl 0 rfl) ?_
        refine gw_getN (C := RX7) (T := TX7) (N := 8) (ci := 6) (fs := xx_fs7 ad σ.1 k) (v := .int (σ.1.2 16 (7 * k + 3))) hx hb hT hH.1 (220 + k) (xx_share hk (show k < nS by omega)) rfl in_X7 4 (by decide) rfl (List.mem_of_getElem? (i := 15) rfl) rfl dX1_share_56 ?_
        exact xx_ri hx hb hr hlocks hT hH (fun _ _ _ => rfl) rfl dX1_share_59 (⟨k, hkk, rfl, rfl, Or.inl ⟨3, by decide, rfl, rfl⟩⟩) (Nat.le_of_ble_eq_true rfl) (Nat.le_of_ble_eq_true rfl)
      · subst c_7
        refine lv_tableIn (tgt := 60) (off := 53) hx hb dX1_share_7 (by decide) (by decide) rfl (by decide) ?_
        refine lv_aload_n hx hb dX1_share_60 rfl (lv_at hl 0 rfl) ?_
        refine lv_aload_n hx hb dX1_share_61 rfl (lv_at hl 1 rfl) ?_
        refine gw_get (C := RX1) (T := TX1) (N := 21) (ci := 1) (fs := xx_fs1 ad σ.1.1) (v := .int (σ.1.1 4)) hx hb hT hH.1 0 xx_0 rfl in_X1 18 (by decide) rfl q194 rfl dX1_share_62 ?_
        refine xr_V (n := 1) (220 + k) ((c_X7_isLet l σ hk k (by omega) (σ.1.1 4)) G ad wk) hx hb hml hT hH.1 hH.2.1 (xx_share hk (show k < nS by omega)) rfl (lw_V q276 q277 q278 q49 q279) (by decide +kernel) ⟨Nat.le_of_ble_eq_true rfl, Nat.le_of_ble_eq_true rfl⟩ rfl hl.1 rfl (Nat.le_of_ble_eq_true rfl) dX1_share_65 ⟨Nat.le_of_ble_eq_true rfl, Nat.le_of_ble_eq_true rfl⟩ (fun r_65 hp_65 => ?_)
        rcases hp_65 with ⟨rfl, h_65⟩ | ⟨rfl, h_65⟩
        · skip
          refine lv_if_eq (tgt := 75) hx hb dX1_share_68 (by decide) (fun c_68 => ?_) (fun c_68 => ?_)
          · skip
            exact absurd c_68 (by decide)
          · skip
            refine lv_iconst (v := 1) hx hb dX1_share_71 (by decide) ?_
            refine lv_goto (tgt := 76) hx hb dX1_share_72 (by decide) ?_
            exact xx_ri hx hb hr hlocks hT hH (fun _ _ _ => rfl) rfl dX1_share_76 (⟨k, hkk, rfl, rfl, Or.inr ⟨rfl, Or.inl ⟨rfl, h_65⟩⟩⟩) (Nat.le_of_ble_eq_true rfl) (Nat.le_of_ble_eq_true rfl)
        · skip
          refine lv_if_eq (tgt := 75) hx hb dX1_share_68 (by decide) (fun c_68 => ?_) (fun c_68 => ?_)
          · skip
            refine lv_iconst (v := 0) hx hb dX1_share_75 (by decide) ?_
            exact xx_ri hx hb hr hlocks hT hH (fun _ _ _ => rfl) rfl dX1_share_76 (⟨k, hkk, rfl, rfl, Or.inr ⟨rfl, Or.inr ⟨rfl, h_65⟩⟩⟩) (Nat.le_of_ble_eq_true rfl) (Nat.le_of_ble_eq_true rfl)
          · skip
            exact absurd c_68 (by decide)
  · skip
    exact xt_call (k := 1) (yy_V (n := 1) 0 (c_X1_shareAt0 l hfl σ hk v h_2 G A ad wk wv) hx hb hml hT hxc hA hH xx_0 rfl q610 (ex_code_of hT.2.1 q610) q609 qs8 q33 q607 (by decide +kernel) ⟨Nat.le_of_ble_eq_true rfl, Nat.le_of_ble_eq_true rfl⟩ rfl hl.1 rfl (Nat.le_of_ble_eq_true rfl) dX1_share_2 ⟨Nat.le_of_ble_eq_true rfl, Nat.le_of_ble_eq_true rfl⟩) hlocks hE (xx_tq hT hH (fun _ _ _ => rfl) (by decide) (⟨rfl, Or.inl ⟨rfl, h_2⟩⟩)) hH.2.2.2.2 (Nat.le_of_ble_eq_true rfl) (Nat.le_of_ble_eq_true rfl)

set_option maxHeartbeats 1000000 in
set_option maxRecDepth 100000 in
theorem c_X1_collapse (l : Launch) (hfl : l.flags = pinnedFlags ++ [noTraceFlag]) (σ : xS) {nC nS : Nat} {nW : Nat → Nat} (hk : xk σ nC nS nW) (v z x : Int32) (hx2 : x = 0 ∨ x = 1) : xx_C l yX1_collapse (Cond.code yX1_collapse cX1_collapse 6 (some .boolean)) 8 8 100 (fun ad => [.ref (ad 0), .int v, .int z, .int x]) σ (fun r u => ∃ k j, (k < nC ∧ j < nW k) ∧ nI k = v ∧ nI j = z ∧ ¬ σ.1.2 8 k = -1 ∧ xs_ar σ 15 (20 * k + j) x = u ∧ ((some (.int 1) = r ∧ ¬ σ.1.2 15 (20 * k + j) = x) ∨ (some (.int 0) = r ∧ σ.1.2 15 (20 * k + j) = x))) (fun q u => σ = u ∧ ((q = 1 ∧ (¬ ∃ k j, (k < nC ∧ j < nW k) ∧ nI k = v ∧ nI j = z)) ∨ ∃ k j, (k < nC ∧ j < nW k) ∧ nI k = v ∧ nI j = z ∧ q = 2 ∧ σ.1.2 8 k = -1)) := by
  refine xx_of (by decide) (fun ad => Nat.le_of_ble_eq_true rfl) ?_
  intro p e s m args below meth c G A ad wk wv ls X hE hH hl
  obtain ⟨hx, hb, hml, hT, hr, hlocks, hxc, hA⟩ := id X
  have hl : lv_has ls 6 [(0, .ref (ad 0)), (1, .int v), (2, .int z), (3, .int x)] := hl
  have h8 := hk.1.2
  refine lv_aload_n hx hb dX1_collapse_0 rfl (lv_at hl 0 rfl) ?_
  refine lv_iload_n hx hb dX1_collapse_1 rfl (lv_at hl 1 rfl) ?_
  by_cases h_2 : ∃ k, k < nC ∧ nI k = v
  · skip
    obtain ⟨k, hkk, rfl⟩ := h_2
    refine xr_Vr (n := 1) 0 ((c_X1_channelAt1 l σ hk k (by omega)) G ad wk) hx hb hml hT hH.1 hH.2.1 xx_0 rfl (lw_V q435 q437 qs4 q33 q438) (by decide +kernel) ⟨Nat.le_of_ble_eq_true rfl, Nat.le_of_ble_eq_true rfl⟩ rfl hl.1 rfl (Nat.le_of_ble_eq_true rfl) dX1_collapse_2 ⟨Nat.le_of_ble_eq_true rfl, Nat.le_of_ble_eq_true rfl⟩ ?_
    refine lv_astore (lv' := [(4, .ref (ad (40 + k))), (0, .ref (ad 0)), (1, .int (nI k)), (2, .int z), (3, .int x)]) hx hb dX1_collapse_5 hl (by decide) rfl (fun ls hl => ?_)
    have hwk := (hk.2.2.1 k (by omega)).2
    refine lv_iload_n hx hb dX1_collapse_7 rfl (lv_at hl 3 rfl) ?_
    refine lv_iconst (v := 0) hx hb dX1_collapse_8 (by decide) ?_
    refine lv_aload hx hb dX1_collapse_9 (lv_at hl 0 rfl) ?_
    refine gw_getN (C := RX5) (T := TX5) (N := 5) (ci := 4) (fs := xx_fs5 ad σ.1 k) (v := .int (σ.1.2 5 k)) hx hb hT hH.1 (40 + k) (xx_chan hk (show k < nC by omega)) rfl in_X5 1 (by decide) rfl (List.mem_of_getElem? (i := 4) rfl) rfl dX1_collapse_11 ?_
    refine lv_as ((hk.2.2.1 k (by omega)).1) ?_
    refine lv_iconst (v := 1) hx hb dX1_collapse_14 (by decide) ?_
    refine lv_isub hx hb dX1_collapse_15 ?_
    refine ss_ci (n := 3) (c_X1_isIn l z 0 ((nI (nW k)) - 1)) hx hb hml hT.1 hT.2.1 (lw_S q254 q255 q33 q256) (by decide +kernel) ⟨Nat.le_of_ble_eq_true rfl, Nat.le_of_ble_eq_true rfl⟩ rfl hl.1 rfl (Nat.le_of_ble_eq_true rfl) dX1_collapse_16 ⟨Nat.le_of_ble_eq_true rfl, Nat.le_of_ble_eq_true rfl⟩ (fun r_16 hp_16 => ?_)
    rcases hp_16 with ⟨rfl, h_16⟩ | ⟨rfl, h_16⟩
    · skip
      obtain ⟨j, hj, rfl⟩ := (in_rg (n := nW k) (by omega) z).mp h_16
      refine tk_cSv (n := 1) (c_X1_mustBe1 l) hx hb hml hT.1 hT.2.1 (fun a U g mk h => h) (fun U hU hW => trivial) (lw_S q439 q440 q33 q441) (by decide +kernel) ⟨Nat.le_of_ble_eq_true rfl, Nat.le_of_ble_eq_true rfl⟩ rfl hl.1 rfl (Nat.le_of_ble_eq_true rfl) dX1_collapse_19 ⟨Nat.le_of_ble_eq_true rfl, Nat.le_of_ble_eq_true rfl⟩ ?_
      refine lv_aload hx hb dX1_collapse_22 (lv_at hl 0 rfl) ?_
      refine xr_V (n := 0) (40 + k) ((c_X5_isDug l σ hk k (by omega)) G ad wk) hx hb hml hT hH.1 hH.2.1 (xx_chan hk (show k < nC by omega)) rfl (lw_V q280 q281 q282 q42 q283) (by decide +kernel) ⟨Nat.le_of_ble_eq_true rfl, Nat.le_of_ble_eq_true rfl⟩ rfl hl.1 rfl (Nat.le_of_ble_eq_true rfl) dX1_collapse_24 ⟨Nat.le_of_ble_eq_true rfl, Nat.le_of_ble_eq_true rfl⟩ (fun r_24 hp_24 => ?_)
      rcases hp_24 with ⟨rfl, h_24⟩ | ⟨rfl, h_24⟩
      · skip
        refine tk_cSv (n := 1) (c_X1_stands1 l) hx hb hml hT.1 hT.2.1 (fun a U g mk h => h) (fun U hU hW => trivial) (lw_S q457 q458 q33 q459) (by decide +kernel) ⟨Nat.le_of_ble_eq_true rfl, Nat.le_of_ble_eq_true rfl⟩ rfl hl.1 rfl (Nat.le_of_ble_eq_true rfl) dX1_collapse_27 ⟨Nat.le_of_ble_eq_true rfl, Nat.le_of_ble_eq_true rfl⟩ ?_
        refine lv_aload hx hb dX1_collapse_30 (lv_at hl 0 rfl) ?_
        refine gw_getN (C := RX5) (T := TX5) (N := 5) (ci := 4) (fs := xx_fs5 ad σ.1 k) (v := .ref (ad (50 + k))) hx hb hT hH.1 (40 + k) (xx_chan hk (show k < nC by omega)) rfl in_X5 0 (by decide) rfl (List.mem_of_getElem? (i := 3) rfl) rfl dX1_collapse_32 ?_
        refine lv_iload_n hx hb dX1_collapse_35 rfl (lv_at hl 3 rfl) ?_
        refine gw_aald (b := ad (60 + (20 * k + j))) hx hb hT hH.1 (50 + k) 5 (xx_wells hk (show k < nC by omega)) rfl j rfl (show j < 20 by omega) (by decide) (xx_wer hk (show k < nC by omega) (show j < nW k by omega)) dX1_collapse_36 ?_
        refine gw_getN (C := RX6) (T := TX6) (N := 4) (ci := 5) (fs := xx_fs6 σ.1 (20 * k + j)) (v := .int (σ.1.2 15 (20 * k + j))) hx hb hT hH.1 (60 + (20 * k + j)) (xx_well hk (show k < nC by omega) (show j < nW k by omega)) rfl in_X6 3 (by decide) rfl (List.mem_of_getElem? (i := 10) rfl) rfl dX1_collapse_37 ?_
        refine lv_istore (lv' := [(5, .int (σ.1.2 15 (20 * k + j))), (4, .ref (ad (40 + k))), (0, .ref (ad 0)), (1, .int (nI k)), (2, .int (nI j)), (3, .int x)]) hx hb dX1_collapse_40 hl (by decide) rfl (fun ls hl => ?_)
        refine lv_aload hx hb dX1_collapse_42 (lv_at hl 1 rfl) ?_
        refine gw_getN (C := RX5) (T := TX5) (N := 5) (ci := 4) (fs := xx_fs5 ad σ.1 k) (v := .ref (ad (50 + k))) hx hb hT hH.1 (40 + k) (xx_chan hk (show k < nC by omega)) rfl in_X5 0 (by decide) rfl (List.mem_of_getElem? (i := 3) rfl) rfl dX1_collapse_44 ?_
        refine lv_iload_n hx hb dX1_collapse_47 rfl (lv_at hl 4 rfl) ?_
        refine gw_aald (b := ad (60 + (20 * k + j))) hx hb hT hH.1 (50 + k) 5 (xx_wells hk (show k < nC by omega)) rfl j rfl (show j < 20 by omega) (by decide) (xx_wer hk (show k < nC by omega) (show j < nW k by omega)) dX1_collapse_48 ?_
        refine lv_iload_n hx hb dX1_collapse_49 rfl (lv_at hl 5 rfl) ?_
        refine gw_putN (C := RX6) (T := TX6) (N := 4) (ci := 5) (fs := xx_fs6 σ.1 (20 * k + j)) (v := .int x) hx hb hT hH (60 + (20 * k + j)) (xx_well hk (show k < nC by omega) (show j < nW k by omega)) rfl in_X6 tyX6 tyX6_ok nmX6 3 (by decide) rfl rfl (List.mem_of_getElem? (i := 10) rfl) (by rcases hx2 with h | h <;> subst h <;> rfl) (by rcases hx2 with h | h <;> subst h <;> rfl) (Nat.le_of_ble_eq_true rfl) dX1_collapse_50 (fun H locs hH => ?_)
        rw [xx_up6 hk (show k < nC by omega) (show j < nW k by omega) x] at hH
        have hk := hk.ar (k := 15) (n := 20 * k + j) x (by decide) (by decide)
        refine lv_iload hx hb dX1_collapse_53 (lv_at hl 0 rfl) ?_
        refine lv_iload_n hx hb dX1_collapse_55 rfl (lv_at hl 5 rfl) ?_
        refine lv_icmp_eq (tgt := 63) hx hb dX1_collapse_56 (by decide) (fun c_56 => ?_) (fun c_56 => ?_)
        · skip
          refine lv_iconst (v := 0) hx hb dX1_collapse_63 (by decide) ?_
          exact xx_ri hx hb hr hlocks hT hH (fun _ _ _ => rfl) rfl dX1_collapse_64 (⟨k, j, ⟨hkk, hj⟩, rfl, rfl, h_24, rfl, Or.inr ⟨rfl, c_56⟩⟩) (Nat.le_of_ble_eq_true rfl) (Nat.le_of_ble_eq_true rfl)
        · skip
          refine lv_iconst (v := 1) hx hb dX1_collapse_59 (by decide) ?_
          refine lv_goto (tgt := 64) hx hb dX1_collapse_60 (by decide) ?_
          exact xx_ri hx hb hr hlocks hT hH (fun _ _ _ => rfl) rfl dX1_collapse_64 (⟨k, j, ⟨hkk, hj⟩, rfl, rfl, h_24, rfl, Or.inl ⟨rfl, c_56⟩⟩) (Nat.le_of_ble_eq_true rfl) (Nat.le_of_ble_eq_true rfl)
      · skip
        exact xt_call (k := 2) (yy_S (n := 1) (c_X1_stands0 l hfl σ G A ad wk wv) hx hb hml hT hxc hA hH q459 (ex_code_of hT.2.1 q459) (ex_named (hT.2.1 _ q459)) q458 q33 q457 (by decide +kernel) ⟨Nat.le_of_ble_eq_true rfl, Nat.le_of_ble_eq_true rfl⟩ rfl hl.1 rfl (Nat.le_of_ble_eq_true rfl) dX1_collapse_27 ⟨Nat.le_of_ble_eq_true rfl, Nat.le_of_ble_eq_true rfl⟩) hlocks hE (xx_tq hT hH (fun _ _ _ => rfl) (by decide) (⟨rfl, Or.inr ⟨k, j, ⟨hkk, hj⟩, rfl, rfl, rfl, h_24⟩⟩)) hH.2.2.2.2 (Nat.le_of_ble_eq_true rfl) (Nat.le_of_ble_eq_true rfl)
    · skip
      exact xt_call (k := 1) (yy_S (n := 1) (c_X1_mustBe0 l hfl σ G A ad wk wv) hx hb hml hT hxc hA hH q441 (ex_code_of hT.2.1 q441) (ex_named (hT.2.1 _ q441)) q440 q33 q439 (by decide +kernel) ⟨Nat.le_of_ble_eq_true rfl, Nat.le_of_ble_eq_true rfl⟩ rfl hl.1 rfl (Nat.le_of_ble_eq_true rfl) dX1_collapse_19 ⟨Nat.le_of_ble_eq_true rfl, Nat.le_of_ble_eq_true rfl⟩) hlocks hE (xx_tq hT hH (fun _ _ _ => rfl) (by decide) (⟨rfl, Or.inl ⟨rfl, fun ⟨k2, j, h1, h2, h3⟩ => h_16 ((in_rg (n := nW k) (by omega) z).mpr ⟨j, (by rw [(nI_eq (by omega) (by omega)).mp h2] at h1; exact h1.2), h3⟩)⟩⟩)) hH.2.2.2.2 (Nat.le_of_ble_eq_true rfl) (Nat.le_of_ble_eq_true rfl)
  · skip
    exact xt_call (k := 1) (yy_V (n := 1) 0 (c_X1_channelAt0 l hfl σ hk v h_2 G A ad wk wv) hx hb hml hT hxc hA hH xx_0 rfl q438 (ex_code_of hT.2.1 q438) q437 qs4 q33 q435 (by decide +kernel) ⟨Nat.le_of_ble_eq_true rfl, Nat.le_of_ble_eq_true rfl⟩ rfl hl.1 rfl (Nat.le_of_ble_eq_true rfl) dX1_collapse_2 ⟨Nat.le_of_ble_eq_true rfl, Nat.le_of_ble_eq_true rfl⟩) hlocks hE (xx_tq hT hH (fun _ _ _ => rfl) (by decide) (⟨rfl, Or.inl ⟨rfl, fun ⟨k, j, h1, h2, h3⟩ => h_2 ⟨k, h1.1, h2⟩⟩⟩)) hH.2.2.2.2 (Nat.le_of_ble_eq_true rfl) (Nat.le_of_ble_eq_true rfl)

def xFed (σ : xS) (t : Nat) (f : Nat → Int32) : Nat → xS
  | 0 => σ
  | n + 1 => xs_ar (xFed σ t f n) 23 (t + n) (f n)
theorem xFed_1 (σ : xS) (t : Nat) (f : Nat → Int32) : ∀ n, (xFed σ t f n).1 = pFed σ.1 t f n
  | 0 => rfl
  | n + 1 => by
    show mm_ar (xFed σ t f n).1 23 (t + n) (f n) = mm_ar (pFed σ.1 t f n) 23 (t + n) (f n)
    rw [xFed_1 σ t f n]

theorem xFed_24 (σ : xS) (t : Nat) (f : Nat → Int32) : ∀ n, (xFed σ t f n).1.1 = σ.1.1
  | 0 => rfl
  | n + 1 => xFed_24 σ t f n
theorem xs_st_st (σ : xS) (k : Nat) (v w : Int32) : xs_st (xs_st σ k v) k w = xs_st σ k w := by
  unfold xs_st
  rw [mm_st_st]
theorem xs_st_ar (σ : xS) (k n : Nat) (v : Int32) (j : Nat) (w : Int32) : xs_ar (xs_st σ j w) k n v = xs_st (xs_ar σ k n v) j w := rfl
theorem xs_st_id {σ : xS} {k : Nat} {v : Int32} (h : σ.1.1 k = v) : xs_st σ k v = σ := by
  unfold xs_st
  rw [mm_st_id h]
theorem four_k : ∀ i, i < 4 → (nI (24 - 8 * i) + (-8) : Int32) = (if i = 3 then -8 else nI (24 - 8 * (i + 1))) := by decide +kernel

set_option maxHeartbeats 1000000 in
set_option maxRecDepth 100000 in
theorem lp_X1_four {p : Program} {l : Launch} {e : Env} {s : State} {m : MethodId} {args : Array Value} {below : List Frame} {meth : Method} {c : Code} {Q : State → Prop} {G : gw_G} {A : Nat → Prop} {ad wk wv : Nat → Nat} (σ : xS) (v : Int32) {nT : Nat} (hT4 : nT + 20 ≤ 400 + 16) (X : gx_Y RX1 cX1_four 3 none G A wk wv p s m args meth c)  (K : (∀ (H : Heap) (locs : List Loc) (ls : Array Slot), xx_H G A s.heap H locs ad wk (xs_st (xFed σ nT (fun j => pByt v j) 4) 24 (nI (nT + 4))) → lv_has ls 3 [(2, .int (-8)), (0, .ref (ad 0))] → W p l e (xx_rm 1 0 0) s m args below meth c H locs 0 0 Q (F0 m 3 ls []))) : ∀ (n : Nat) (i : Nat), 4 < i + n + 1 → i < 4 → ∀ (H : Heap) (locs : List Loc) (ls : Array Slot), xx_H G A s.heap H locs ad wk (xs_st (xFed σ nT (fun j => pByt v j) i) 24 (nI (nT + i))) → lv_has ls 3 [(0, .ref (ad 0)), (1, .int v), (2, .int (nI (24 - 8 * i)))] → W p l e (xx_rm 1 0 0) s m args below meth c H locs 0 0 Q (F0 m 3 ls []) := by
  obtain ⟨hx, hb, hml, hT, hr, hlocks, hxc, hA⟩ := id X
  intro n
  induction n with
  | zero =>
    intro i h0 hi
    exact absurd h0 (by omega)
  | succ n ih =>
    intro i h0 hi H locs ls hH hl
    refine lv_iload_n hx hb dX1_four_3 rfl (lv_at hl 2 rfl) ?_
    refine lv_if_lt (tgt := 45) hx hb dX1_four_4 (by decide) (fun c_4 => ?_) (fun c_4 => ?_)
    · skip
      exact absurd c_4 (nI_pos (by omega))
    · skip
      have c_4 : ¬ ((24 - 8 * i) < 0) := fun h => c_4 ((nI_ltI (a := (24 - 8 * i)) (b := 0) (by omega) (by omega)).mpr h)
      refine lv_aload_n hx hb dX1_four_7 rfl (lv_at hl 0 rfl) ?_
      refine gw_get (C := RX1) (T := TX1) (N := 21) (ci := 1) (fs := xx_fs1 ad (xs_st (xFed σ nT (fun j => pByt v j) i) 24 (nI (nT + i))).1.1) (v := .ref (ad 1)) hx hb hT hH.1 0 xx_0 rfl in_X1 0 (by decide) rfl q176 rfl dX1_four_8 ?_
      refine gw_getN (C := RX2) (T := TX2) (N := 6) (ci := 2) (fs := xx_fs2 ad (xs_st (xFed σ nT (fun j => pByt v j) i) 24 (nI (nT + i))).1.1) (v := .ref (ad 23)) hx hb hT hH.1 1 xx_1 rfl in_X2 0 (by decide) rfl (List.mem_of_getElem? (i := 1) rfl) rfl dX1_four_11 ?_
      refine lv_aload_n hx hb dX1_four_14 rfl (lv_at hl 0 rfl) ?_
      refine gw_get (C := RX1) (T := TX1) (N := 21) (ci := 1) (fs := xx_fs1 ad (xs_st (xFed σ nT (fun j => pByt v j) i) 24 (nI (nT + i))).1.1) (v := .ref (ad 1)) hx hb hT hH.1 0 xx_0 rfl in_X1 0 (by decide) rfl q176 rfl dX1_four_15 ?_
      refine gw_getN (C := RX2) (T := TX2) (N := 6) (ci := 2) (fs := xx_fs2 ad (xs_st (xFed σ nT (fun j => pByt v j) i) 24 (nI (nT + i))).1.1) (v := .int ((xs_st (xFed σ nT (fun j => pByt v j) i) 24 (nI (nT + i))).1.1 24)) hx hb hT hH.1 1 xx_1 rfl in_X2 3 (by decide) rfl (List.mem_of_getElem? (i := 2) rfl) rfl dX1_four_18 ?_
      refine lv_as rfl ?_
      refine lv_iload_n hx hb dX1_four_21 rfl (lv_at hl 1 rfl) ?_
      refine lv_iload_n hx hb dX1_four_22 rfl (lv_at hl 2 rfl) ?_
      refine lv_ishr hx hb dX1_four_23 ?_
      refine lv_i2b (v := (v >>> ((nI (24 - 8 * i)) &&& 31)).toInt8.toInt32) hx hb dX1_four_24 rfl ?_
      refine xx_bst (z := pByt v i) hx hb hT hH (nT + i) rfl (show nT + i < 400 by omega) (pk_vb _) dX1_four_25 (fun H locs hH => ?_)
      refine lv_aload_n hx hb dX1_four_26 rfl (lv_at hl 0 rfl) ?_
      refine gw_get (C := RX1) (T := TX1) (N := 21) (ci := 1) (fs := xx_fs1 ad (xs_ar (xs_st (xFed σ nT (fun j => pByt v j) i) 24 (nI (nT + i))) 23 (nT + i) (pByt v i)).1.1) (v := .ref (ad 1)) hx hb hT hH.1 0 xx_0 rfl in_X1 0 (by decide) rfl q176 rfl dX1_four_27 ?_
      refine lv_dup hx hb dX1_four_30 rfl ?_
      refine gw_getN (C := RX2) (T := TX2) (N := 6) (ci := 2) (fs := xx_fs2 ad (xs_ar (xs_st (xFed σ nT (fun j => pByt v j) i) 24 (nI (nT + i))) 23 (nT + i) (pByt v i)).1.1) (v := .int ((xs_st (xFed σ nT (fun j => pByt v j) i) 24 (nI (nT + i))).1.1 24)) hx hb hT hH.1 1 xx_1 rfl in_X2 3 (by decide) rfl (List.mem_of_getElem? (i := 2) rfl) rfl dX1_four_31 ?_
      refine lv_as rfl ?_
      refine lv_iconst (v := 1) hx hb dX1_four_34 (by decide) ?_
      refine lv_iadd hx hb dX1_four_35 ?_
      refine lv_as (nI_add (nT + i) 1) ?_
      refine gw_putN (C := RX2) (T := TX2) (N := 6) (ci := 2) (fs := xx_fs2 ad (xs_ar (xs_st (xFed σ nT (fun j => pByt v j) i) 24 (nI (nT + i))) 23 (nT + i) (pByt v i)).1.1) (v := .int (nI ((nT + i) + 1))) hx hb hT hH 1 xx_1 rfl in_X2 tyX2 tyX2_ok nmX2 3 (by decide) rfl rfl (List.mem_of_getElem? (i := 2) rfl) rfl rfl (Nat.le_of_ble_eq_true rfl) dX1_four_36 (fun H locs hH => ?_)
      rw [xx_up2 (k := 3) (j := 24) (by decide) (nI ((nT + i) + 1))] at hH
      refine lv_iinc (v := (nI (24 - 8 * i)) + (-8)) (lv' := [(2, .int ((nI (24 - 8 * i)) + (-8))), (0, .ref (ad 0)), (1, .int v)]) hx hb dX1_four_39 hl (k := 2) rfl rfl (by decide) rfl (fun ls hl => ?_)
      refine lv_goto (tgt := 3) hx hb dX1_four_42 (by decide) ?_
      have e3 := four_k i (by omega)
      rw [xs_st_ar, xs_st_st] at hH
      by_cases h3 : i = 3
      · subst h3
        exact K _ _ _ hH (lv_sub hl [0, 1] rfl)
      · rw [if_neg h3] at e3
        have hl := lv_sub (l' := [(0, .ref (ad 0)), (1, .int v), (2, .int (nI (24 - 8 * i) + (-8)))]) hl [1, 2, 0] rfl
        rw [e3] at hl
        exact ih (i + 1) (by omega) (by omega) _ _ _ hH hl

set_option maxHeartbeats 1000000 in
set_option maxRecDepth 100000 in
theorem c_X1_four (l : Launch) (σ : xS) (v : Int32) {nT : Nat} (h24 : σ.1.1 24 = nI nT) (hT4 : nT + 4 ≤ 400) : xz_C l yX1_four (Cond.code yX1_four cX1_four 3 none) 1 0 0 (fun ad => [.ref (ad 0), .int v]) σ (fun r u => none = r ∧ xs_st (xFed σ nT (fun j => pByt v j) 4) 24 (nI (nT + 4)) = u) (fun _ _ => False) := by
  refine xz_of (by decide) (fun ad => Nat.le_of_ble_eq_true rfl) ?_
  intro p e s m args below meth c G A ad wk wv ls X hE hH hl
  obtain ⟨hx, hb, hml, hT, hr, hlocks, hxc, hA⟩ := id X
  have hl : lv_has ls 3 [(0, .ref (ad 0)), (1, .int v)] := hl
  refine lv_bipush (v := 24) hx hb dX1_four_0 (by decide) ?_
  refine lv_istore_n (lv' := [(2, .int 24), (0, .ref (ad 0)), (1, .int v)]) hx hb dX1_four_2 rfl hl (by decide) rfl (fun ls hl => ?_)
  have hH : xx_H G A s.heap s.heap [] ad wk (xs_st (xFed σ nT (fun j => pByt v j) 0) 24 (nI (nT + 0))) := by rw [xs_st_id (show (xFed σ nT (fun j => pByt v j) 0).1.1 24 = nI (nT + 0) from h24)]; exact hH
  refine lp_X1_four σ v (nT := nT) (by omega) X ?_ 4 0 (by omega) (by omega) _ _ _ hH (lv_sub hl [1, 2, 0] rfl)
  intro H locs ls hH hl
  refine lv_iload_n hx hb dX1_four_3 rfl (lv_at hl 0 rfl) ?_
  refine lv_if_lt (tgt := 45) hx hb dX1_four_4 (by decide) (fun c_4 => ?_) (fun c_4 => ?_)
  · skip
    exact xz_rv hx hb hr hlocks hT hH dX1_four_45 (⟨rfl, rfl⟩) (Nat.le_of_ble_eq_true rfl) (Nat.le_of_ble_eq_true rfl)
  · skip
    exact absurd c_4 (by decide)

set_option maxHeartbeats 1000000 in
set_option maxRecDepth 100000 in
theorem c_X1_feed (l : Launch) (σ : xS) (a b c1 d e1 : Int32) {nT : Nat} (h24 : σ.1.1 24 = nI nT) (hT4 : nT ≤ 400) : xx_C l yX1_feed (Cond.code yX1_feed cX1_feed 6 (some .int)) 2 0 0 (fun ad => [.ref (ad 0), .int a, .int b, .int c1, .int d, .int e1]) σ (fun r u => (nT + 20 ≤ 400 ∧ xs_st (xFed (xs_st (xFed (xs_st (xFed (xs_st (xFed (xs_st (xFed σ (nT + 0) (fun j => pByt a j) 4) 24 (nI (nT + 0 + 4))) (nT + 4) (fun j => pByt b j) 4) 24 (nI (nT + 4 + 4))) (nT + 8) (fun j => pByt c1 j) 4) 24 (nI (nT + 8 + 4))) (nT + 12) (fun j => pByt d j) 4) 24 (nI (nT + 12 + 4))) (nT + 16) (fun j => pByt e1 j) 4) 24 (nI (nT + 16 + 4)) = u ∧ some (.int (nI (nT + 20))) = r) ∨ (400 < nT + 20 ∧ σ = u ∧ some (.int (-1)) = r)) (fun _ _ => False) := by
  refine xx_of (by decide) (fun ad => Nat.le_of_ble_eq_true rfl) ?_
  intro p e s m args below meth c G A ad wk wv ls X hE hH hl
  obtain ⟨hx, hb, hml, hT, hr, hlocks, hxc, hA⟩ := id X
  have hl : lv_has ls 6 [(0, .ref (ad 0)), (1, .int a), (2, .int b), (3, .int c1), (4, .int d), (5, .int e1)] := hl
  refine lv_aload_n hx hb dX1_feed_0 rfl (lv_at hl 0 rfl) ?_
  refine gw_get (C := RX1) (T := TX1) (N := 21) (ci := 1) (fs := xx_fs1 ad σ.1.1) (v := .ref (ad 1)) hx hb hT hH.1 0 xx_0 rfl in_X1 0 (by decide) rfl q176 rfl dX1_feed_1 ?_
  refine gw_getN (C := RX2) (T := TX2) (N := 6) (ci := 2) (fs := xx_fs2 ad σ.1.1) (v := .int (σ.1.1 24)) hx hb hT hH.1 1 xx_1 rfl in_X2 3 (by decide) rfl (List.mem_of_getElem? (i := 2) rfl) rfl dX1_feed_4 ?_
  refine lv_as h24 ?_
  refine lv_bipush (v := 20) hx hb dX1_feed_7 (by decide) ?_
  refine lv_iadd hx hb dX1_feed_9 ?_
  refine lv_as (nI_add nT 20) ?_
  refine lv_sipush (v := 400) hx hb dX1_feed_10 (by decide) ?_
  refine lv_icmp_le (tgt := 18) hx hb dX1_feed_13 (by decide) (fun c_13 => ?_) (fun c_13 => ?_)
  · skip
    have c_13 : (nT + 20) ≤ 400 := (nI_leI (a := (nT + 20)) (b := 400) (by omega) (by omega)).mp c_13
    refine lv_aload_n hx hb dX1_feed_18 rfl (lv_at hl 0 rfl) ?_
    refine lv_iload_n hx hb dX1_feed_19 rfl (lv_at hl 1 rfl) ?_
    refine xz_call (yy_V (n := 1) 0 (c_X1_four l σ a (nT := nT + 0) h24 (by omega) G A ad wk wv) hx hb hml hT hxc hA hH xx_0 rfl q249 (ex_code_of hT.2.1 q249) q248 qs1 q33 q246 (by decide +kernel) ⟨Nat.le_of_ble_eq_true rfl, Nat.le_of_ble_eq_true rfl⟩ rfl hl.1 rfl (Nat.le_of_ble_eq_true rfl) dX1_feed_20 ⟨Nat.le_of_ble_eq_true rfl, Nat.le_of_ble_eq_true rfl⟩) hH (fun v_20 u_20 H locs hH hp_20 => ?_) (fun a_20 k_20 u_20 H locs hH hp_20 hI_20 h6_20 => ?_)
    rotate_left
    · exact hp_20.elim
    obtain ⟨rfl, rfl⟩ := hp_20
    refine lv_aload_n hx hb dX1_feed_23 rfl (lv_at hl 0 rfl) ?_
    refine lv_iload_n hx hb dX1_feed_24 rfl (lv_at hl 2 rfl) ?_
    refine xz_call (yy_V (n := 1) 0 (c_X1_four l (xs_st (xFed σ (nT + 0) (fun j => pByt a j) 4) 24 (nI (nT + 0 + 4))) b (nT := nT + 4) rfl (by omega) G A ad wk wv) hx hb hml hT hxc hA hH xx_0 rfl q249 (ex_code_of hT.2.1 q249) q248 qs1 q33 q246 (by decide +kernel) ⟨Nat.le_of_ble_eq_true rfl, Nat.le_of_ble_eq_true rfl⟩ rfl hl.1 rfl (Nat.le_of_ble_eq_true rfl) dX1_feed_25 ⟨Nat.le_of_ble_eq_true rfl, Nat.le_of_ble_eq_true rfl⟩) hH (fun v_25 u_25 H locs hH hp_25 => ?_) (fun a_25 k_25 u_25 H locs hH hp_25 hI_25 h6_25 => ?_)
    rotate_left
    · exact hp_25.elim
    obtain ⟨rfl, rfl⟩ := hp_25
    refine lv_aload_n hx hb dX1_feed_28 rfl (lv_at hl 0 rfl) ?_
    refine lv_iload_n hx hb dX1_feed_29 rfl (lv_at hl 3 rfl) ?_
    refine xz_call (yy_V (n := 1) 0 (c_X1_four l (xs_st (xFed (xs_st (xFed σ (nT + 0) (fun j => pByt a j) 4) 24 (nI (nT + 0 + 4))) (nT + 4) (fun j => pByt b j) 4) 24 (nI (nT + 4 + 4))) c1 (nT := nT + 8) rfl (by omega) G A ad wk wv) hx hb hml hT hxc hA hH xx_0 rfl q249 (ex_code_of hT.2.1 q249) q248 qs1 q33 q246 (by decide +kernel) ⟨Nat.le_of_ble_eq_true rfl, Nat.le_of_ble_eq_true rfl⟩ rfl hl.1 rfl (Nat.le_of_ble_eq_true rfl) dX1_feed_30 ⟨Nat.le_of_ble_eq_true rfl, Nat.le_of_ble_eq_true rfl⟩) hH (fun v_30 u_30 H locs hH hp_30 => ?_) (fun a_30 k_30 u_30 H locs hH hp_30 hI_30 h6_30 => ?_)
    rotate_left
    · exact hp_30.elim
    obtain ⟨rfl, rfl⟩ := hp_30
    refine lv_aload_n hx hb dX1_feed_33 rfl (lv_at hl 0 rfl) ?_
    refine lv_iload hx hb dX1_feed_34 (lv_at hl 4 rfl) ?_
    refine xz_call (yy_V (n := 1) 0 (c_X1_four l (xs_st (xFed (xs_st (xFed (xs_st (xFed σ (nT + 0) (fun j => pByt a j) 4) 24 (nI (nT + 0 + 4))) (nT + 4) (fun j => pByt b j) 4) 24 (nI (nT + 4 + 4))) (nT + 8) (fun j => pByt c1 j) 4) 24 (nI (nT + 8 + 4))) d (nT := nT + 12) rfl (by omega) G A ad wk wv) hx hb hml hT hxc hA hH xx_0 rfl q249 (ex_code_of hT.2.1 q249) q248 qs1 q33 q246 (by decide +kernel) ⟨Nat.le_of_ble_eq_true rfl, Nat.le_of_ble_eq_true rfl⟩ rfl hl.1 rfl (Nat.le_of_ble_eq_true rfl) dX1_feed_36 ⟨Nat.le_of_ble_eq_true rfl, Nat.le_of_ble_eq_true rfl⟩) hH (fun v_36 u_36 H locs hH hp_36 => ?_) (fun a_36 k_36 u_36 H locs hH hp_36 hI_36 h6_36 => ?_)
    rotate_left
    · exact hp_36.elim
    obtain ⟨rfl, rfl⟩ := hp_36
    refine lv_aload_n hx hb dX1_feed_39 rfl (lv_at hl 0 rfl) ?_
    refine lv_iload hx hb dX1_feed_40 (lv_at hl 5 rfl) ?_
    refine xz_call (yy_V (n := 1) 0 (c_X1_four l (xs_st (xFed (xs_st (xFed (xs_st (xFed (xs_st (xFed σ (nT + 0) (fun j => pByt a j) 4) 24 (nI (nT + 0 + 4))) (nT + 4) (fun j => pByt b j) 4) 24 (nI (nT + 4 + 4))) (nT + 8) (fun j => pByt c1 j) 4) 24 (nI (nT + 8 + 4))) (nT + 12) (fun j => pByt d j) 4) 24 (nI (nT + 12 + 4))) e1 (nT := nT + 16) rfl (by omega) G A ad wk wv) hx hb hml hT hxc hA hH xx_0 rfl q249 (ex_code_of hT.2.1 q249) q248 qs1 q33 q246 (by decide +kernel) ⟨Nat.le_of_ble_eq_true rfl, Nat.le_of_ble_eq_true rfl⟩ rfl hl.1 rfl (Nat.le_of_ble_eq_true rfl) dX1_feed_42 ⟨Nat.le_of_ble_eq_true rfl, Nat.le_of_ble_eq_true rfl⟩) hH (fun v_42 u_42 H locs hH hp_42 => ?_) (fun a_42 k_42 u_42 H locs hH hp_42 hI_42 h6_42 => ?_)
    rotate_left
    · exact hp_42.elim
    obtain ⟨rfl, rfl⟩ := hp_42
    refine lv_aload_n hx hb dX1_feed_45 rfl (lv_at hl 0 rfl) ?_
    refine gw_get (C := RX1) (T := TX1) (N := 21) (ci := 1) (fs := xx_fs1 ad (xs_st (xFed (xs_st (xFed (xs_st (xFed (xs_st (xFed (xs_st (xFed σ (nT + 0) (fun j => pByt a j) 4) 24 (nI (nT + 0 + 4))) (nT + 4) (fun j => pByt b j) 4) 24 (nI (nT + 4 + 4))) (nT + 8) (fun j => pByt c1 j) 4) 24 (nI (nT + 8 + 4))) (nT + 12) (fun j => pByt d j) 4) 24 (nI (nT + 12 + 4))) (nT + 16) (fun j => pByt e1 j) 4) 24 (nI (nT + 16 + 4))).1.1) (v := .ref (ad 1)) hx hb hT hH.1 0 xx_0 rfl in_X1 0 (by decide) rfl q176 rfl dX1_feed_46 ?_
    refine gw_getN (C := RX2) (T := TX2) (N := 6) (ci := 2) (fs := xx_fs2 ad (xs_st (xFed (xs_st (xFed (xs_st (xFed (xs_st (xFed (xs_st (xFed σ (nT + 0) (fun j => pByt a j) 4) 24 (nI (nT + 0 + 4))) (nT + 4) (fun j => pByt b j) 4) 24 (nI (nT + 4 + 4))) (nT + 8) (fun j => pByt c1 j) 4) 24 (nI (nT + 8 + 4))) (nT + 12) (fun j => pByt d j) 4) 24 (nI (nT + 12 + 4))) (nT + 16) (fun j => pByt e1 j) 4) 24 (nI (nT + 16 + 4))).1.1) (v := .int ((xs_st (xFed (xs_st (xFed (xs_st (xFed (xs_st (xFed (xs_st (xFed σ (nT + 0) (fun j => pByt a j) 4) 24 (nI (nT + 0 + 4))) (nT + 4) (fun j => pByt b j) 4) 24 (nI (nT + 4 + 4))) (nT + 8) (fun j => pByt c1 j) 4) 24 (nI (nT + 8 + 4))) (nT + 12) (fun j => pByt d j) 4) 24 (nI (nT + 12 + 4))) (nT + 16) (fun j => pByt e1 j) 4) 24 (nI (nT + 16 + 4))).1.1 24)) hx hb hT hH.1 1 xx_1 rfl in_X2 3 (by decide) rfl (List.mem_of_getElem? (i := 2) rfl) rfl dX1_feed_49 ?_
    refine lv_as rfl ?_
    exact xx_ri hx hb hr hlocks hT hH (fun _ _ _ => rfl) rfl dX1_feed_52 (Or.inl ⟨by omega, rfl, rfl⟩) (Nat.le_of_ble_eq_true rfl) (Nat.le_of_ble_eq_true rfl)
  · skip
    have c_13 : ¬ ((nT + 20) ≤ 400) := fun h => c_13 ((nI_leI (a := (nT + 20)) (b := 400) (by omega) (by omega)).mpr h)
    refine lv_iconst (v := (-1)) hx hb dX1_feed_16 (by decide) ?_
    exact xx_ri hx hb hr hlocks hT hH (fun _ _ _ => rfl) rfl dX1_feed_17 (Or.inr ⟨by omega, rfl, rfl⟩) (Nat.le_of_ble_eq_true rfl) (Nat.le_of_ble_eq_true rfl)
