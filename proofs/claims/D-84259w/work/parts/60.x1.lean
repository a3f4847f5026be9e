set_option maxHeartbeats 1000000 in
set_option maxRecDepth 100000 in
theorem c_X1_isIn (l : Launch) (v a b : Int32) : ss_Ci l yX1_isIn cX1_isIn 3 (some .boolean) 1 [.int v, .int a, .int b] (fun r => (1 = r ∧ (a ≤ v ∧ v ≤ b)) ∨ (0 = r ∧ ¬ (a ≤ v ∧ v ≤ b))) := by
  refine ss_ofi (by decide) (Nat.le_of_ble_eq_true rfl) ?_
  intro p e s m args below meth c ls X hl
  obtain ⟨hx, hb, hml, ho, hts, hr, hlocks⟩ := X
  have hl : lv_has ls 3 [(0, .int v), (1, .int a), (2, .int b)] := hl
  refine lv_iload_n hx hb dX1_isIn_0 rfl (lv_at hl 0 rfl) ?_
  refine lv_iload_n hx hb dX1_isIn_1 rfl (lv_at hl 1 rfl) ?_
  refine lv_icmp_lt (tgt := 14) hx hb dX1_isIn_2 (by decide) (fun c_2 => ?_) (fun c_2 => ?_)
  · skip
    refine lv_iconst (v := 0) hx hb dX1_isIn_14 (by decide) ?_
    exact ss_ri hx hb hr hlocks rfl dX1_isIn_15 (Or.inr ⟨rfl, fun h => absurd h.1 (Int32.not_le.mpr c_2)⟩)
  · skip
    refine lv_iload_n hx hb dX1_isIn_5 rfl (lv_at hl 0 rfl) ?_
    refine lv_iload_n hx hb dX1_isIn_6 rfl (lv_at hl 2 rfl) ?_
    refine lv_icmp_gt (tgt := 14) hx hb dX1_isIn_7 (by decide) (fun c_7 => ?_) (fun c_7 => ?_)
    · skip
      refine lv_iconst (v := 0) hx hb dX1_isIn_14 (by decide) ?_
      exact ss_ri hx hb hr hlocks rfl dX1_isIn_15 (Or.inr ⟨rfl, fun h => absurd h.2 (Int32.not_le.mpr c_7)⟩)
    · skip
      refine lv_iconst (v := 1) hx hb dX1_isIn_10 (by decide) ?_
      refine lv_goto (tgt := 15) hx hb dX1_isIn_11 (by decide) ?_
      exact ss_ri hx hb hr hlocks rfl dX1_isIn_15 (Or.inl ⟨rfl, in_ge c_2, in_ge c_7⟩)

set_option maxHeartbeats 1000000 in
set_option maxRecDepth 100000 in
theorem c_X1_isOwner (l : Launch) (v : Int32) : ss_Ci l yX1_isOwner cX1_isOwner 1 (some .boolean) 2 [.int v] (fun r => (1 = r ∧ (0 ≤ v ∧ v ≤ 30)) ∨ (0 = r ∧ ¬ (0 ≤ v ∧ v ≤ 30))) := by
  refine ss_ofi (by decide) (Nat.le_of_ble_eq_true rfl) ?_
  intro p e s m args below meth c ls X hl
  obtain ⟨hx, hb, hml, ho, hts, hr, hlocks⟩ := X
  have hl : lv_has ls 1 [(0, .int v)] := hl
  refine lv_iload_n hx hb dX1_isOwner_0 rfl (lv_at hl 0 rfl) ?_
  refine lv_iconst (v := 0) hx hb dX1_isOwner_1 (by decide) ?_
  refine lv_bipush (v := 30) hx hb dX1_isOwner_2 (by decide) ?_
  refine ss_ci (n := 3) (c_X1_isIn l v 0 30) hx hb hml ho hts (lw_S q254 q255 q33 q256) (by decide +kernel) ⟨Nat.le_of_ble_eq_true rfl, Nat.le_of_ble_eq_true rfl⟩ rfl hl.1 rfl (Nat.le_of_ble_eq_true rfl) dX1_isOwner_4 ⟨Nat.le_refl _, Nat.le_refl _⟩ (fun r_4 hp_4 => ?_)
  rcases hp_4 with ⟨rfl, h_4⟩ | ⟨rfl, h_4⟩
  · skip
    exact ss_ri hx hb hr hlocks rfl dX1_isOwner_7 (Or.inl ⟨rfl, h_4⟩)
  · skip
    exact ss_ri hx hb hr hlocks rfl dX1_isOwner_7 (Or.inr ⟨rfl, h_4⟩)

set_option maxHeartbeats 1000000 in
set_option maxRecDepth 100000 in
theorem c_X1_must1 (l : Launch) : tk_Cv l yX1_must cX1_must 1 1 [.int 1] (fun _ => True) := by
  refine tk_ofv (by decide) (Nat.le_of_ble_eq_true rfl) ?_
  intro p e s m args below meth c ls X hB hl
  obtain ⟨hx, hb, hml, ho, hts, hr, hlocks⟩ := X
  have hl : lv_has ls 1 [(0, .int 1)] := hl
  refine lv_iload_n hx hb dX1_must_0 rfl (lv_at hl 0 rfl) ?_
  refine lv_if_ne (tgt := 12) hx hb dX1_must_1 (by decide) (fun c_1 => ?_) (fun c_1 => ?_)
  · exact tk_rv hx hb hr hlocks dX1_must_12
  · exact absurd c_1 (by decide)

set_option maxHeartbeats 1000000 in
set_option maxRecDepth 100000 in
theorem c_X1_must0 (l : Launch) (hfl : l.flags = pinnedFlags ++ [noTraceFlag]) (σ : xS) : xt_C l yX1_must (Cond.code yX1_must cX1_must 1 none) 6 (fun ad => [.int 0]) σ 3 := by
  refine xt_of (by decide) (fun ad => Nat.le_of_ble_eq_true rfl) ?_
  intro p e s m args below meth c G A ad wk wv ls X hE hH hl
  obtain ⟨hx, hb, hml, hT, hr, hlocks, hxc, hA⟩ := id X
  have hl : lv_has ls 1 [(0, .int 0)] := hl
  refine lv_iload_n hx hb dX1_must_0 rfl (lv_at hl 0 rfl) ?_
  refine lv_if_ne (tgt := 12) hx hb dX1_must_1 (by decide) (fun c_1 => ?_) (fun c_1 => ?_)
  · skip
    exact absurd c_1 (by decide)
  · skip
    exact ex_thr (own := RX1) (cls := "java/lang/IllegalArgumentException") (ic := 69) (inw := 67) hx hb hfl hT.1 hT.2.1 (by decide +kernel) (fun U hU hW => ex_ats3 (A := A) hT.2.1 hxc.1 hW (hxc.at hW hH.2.2 hU).2.1) q321 q40 q322 hE hlocks hml hl.1 dX1_must_4 dX1_must_7 dX1_must_8 dX1_must_11 (Nat.le_of_ble_eq_true rfl) (Nat.le_of_ble_eq_true rfl) (Nat.le_of_ble_eq_true rfl) (Nat.le_of_ble_eq_true rfl) (xt_tq (k := 3)) (fun q h => by cases h)

set_option maxHeartbeats 1000000 in
set_option maxRecDepth 100000 in
theorem c_X1_mayBe1 (l : Launch) : tk_Cv l yX1_mayBe cX1_mayBe 1 1 [.int 1] (fun _ => True) := by
  refine tk_ofv (by decide) (Nat.le_of_ble_eq_true rfl) ?_
  intro p e s m args below meth c ls X hB hl
  obtain ⟨hx, hb, hml, ho, hts, hr, hlocks⟩ := X
  have hl : lv_has ls 1 [(0, .int 1)] := hl
  refine lv_iload_n hx hb dX1_mayBe_0 rfl (lv_at hl 0 rfl) ?_
  refine lv_if_ne (tgt := 12) hx hb dX1_mayBe_1 (by decide) (fun c_1 => ?_) (fun c_1 => ?_)
  · exact tk_rv hx hb hr hlocks dX1_mayBe_12
  · exact absurd c_1 (by decide)

set_option maxHeartbeats 1000000 in
set_option maxRecDepth 100000 in
theorem c_X1_mayBe0 (l : Launch) (hfl : l.flags = pinnedFlags ++ [noTraceFlag]) (σ : xS) : xt_C l yX1_mayBe (Cond.code yX1_mayBe cX1_mayBe 1 none) 6 (fun ad => [.int 0]) σ 4 := by
  refine xt_of (by decide) (fun ad => Nat.le_of_ble_eq_true rfl) ?_
  intro p e s m args below meth c G A ad wk wv ls X hE hH hl
  obtain ⟨hx, hb, hml, hT, hr, hlocks, hxc, hA⟩ := id X
  have hl : lv_has ls 1 [(0, .int 0)] := hl
  refine lv_iload_n hx hb dX1_mayBe_0 rfl (lv_at hl 0 rfl) ?_
  refine lv_if_ne (tgt := 12) hx hb dX1_mayBe_1 (by decide) (fun c_1 => ?_) (fun c_1 => ?_)
  · skip
    exact absurd c_1 (by decide)
  · skip
    exact ex_thr (own := RX1) (cls := "java/lang/UnsupportedOperationException") (ic := 72) (inw := 70) hx hb hfl hT.1 hT.2.1 (by decide +kernel) (fun U hU hW => ex_ats4 (A := A) hT.2.1 hxc.1 hW (hxc.at hW hH.2.2 hU).2.1) q353 q41 q354 hE hlocks hml hl.1 dX1_mayBe_4 dX1_mayBe_7 dX1_mayBe_8 dX1_mayBe_11 (Nat.le_of_ble_eq_true rfl) (Nat.le_of_ble_eq_true rfl) (Nat.le_of_ble_eq_true rfl) (Nat.le_of_ble_eq_true rfl) (xt_tq (k := 4)) (fun q h => by cases h)

set_option maxHeartbeats 1000000 in
set_option maxRecDepth 100000 in
theorem c_X1_mustBe1 (l : Launch) : tk_Cv l yX1_mustBe cX1_mustBe 1 1 [.int 1] (fun _ => True) := by
  refine tk_ofv (by decide) (Nat.le_of_ble_eq_true rfl) ?_
  intro p e s m args below meth c ls X hB hl
  obtain ⟨hx, hb, hml, ho, hts, hr, hlocks⟩ := X
  have hl : lv_has ls 1 [(0, .int 1)] := hl
  refine lv_iload_n hx hb dX1_mustBe_0 rfl (lv_at hl 0 rfl) ?_
  refine lv_if_ne (tgt := 12) hx hb dX1_mustBe_1 (by decide) (fun c_1 => ?_) (fun c_1 => ?_)
  · exact tk_rv hx hb hr hlocks dX1_mustBe_12
  · exact absurd c_1 (by decide)

set_option maxHeartbeats 1000000 in
set_option maxRecDepth 100000 in
theorem c_X1_mustBe0 (l : Launch) (hfl : l.flags = pinnedFlags ++ [noTraceFlag]) (σ : xS) : xt_C l yX1_mustBe (Cond.code yX1_mustBe cX1_mustBe 1 none) 6 (fun ad => [.int 0]) σ 1 := by
  refine xt_of (by decide) (fun ad => Nat.le_of_ble_eq_true rfl) ?_
  intro p e s m args below meth c G A ad wk wv ls X hE hH hl
  obtain ⟨hx, hb, hml, hT, hr, hlocks, hxc, hA⟩ := id X
  have hl : lv_has ls 1 [(0, .int 0)] := hl
  refine lv_iload_n hx hb dX1_mustBe_0 rfl (lv_at hl 0 rfl) ?_
  refine lv_if_ne (tgt := 12) hx hb dX1_mustBe_1 (by decide) (fun c_1 => ?_) (fun c_1 => ?_)
  · skip
    exact absurd c_1 (by decide)
  · skip
    exact ex_thr (own := RX1) (cls := "java/lang/IndexOutOfBoundsException") (ic := 75) (inw := 73) hx hb hfl hT.1 hT.2.1 (by decide +kernel) (fun U hU hW => ex_ats1 (A := A) hT.2.1 hxc.1 hW (hxc.at hW hH.2.2 hU).2.1) q442 q43 q443 hE hlocks hml hl.1 dX1_mustBe_4 dX1_mustBe_7 dX1_mustBe_8 dX1_mustBe_11 (Nat.le_of_ble_eq_true rfl) (Nat.le_of_ble_eq_true rfl) (Nat.le_of_ble_eq_true rfl) (Nat.le_of_ble_eq_true rfl) (xt_tq (k := 1)) (fun q h => by cases h)

set_option maxHeartbeats 1000000 in
set_option maxRecDepth 100000 in
theorem c_X1_stands1 (l : Launch) : tk_Cv l yX1_stands cX1_stands 1 1 [.int 1] (fun _ => True) := by
  refine tk_ofv (by decide) (Nat.le_of_ble_eq_true rfl) ?_
  intro p e s m args below meth c ls X hB hl
  obtain ⟨hx, hb, hml, ho, hts, hr, hlocks⟩ := X
  have hl : lv_has ls 1 [(0, .int 1)] := hl
  refine lv_iload_n hx hb dX1_stands_0 rfl (lv_at hl 0 rfl) ?_
  refine lv_if_ne (tgt := 12) hx hb dX1_stands_1 (by decide) (fun c_1 => ?_) (fun c_1 => ?_)
  · exact tk_rv hx hb hr hlocks dX1_stands_12
  · exact absurd c_1 (by decide)

set_option maxHeartbeats 1000000 in
set_option maxRecDepth 100000 in
theorem c_X1_stands0 (l : Launch) (hfl : l.flags = pinnedFlags ++ [noTraceFlag]) (σ : xS) : xt_C l yX1_stands (Cond.code yX1_stands cX1_stands 1 none) 6 (fun ad => [.int 0]) σ 2 := by
  refine xt_of (by decide) (fun ad => Nat.le_of_ble_eq_true rfl) ?_
  intro p e s m args below meth c G A ad wk wv ls X hE hH hl
  obtain ⟨hx, hb, hml, hT, hr, hlocks, hxc, hA⟩ := id X
  have hl : lv_has ls 1 [(0, .int 0)] := hl
  refine lv_iload_n hx hb dX1_stands_0 rfl (lv_at hl 0 rfl) ?_
  refine lv_if_ne (tgt := 12) hx hb dX1_stands_1 (by decide) (fun c_1 => ?_) (fun c_1 => ?_)
  · skip
    exact absurd c_1 (by decide)
  · skip
    exact ex_thr (own := RX1) (cls := "java/lang/IllegalStateException") (ic := 78) (inw := 76) hx hb hfl hT.1 hT.2.1 (by decide +kernel) (fun U hU hW => ex_ats2 (A := A) hT.2.1 hxc.1 hW (hxc.at hW hH.2.2 hU).2.1) q460 q46 q461 hE hlocks hml hl.1 dX1_stands_4 dX1_stands_7 dX1_stands_8 dX1_stands_11 (Nat.le_of_ble_eq_true rfl) (Nat.le_of_ble_eq_true rfl) (Nat.le_of_ble_eq_true rfl) (Nat.le_of_ble_eq_true rfl) (xt_tq (k := 2)) (fun q h => by cases h)

set_option maxHeartbeats 1000000 in
set_option maxRecDepth 100000 in
theorem c_X6_steps (l : Launch) (σ : xS) {nC nS : Nat} {nW : Nat → Nat} (hk : xk σ nC nS nW) (q j : Nat) (hq : q < nC) (hj : j < nW q) (q2 j2 : Nat) (hq2 : q2 < nC) (hj2 : j2 < nW q2) : xr_C l yX6_steps cX6_steps 2 (some .int) 2 (fun ad => [.ref (ad (60 + (20 * q + j))), .ref (ad (60 + (20 * q2 + j2)))]) σ (fun r => pStep (σ.1.2 12 (20 * q + j)) (σ.1.2 13 (20 * q + j)) (σ.1.2 12 (20 * q2 + j2)) (σ.1.2 13 (20 * q2 + j2)) = r) := by
  refine xr_ofi (by decide) (fun ad => Nat.le_of_ble_eq_true rfl) ?_
  intro p e s m args below meth c G ad wk ls X hH hl
  obtain ⟨hx, hb, hml, hT, hr, hlocks⟩ := id X
  have hl : lv_has ls 2 [(0, .ref (ad (60 + (20 * q + j)))), (1, .ref (ad (60 + (20 * q2 + j2))))] := hl
  refine lv_aload_n hx hb dX6_steps_0 rfl (lv_at hl 0 rfl) ?_
  refine gw_get (C := RX6) (T := TX6) (N := 4) (ci := 5) (fs := xx_fs6 σ.1 (20 * q + j)) (v := .int (σ.1.2 12 (20 * q + j))) hx hb hT hH.1 (60 + (20 * q + j)) (xx_well hk (show q < nC by omega) (show j < nW q by omega)) rfl in_X6 0 (by decide) rfl q481 rfl dX6_steps_1 ?_
  refine lv_aload_n hx hb dX6_steps_4 rfl (lv_at hl 1 rfl) ?_
  refine gw_get (C := RX6) (T := TX6) (N := 4) (ci := 5) (fs := xx_fs6 σ.1 (20 * q2 + j2)) (v := .int (σ.1.2 12 (20 * q2 + j2))) hx hb hT hH.1 (60 + (20 * q2 + j2)) (xx_well hk (show q2 < nC by omega) (show j2 < nW q2 by omega)) rfl in_X6 0 (by decide) rfl q481 rfl dX6_steps_5 ?_
  refine lv_isub hx hb dX6_steps_8 ?_
  refine va_mabs hx hb (hml.trans hl.1.symm) hT.1 (hT.2.1 _ q305) (hT.2.1 _ q306) (hT.2.1 _ q48) (hT.2.1 _ q307) (by decide) (Nat.le_of_ble_eq_true rfl) (Nat.zero_le _) (Nat.zero_le _) dX6_steps_9 ?_
  refine lv_aload_n hx hb dX6_steps_12 rfl (lv_at hl 0 rfl) ?_
  refine gw_get (C := RX6) (T := TX6) (N := 4) (ci := 5) (fs := xx_fs6 σ.1 (20 * q + j)) (v := .int (σ.1.2 13 (20 * q + j))) hx hb hT hH.1 (60 + (20 * q + j)) (xx_well hk (show q < nC by omega) (show j < nW q by omega)) rfl in_X6 1 (by decide) rfl q483 rfl dX6_steps_13 ?_
  refine lv_aload_n hx hb dX6_steps_16 rfl (lv_at hl 1 rfl) ?_
  refine gw_get (C := RX6) (T := TX6) (N := 4) (ci := 5) (fs := xx_fs6 σ.1 (20 * q2 + j2)) (v := .int (σ.1.2 13 (20 * q2 + j2))) hx hb hT hH.1 (60 + (20 * q2 + j2)) (xx_well hk (show q2 < nC by omega) (show j2 < nW q2 by omega)) rfl in_X6 1 (by decide) rfl q483 rfl dX6_steps_17 ?_
  refine lv_isub hx hb dX6_steps_20 ?_
  refine va_mabs hx hb (hml.trans hl.1.symm) hT.1 (hT.2.1 _ q305) (hT.2.1 _ q306) (hT.2.1 _ q48) (hT.2.1 _ q307) (by decide) (Nat.le_of_ble_eq_true rfl) (Nat.zero_le _) (Nat.zero_le _) dX6_steps_21 ?_
  refine va_mmax hx hb (hml.trans hl.1.symm) hT.1 (hT.2.1 _ q308) (hT.2.1 _ q267) (hT.2.1 _ q48) (hT.2.1 _ q268) (by decide) (Nat.le_of_ble_eq_true rfl) (Nat.zero_le _) (Nat.zero_le _) dX6_steps_24 ?_
  exact ss_ri hx hb hr hlocks rfl dX6_steps_27 rfl

set_option maxHeartbeats 1000000 in
set_option maxRecDepth 100000 in
theorem c_X5_isDug (l : Launch) (σ : xS) {nC nS : Nat} {nW : Nat → Nat} (hk : xk σ nC nS nW) (q : Nat) (hq : q < nC) : xr_C l yX5_isDug cX5_isDug 1 (some .boolean) 1 (fun ad => [.ref (ad (40 + q))]) σ (fun r => (1 = r ∧ ¬ σ.1.2 8 q = -1) ∨ (0 = r ∧ σ.1.2 8 q = -1)) := by
  refine xr_ofi (by decide) (fun ad => Nat.le_of_ble_eq_true rfl) ?_
  intro p e s m args below meth c G ad wk ls X hH hl
  obtain ⟨hx, hb, hml, hT, hr, hlocks⟩ := id X
  have hl : lv_has ls 1 [(0, .ref (ad (40 + q)))] := hl
  refine lv_aload_n hx hb dX5_isDug_0 rfl (lv_at hl 0 rfl) ?_
  refine gw_get (C := RX5) (T := TX5) (N := 5) (ci := 4) (fs := xx_fs5 ad σ.1 q) (v := .int (σ.1.2 8 q)) hx hb hT hH.1 (40 + q) (xx_chan hk (show q < nC by omega)) rfl in_X5 3 (by decide) rfl q381 rfl dX5_isDug_1 ?_
  refine lv_iconst (v := (-1)) hx hb dX5_isDug_4 (by decide) ?_
  refine lv_icmp_eq (tgt := 12) hx hb dX5_isDug_5 (by decide) (fun c_5 => ?_) (fun c_5 => ?_)
  · skip
    refine lv_iconst (v := 0) hx hb dX5_isDug_12 (by decide) ?_
    exact ss_ri hx hb hr hlocks rfl dX5_isDug_13 (Or.inr ⟨rfl, c_5⟩)
  · skip
    refine lv_iconst (v := 1) hx hb dX5_isDug_8 (by decide) ?_
    refine lv_goto (tgt := 13) hx hb dX5_isDug_9 (by decide) ?_
    exact ss_ri hx hb hr hlocks rfl dX5_isDug_13 (Or.inl ⟨rfl, c_5⟩)

set_option maxHeartbeats 1000000 in
set_option maxRecDepth 100000 in
theorem lp_X5_runs {p : Program} {l : Launch} {e : Env} {s : State} {m : MethodId} {args : Array Value} {below : List Frame} {meth : Method} {c : Code} {Q : State → Prop} {G : gw_G} {ad wk : Nat → Nat} (σ : xS) {nC nS : Nat} {nW : Nat → Nat} (hk : xk σ nC nS nW) (q : Nat) (hq : q < nC) (X : gx_X RX5 cX5_runs 2 (some .int) G p s m args meth c) (hH : xr_H G ad wk σ s.heap) (K : (∀ (ls : Array Slot), lv_has ls 2 [(1, .int (nI (pRuns (σ.1.2 15) (20 * q) (nW q))))] → W p l e (mm_rm 1) s m args below meth c s.heap [] 0 0 Q (F0 m 28 ls []))) : ∀ (n : Nat) (i : Nat), nW q < i + n → i ≤ nW q → (∀ j, j < i → σ.1.2 15 (20 * q + j) = 0) → ∀ (ls : Array Slot), lv_has ls 2 [(0, .ref (ad (40 + q))), (1, .int (nI i))] → W p l e (mm_rm 1) s m args below meth c s.heap [] 0 0 Q (F0 m 2 ls []) := by
  obtain ⟨hx, hb, hml, hT, hr, hlocks⟩ := id X
  intro n
  induction n with
  | zero =>
    intro i h0 hi hj
    exact absurd h0 (by omega)
  | succ n ih =>
    intro i h0 hi hj ls hl
    have h8 := hk.1.2
    have hWq := hk.2.2.1 q (by omega)
    refine lv_iload_n hx hb dX5_runs_2 rfl (lv_at hl 1 rfl) ?_
    refine lv_aload_n hx hb dX5_runs_3 rfl (lv_at hl 0 rfl) ?_
    refine gw_get (C := RX5) (T := TX5) (N := 5) (ci := 4) (fs := xx_fs5 ad σ.1 q) (v := .int (σ.1.2 5 q)) hx hb hT hH.1 (40 + q) (xx_chan hk (show q < nC by omega)) rfl in_X5 1 (by decide) rfl q377 rfl dX5_runs_4 ?_
    refine lv_as hWq.1 ?_
    refine lv_icmp_ge (tgt := 28) hx hb dX5_runs_7 (by decide) (fun c_7 => ?_) (fun c_7 => ?_)
    · skip
      have c_7 : (nW q) ≤ i := (nI_leI (a := (nW q)) (b := i) (by omega) (by omega)).mp c_7
      obtain rfl : pRuns (σ.1.2 15) (20 * q) (nW q) = i := pRuns_eq _ _ _ _ hi hj (Or.inl (by omega))
      exact K _ (lv_sub hl [1] rfl)
    · skip
      have c_7 : ¬ ((nW q) ≤ i) := fun h => c_7 ((nI_leI (a := (nW q)) (b := i) (by omega) (by omega)).mpr h)
      refine lv_aload_n hx hb dX5_runs_10 rfl (lv_at hl 0 rfl) ?_
      refine gw_get (C := RX5) (T := TX5) (N := 5) (ci := 4) (fs := xx_fs5 ad σ.1 q) (v := .ref (ad (50 + q))) hx hb hT hH.1 (40 + q) (xx_chan hk (show q < nC by omega)) rfl in_X5 0 (by decide) rfl q375 rfl dX5_runs_11 ?_
      refine lv_iload_n hx hb dX5_runs_14 rfl (lv_at hl 1 rfl) ?_
      refine gw_aald (b := ad (60 + (20 * q + i))) hx hb hT hH.1 (50 + q) 5 (xx_wells hk (show q < nC by omega)) rfl i rfl (show i < 20 by omega) (by decide) (xx_wer hk (show q < nC by omega) (show i < nW q by omega)) dX5_runs_15 ?_
      refine gw_getN (C := RX6) (T := TX6) (N := 4) (ci := 5) (fs := xx_fs6 σ.1 (20 * q + i)) (v := .int (σ.1.2 15 (20 * q + i))) hx hb hT hH.1 (60 + (20 * q + i)) (xx_well hk (show q < nC by omega) (show i < nW q by omega)) rfl in_X6 3 (by decide) rfl (List.mem_of_getElem? (i := 20) rfl) rfl dX5_runs_16 ?_
      refine lv_if_ne (tgt := 28) hx hb dX5_runs_19 (by decide) (fun c_19 => ?_) (fun c_19 => ?_)
      · skip
        obtain rfl : pRuns (σ.1.2 15) (20 * q) (nW q) = i := pRuns_eq _ _ _ _ hi hj (Or.inr c_19)
        exact K _ (lv_sub hl [1] rfl)
      · skip
        refine lv_iinc (v := nI (i + 1)) (lv' := [(1, .int (nI (i + 1))), (0, .ref (ad (40 + q)))]) hx hb dX5_runs_22 hl (k := 1) rfl (nI_add i 1) (by decide) rfl (fun ls hl => ?_)
        refine lv_goto (tgt := 2) hx hb dX5_runs_25 (by decide) ?_
        exact ih (i + 1) (by omega) (by omega) (fun j hj2 => by rcases Nat.lt_or_ge j i with y | y; exact hj j y; rw [show j = i by omega]; exact c_19) _ (lv_sub hl [1, 0] rfl)

set_option maxHeartbeats 1000000 in
set_option maxRecDepth 100000 in
theorem c_X5_runs (l : Launch) (σ : xS) {nC nS : Nat} {nW : Nat → Nat} (hk : xk σ nC nS nW) (q : Nat) (hq : q < nC) : xr_C l yX5_runs cX5_runs 2 (some .int) 1 (fun ad => [.ref (ad (40 + q))]) σ (fun r => nI (pRuns (σ.1.2 15) (20 * q) (nW q)) = r) := by
  refine xr_ofi (by decide) (fun ad => Nat.le_of_ble_eq_true rfl) ?_
  intro p e s m args below meth c G ad wk ls X hH hl
  obtain ⟨hx, hb, hml, hT, hr, hlocks⟩ := id X
  have hl : lv_has ls 2 [(0, .ref (ad (40 + q)))] := hl
  have h8 := hk.1.2
  have hWq := hk.2.2.1 q (by omega)
  refine lv_iconst (v := 0) hx hb dX5_runs_0 (by decide) ?_
  refine lv_istore_n (lv' := [(1, .int 0), (0, .ref (ad (40 + q)))]) hx hb dX5_runs_1 rfl hl (by decide) rfl (fun ls hl => ?_)
  refine lp_X5_runs σ hk q hq X hH ?_ (nW q + 1) 0 (by omega) (Nat.zero_le _) (fun j hj => absurd hj (Nat.not_lt_zero j)) _ (lv_sub hl [1, 0] rfl)
  intro ls hl
  refine lv_iload_n hx hb dX5_runs_28 rfl (lv_at hl 0 rfl) ?_
  exact ss_ri hx hb hr hlocks rfl dX5_runs_29 rfl

/-- the highest of 30 - steps over the first n wells, from 0 up -/
def xBest (x y : Int32) (wx wy : Nat → Int32) (b : Nat) : Nat → Int32
  | 0 => 0
  | n + 1 => pMax (xBest x y wx wy b n) (30 - pStep (wx (b + n)) (wy (b + n)) x y)
def xDraw (σ : mS) (nW : Nat → Nat) (q : Nat) (x y now : Int32) : Int32 := pAge (xBest x y (σ.2 12) (σ.2 13) (20 * q) (pRuns (σ.2 15) (20 * q) (nW q))) (now - σ.2 7 q)

set_option maxHeartbeats 1000000 in
set_option maxRecDepth 100000 in
theorem lp_X5_draw {p : Program} {l : Launch} {e : Env} {s : State} {m : MethodId} {args : Array Value} {below : List Frame} {meth : Method} {c : Code} {Q : State → Prop} {G : gw_G} {ad wk : Nat → Nat} (σ : xS) {nC nS : Nat} {nW : Nat → Nat} (hk : xk σ nC nS nW) (q : Nat) (hq : q < nC) (a z : Nat) (ha : a < nC) (hz : z < nW a) (now : Int32) (X : gx_X RX5 cX5_draw 6 (some .int) G p s m args meth c) (hH : xr_H G ad wk σ s.heap) (K : (∀ (ls : Array Slot), lv_has ls 6 [(0, .ref (ad (40 + q))), (2, .int now), (3, .int (xBest (σ.1.2 12 (20 * a + z)) (σ.1.2 13 (20 * a + z)) (σ.1.2 12) (σ.1.2 13) (20 * q) (pRuns (σ.1.2 15) (20 * q) (nW q))))] → W p l e (mm_rm 3) s m args below meth c s.heap [] 0 0 Q (F0 m 43 ls []))) : ∀ (n : Nat) (i : Nat), pRuns (σ.1.2 15) (20 * q) (nW q) < i + n → i ≤ pRuns (σ.1.2 15) (20 * q) (nW q) → ∀ (ls : Array Slot), lv_has ls 6 [(0, .ref (ad (40 + q))), (1, .ref (ad (60 + (20 * a + z)))), (2, .int now), (3, .int (xBest (σ.1.2 12 (20 * a + z)) (σ.1.2 13 (20 * a + z)) (σ.1.2 12) (σ.1.2 13) (20 * q) i)), (4, .int (nI (pRuns (σ.1.2 15) (20 * q) (nW q)))), (5, .int (nI i))] → W p l e (mm_rm 3) s m args below meth c s.heap [] 0 0 Q (F0 m 11 ls []) := by
  obtain ⟨hx, hb, hml, hT, hr, hlocks⟩ := id X
  intro n
  induction n with
  | zero =>
    intro i h0 hi
    exact absurd h0 (by omega)
  | succ n ih =>
    intro i h0 hi ls hl
    have h8 := hk.1.2
    have hWq := hk.2.2.1 q (by omega)
    have hR := pRuns_le (σ.1.2 15) (nW q) (20 * q)
    refine lv_iload hx hb dX5_draw_11 (lv_at hl 5 rfl) ?_
    refine lv_iload hx hb dX5_draw_13 (lv_at hl 4 rfl) ?_
    refine lv_icmp_ge (tgt := 43) hx hb dX5_draw_15 (by decide) (fun c_15 => ?_) (fun c_15 => ?_)
    · skip
      have c_15 : (pRuns (σ.1.2 15) (20 * q) (nW q)) ≤ i := (nI_leI (a := (pRuns (σ.1.2 15) (20 * q) (nW q))) (b := i) (by omega) (by omega)).mp c_15
      obtain rfl : pRuns (σ.1.2 15) (20 * q) (nW q) = i := by omega
      exact K _ (lv_sub hl [0, 2, 3] rfl)
    · skip
      have c_15 : ¬ ((pRuns (σ.1.2 15) (20 * q) (nW q)) ≤ i) := fun h => c_15 ((nI_leI (a := (pRuns (σ.1.2 15) (20 * q) (nW q))) (b := i) (by omega) (by omega)).mpr h)
      refine lv_iload_n hx hb dX5_draw_18 rfl (lv_at hl 3 rfl) ?_
      refine lv_bipush (v := 30) hx hb dX5_draw_19 (by decide) ?_
      refine lv_aload_n hx hb dX5_draw_21 rfl (lv_at hl 0 rfl) ?_
      refine gw_get (C := RX5) (T := TX5) (N := 5) (ci := 4) (fs := xx_fs5 ad σ.1 q) (v := .ref (ad (50 + q))) hx hb hT hH.1 (40 + q) (xx_chan hk (show q < nC by omega)) rfl in_X5 0 (by decide) rfl q375 rfl dX5_draw_22 ?_
      refine lv_iload hx hb dX5_draw_25 (lv_at hl 5 rfl) ?_
      refine gw_aald (b := ad (60 + (20 * q + i))) hx hb hT hH.1 (50 + q) 5 (xx_wells hk (show q < nC by omega)) rfl i rfl (show i < 20 by omega) (by decide) (xx_wer hk (show q < nC by omega) (show i < nW q by omega)) dX5_draw_27 ?_
      refine lv_aload_n hx hb dX5_draw_28 rfl (lv_at hl 1 rfl) ?_
      refine xr_V (n := 1) (60 + (20 * q + i)) ((c_X6_steps l σ hk q i (by omega) (by omega) a z (by omega) (by omega)) G ad wk) hx hb hml hT hH.1 hH.2.1 (xx_well hk (show q < nC by omega) (show i < nW q by omega)) rfl (lw_V q301 q302 q303 q47 q304) (by decide +kernel) ⟨Nat.le_of_ble_eq_true rfl, Nat.le_of_ble_eq_true rfl⟩ rfl hl.1 rfl (Nat.le_of_ble_eq_true rfl) dX5_draw_29 ⟨Nat.le_of_ble_eq_true rfl, Nat.le_of_ble_eq_true rfl⟩ (fun r_29 hp_29 => ?_)
      obtain rfl := hp_29
      refine lv_isub hx hb dX5_draw_32 ?_
      refine va_mmax hx hb (hml.trans hl.1.symm) hT.1 (hT.2.1 _ q309) (hT.2.1 _ q267) (hT.2.1 _ q48) (hT.2.1 _ q268) (by decide) (Nat.le_of_ble_eq_true rfl) (Nat.zero_le _) (Nat.zero_le _) dX5_draw_33 ?_
      refine lv_as (z := xBest (σ.1.2 12 (20 * a + z)) (σ.1.2 13 (20 * a + z)) (σ.1.2 12) (σ.1.2 13) (20 * q) (i + 1)) rfl ?_
      refine lv_istore_n (lv' := [(3, .int (xBest (σ.1.2 12 (20 * a + z)) (σ.1.2 13 (20 * a + z)) (σ.1.2 12) (σ.1.2 13) (20 * q) (i + 1))), (0, .ref (ad (40 + q))), (1, .ref (ad (60 + (20 * a + z)))), (2, .int now), (4, .int (nI (pRuns (σ.1.2 15) (20 * q) (nW q)))), (5, .int (nI i))]) hx hb dX5_draw_36 rfl hl (by decide) rfl (fun ls hl => ?_)
      refine lv_iinc (v := nI (i + 1)) (lv' := [(5, .int (nI (i + 1))), (3, .int (xBest (σ.1.2 12 (20 * a + z)) (σ.1.2 13 (20 * a + z)) (σ.1.2 12) (σ.1.2 13) (20 * q) (i + 1))), (0, .ref (ad (40 + q))), (1, .ref (ad (60 + (20 * a + z)))), (2, .int now), (4, .int (nI (pRuns (σ.1.2 15) (20 * q) (nW q))))]) hx hb dX5_draw_37 hl (k := 5) rfl (nI_add i 1) (by decide) rfl (fun ls hl => ?_)
      refine lv_goto (tgt := 11) hx hb dX5_draw_40 (by decide) ?_
      exact ih (i + 1) (by omega) (by omega) _ (lv_sub hl [2, 3, 4, 1, 5, 0] rfl)

set_option maxHeartbeats 1000000 in
set_option maxRecDepth 100000 in
theorem c_X5_draw (l : Launch) (σ : xS) {nC nS : Nat} {nW : Nat → Nat} (hk : xk σ nC nS nW) (q : Nat) (hq : q < nC) (a z : Nat) (ha : a < nC) (hz : z < nW a) (now : Int32) : xr_C l yX5_draw cX5_draw 6 (some .int) 3 (fun ad => [.ref (ad (40 + q)), .ref (ad (60 + (20 * a + z))), .int now]) σ (fun r => xDraw σ.1 nW q (σ.1.2 12 (20 * a + z)) (σ.1.2 13 (20 * a + z)) now = r) := by
  refine xr_ofi (by decide) (fun ad => Nat.le_of_ble_eq_true rfl) ?_
  intro p e s m args below meth c G ad wk ls X hH hl
  obtain ⟨hx, hb, hml, hT, hr, hlocks⟩ := id X
  have hl : lv_has ls 6 [(0, .ref (ad (40 + q))), (1, .ref (ad (60 + (20 * a + z)))), (2, .int now)] := hl
  have h8 := hk.1.2
  have hWq := hk.2.2.1 q (by omega)
  have hR := pRuns_le (σ.1.2 15) (nW q) (20 * q)
  refine lv_iconst (v := 0) hx hb dX5_draw_0 (by decide) ?_
  refine lv_istore_n (lv' := [(3, .int 0), (0, .ref (ad (40 + q))), (1, .ref (ad (60 + (20 * a + z)))), (2, .int now)]) hx hb dX5_draw_1 rfl hl (by decide) rfl (fun ls hl => ?_)
  refine lv_aload_n hx hb dX5_draw_2 rfl (lv_at hl 1 rfl) ?_
  refine xr_V (n := 0) (40 + q) ((c_X5_runs l σ hk q (by omega)) G ad wk) hx hb hml hT hH.1 hH.2.1 (xx_chan hk (show q < nC by omega)) rfl (lw_V q300 q289 q290 q42 q291) (by decide +kernel) ⟨Nat.le_of_ble_eq_true rfl, Nat.le_of_ble_eq_true rfl⟩ rfl hl.1 rfl (Nat.le_of_ble_eq_true rfl) dX5_draw_3 ⟨Nat.le_of_ble_eq_true rfl, Nat.le_of_ble_eq_true rfl⟩ (fun r_3 hp_3 => ?_)
  obtain rfl := hp_3
  refine lv_istore (lv' := [(4, .int (nI (pRuns (σ.1.2 15) (20 * q) (nW q)))), (3, .int 0), (0, .ref (ad (40 + q))), (1, .ref (ad (60 + (20 * a + z)))), (2, .int now)]) hx hb dX5_draw_6 hl (by decide) rfl (fun ls hl => ?_)
  refine lv_iconst (v := 0) hx hb dX5_draw_8 (by decide) ?_
  refine lv_istore (lv' := [(5, .int 0), (4, .int (nI (pRuns (σ.1.2 15) (20 * q) (nW q)))), (3, .int 0), (0, .ref (ad (40 + q))), (1, .ref (ad (60 + (20 * a + z)))), (2, .int now)]) hx hb dX5_draw_9 hl (by decide) rfl (fun ls hl => ?_)
  refine lp_X5_draw σ hk q hq a z ha hz now X hH ?_ (pRuns (σ.1.2 15) (20 * q) (nW q) + 1) 0 (by omega) (Nat.zero_le _) _ (lv_sub hl [3, 4, 5, 2, 1, 0] rfl)
  intro ls hl
  refine lv_iload_n hx hb dX5_draw_43 rfl (lv_at hl 1 rfl) ?_
  refine lv_aload_n hx hb dX5_draw_44 rfl (lv_at hl 0 rfl) ?_
  refine gw_get (C := RX5) (T := TX5) (N := 5) (ci := 4) (fs := xx_fs5 ad σ.1 q) (v := .int (σ.1.2 7 q)) hx hb hT hH.1 (40 + q) (xx_chan hk (show q < nC by omega)) rfl in_X5 2 (by decide) rfl q379 rfl dX5_draw_45 ?_
  refine lv_isub hx hb dX5_draw_48 ?_
  refine lv_istore (lv' := [(5, .int (now - (σ.1.2 7 q))), (0, .ref (ad (40 + q))), (2, .int now), (3, .int (xBest (σ.1.2 12 (20 * a + z)) (σ.1.2 13 (20 * a + z)) (σ.1.2 12) (σ.1.2 13) (20 * q) (pRuns (σ.1.2 15) (20 * q) (nW q))))]) hx hb dX5_draw_49 hl (by decide) rfl (fun ls hl => ?_)
  refine lv_iload hx hb dX5_draw_51 (lv_at hl 0 rfl) ?_
  refine lv_iconst (v := 5) hx hb dX5_draw_53 (by decide) ?_
  refine lv_icmp_ge (tgt := 66) hx hb dX5_draw_54 (by decide) (fun c_54 => ?_) (fun c_54 => ?_)
  · skip
    refine lv_iload_n hx hb dX5_draw_66 rfl (lv_at hl 3 rfl) ?_
    exact ss_ri hx hb hr hlocks rfl dX5_draw_67 (if_pos c_54)
  · skip
    refine lv_iload_n hx hb dX5_draw_57 rfl (lv_at hl 3 rfl) ?_
    refine lv_iload hx hb dX5_draw_58 (lv_at hl 0 rfl) ?_
    refine lv_imul hx hb dX5_draw_60 ?_
    refine lv_iconst (v := 5) hx hb dX5_draw_61 (by decide) ?_
    refine lv_idiv hx hb dX5_draw_62 (by decide : ¬ (5 : Int32) = 0) ?_
    refine lv_goto (tgt := 67) hx hb dX5_draw_63 (by decide) ?_
    exact ss_ri hx hb hr hlocks rfl dX5_draw_67 (if_neg c_54)

set_option maxHeartbeats 1000000 in
set_option maxRecDepth 100000 in
theorem c_X7_isLet (l : Launch) (σ : xS) {nC nS : Nat} {nW : Nat → Nat} (hk : xk σ nC nS nW) (k : Nat) (hkS : k < nS) (now : Int32) : xr_C l yX7_isLet cX7_isLet 2 (some .boolean) 1 (fun ad => [.ref (ad (220 + k)), .int now]) σ (fun r => (1 = r ∧ (¬ σ.1.2 16 (7 * k + 4) = -1 ∧ now < σ.1.2 16 (7 * k + 6))) ∨ (0 = r ∧ ¬ (¬ σ.1.2 16 (7 * k + 4) = -1 ∧ now < σ.1.2 16 (7 * k + 6)))) := by
  refine xr_ofi (by decide) (fun ad => Nat.le_of_ble_eq_true rfl) ?_
  intro p e s m args below meth c G ad wk ls X hH hl
  obtain ⟨hx, hb, hml, hT, hr, hlocks⟩ := id X
  have hl : lv_has ls 2 [(0, .ref (ad (220 + k))), (1, .int now)] := hl
  refine lv_aload_n hx hb dX7_isLet_0 rfl (lv_at hl 0 rfl) ?_
  refine gw_get (C := RX7) (T := TX7) (N := 8) (ci := 6) (fs := xx_fs7 ad σ.1 k) (v := .int (σ.1.2 16 (7 * k + 4))) hx hb hT hH.1 (220 + k) (xx_share hk (show k < nS by omega)) rfl in_X7 5 (by decide) rfl q538 rfl dX7_isLet_1 ?_
  refine lv_iconst (v := (-1)) hx hb dX7_isLet_4 (by decide) ?_
  refine lv_icmp_eq (tgt := 20) hx hb dX7_isLet_5 (by decide) (fun c_5 => ?_) (fun c_5 => ?_)
  · skip
    refine lv_iconst (v := 0) hx hb dX7_isLet_20 (by decide) ?_
    exact ss_ri hx hb hr hlocks rfl dX7_isLet_21 (Or.inr ⟨rfl, fun h => h.1 c_5⟩)
  · skip
    refine lv_aload_n hx hb dX7_isLet_8 rfl (lv_at hl 0 rfl) ?_
    refine gw_get (C := RX7) (T := TX7) (N := 8) (ci := 6) (fs := xx_fs7 ad σ.1 k) (v := .int (σ.1.2 16 (7 * k + 6))) hx hb hT hH.1 (220 + k) (xx_share hk (show k < nS by omega)) rfl in_X7 7 (by decide) rfl q542 rfl dX7_isLet_9 ?_
    refine lv_iload_n hx hb dX7_isLet_12 rfl (lv_at hl 1 rfl) ?_
    refine lv_icmp_le (tgt := 20) hx hb dX7_isLet_13 (by decide) (fun c_13 => ?_) (fun c_13 => ?_)
    · skip
      refine lv_iconst (v := 0) hx hb dX7_isLet_20 (by decide) ?_
      exact ss_ri hx hb hr hlocks rfl dX7_isLet_21 (Or.inr ⟨rfl, fun h => absurd h.2 (Int32.not_lt.mpr c_13)⟩)
    · skip
      refine lv_iconst (v := 1) hx hb dX7_isLet_16 (by decide) ?_
      refine lv_goto (tgt := 21) hx hb dX7_isLet_17 (by decide) ?_
      exact ss_ri hx hb hr hlocks rfl dX7_isLet_21 (Or.inl ⟨rfl, c_5, in_lt c_13⟩)

def xHold (σ : mS) (k : Nat) (x : Int32) : Int32 := if ¬ σ.2 16 (7 * k + 4) = -1 ∧ ¬ x < σ.2 16 (7 * k + 5) ∧ x < σ.2 16 (7 * k + 6) then σ.2 16 (7 * k + 4) else σ.2 16 (7 * k + 3)

set_option maxHeartbeats 1000000 in
set_option maxRecDepth 100000 in
theorem c_X7_holder (l : Launch) (σ : xS) {nC nS : Nat} {nW : Nat → Nat} (hk : xk σ nC nS nW) (k : Nat) (hkS : k < nS) (z : Int32) : xr_C l yX7_holder cX7_holder 2 (some .int) 1 (fun ad => [.ref (ad (220 + k)), .int z]) σ (fun r => xHold σ.1 k z = r) := by
  refine xr_ofi (by decide) (fun ad => Nat.le_of_ble_eq_true rfl) ?_
  intro p e s m args below meth c G ad wk ls X hH hl
  obtain ⟨hx, hb, hml, hT, hr, hlocks⟩ := id X
  have hl : lv_has ls 2 [(0, .ref (ad (220 + k))), (1, .int z)] := hl
  refine lv_aload_n hx hb dX7_holder_0 rfl (lv_at hl 0 rfl) ?_
  refine gw_get (C := RX7) (T := TX7) (N := 8) (ci := 6) (fs := xx_fs7 ad σ.1 k) (v := .int (σ.1.2 16 (7 * k + 4))) hx hb hT hH.1 (220 + k) (xx_share hk (show k < nS by omega)) rfl in_X7 5 (by decide) rfl q538 rfl dX7_holder_1 ?_
  refine lv_iconst (v := (-1)) hx hb dX7_holder_4 (by decide) ?_
  refine lv_icmp_eq (tgt := 31) hx hb dX7_holder_5 (by decide) (fun c_5 => ?_) (fun c_5 => ?_)
  · skip
    refine lv_aload_n hx hb dX7_holder_31 rfl (lv_at hl 0 rfl) ?_
    refine gw_get (C := RX7) (T := TX7) (N := 8) (ci := 6) (fs := xx_fs7 ad σ.1 k) (v := .int (σ.1.2 16 (7 * k + 3))) hx hb hT hH.1 (220 + k) (xx_share hk (show k < nS by omega)) rfl in_X7 4 (by decide) rfl q536 rfl dX7_holder_32 ?_
    exact ss_ri hx hb hr hlocks rfl dX7_holder_35 (if_neg (fun h => h.1 c_5))
  · skip
    refine lv_iload_n hx hb dX7_holder_8 rfl (lv_at hl 1 rfl) ?_
    refine lv_aload_n hx hb dX7_holder_9 rfl (lv_at hl 0 rfl) ?_
    refine gw_get (C := RX7) (T := TX7) (N := 8) (ci := 6) (fs := xx_fs7 ad σ.1 k) (v := .int (σ.1.2 16 (7 * k + 5))) hx hb hT hH.1 (220 + k) (xx_share hk (show k < nS by omega)) rfl in_X7 6 (by decide) rfl q540 rfl dX7_holder_10 ?_
    refine lv_icmp_lt (tgt := 31) hx hb dX7_holder_13 (by decide) (fun c_13 => ?_) (fun c_13 => ?_)
    · skip
      refine lv_aload_n hx hb dX7_holder_31 rfl (lv_at hl 0 rfl) ?_
      refine gw_get (C := RX7) (T := TX7) (N := 8) (ci := 6) (fs := xx_fs7 ad σ.1 k) (v := .int (σ.1.2 16 (7 * k + 3))) hx hb hT hH.1 (220 + k) (xx_share hk (show k < nS by omega)) rfl in_X7 4 (by decide) rfl q536 rfl dX7_holder_32 ?_
      exact ss_ri hx hb hr hlocks rfl dX7_holder_35 (if_neg (fun h => h.2.1 c_13))
    · skip
      refine lv_iload_n hx hb dX7_holder_16 rfl (lv_at hl 1 rfl) ?_
      refine lv_aload_n hx hb dX7_holder_17 rfl (lv_at hl 0 rfl) ?_
      refine gw_get (C := RX7) (T := TX7) (N := 8) (ci := 6) (fs := xx_fs7 ad σ.1 k) (v := .int (σ.1.2 16 (7 * k + 6))) hx hb hT hH.1 (220 + k) (xx_share hk (show k < nS by omega)) rfl in_X7 7 (by decide) rfl q542 rfl dX7_holder_18 ?_
      refine lv_icmp_ge (tgt := 31) hx hb dX7_holder_21 (by decide) (fun c_21 => ?_) (fun c_21 => ?_)
      · skip
        refine lv_aload_n hx hb dX7_holder_31 rfl (lv_at hl 0 rfl) ?_
        refine gw_get (C := RX7) (T := TX7) (N := 8) (ci := 6) (fs := xx_fs7 ad σ.1 k) (v := .int (σ.1.2 16 (7 * k + 3))) hx hb hT hH.1 (220 + k) (xx_share hk (show k < nS by omega)) rfl in_X7 4 (by decide) rfl q536 rfl dX7_holder_32 ?_
        exact ss_ri hx hb hr hlocks rfl dX7_holder_35 (if_neg (fun h => absurd h.2.2 (Int32.not_lt.mpr c_21)))
      · skip
        refine lv_aload_n hx hb dX7_holder_24 rfl (lv_at hl 0 rfl) ?_
        refine gw_get (C := RX7) (T := TX7) (N := 8) (ci := 6) (fs := xx_fs7 ad σ.1 k) (v := .int (σ.1.2 16 (7 * k + 4))) hx hb hT hH.1 (220 + k) (xx_share hk (show k < nS by omega)) rfl in_X7 5 (by decide) rfl q538 rfl dX7_holder_25 ?_
        refine lv_goto (tgt := 35) hx hb dX7_holder_28 (by decide) ?_
        exact ss_ri hx hb hr hlocks rfl dX7_holder_35 (if_pos ⟨c_5, c_13, in_lt c_21⟩)

set_option maxHeartbeats 1000000 in
set_option maxRecDepth 100000 in
theorem c_X1_channelAt1 (l : Launch) (σ : xS) {nC nS : Nat} {nW : Nat → Nat} (hk : xk σ nC nS nW) (k : Nat) (hkk : k < nC) : xr_Cr l yX1_channelAt cX1_channelAt 2 (some (.object "DesertChannels$Channel")) 2 (fun ad => [.ref (ad 0), .int (nI k)]) σ (fun ad => .ref (ad (40 + k))) := by
  refine xr_ofr (by decide) (fun ad => Nat.le_of_ble_eq_true rfl) ?_
  intro p e s m args below meth c G ad wk ls X hH hl
  obtain ⟨hx, hb, hml, hT, hr, hlocks⟩ := id X
  have hl : lv_has ls 2 [(0, .ref (ad 0)), (1, .int (nI k))] := hl
  have h8 := hk.1.2
  have h60 := hk.2.1.2
  refine lv_iload_n hx hb dX1_channelAt_0 rfl (lv_at hl 1 rfl) ?_
  refine lv_iconst (v := 0) hx hb dX1_channelAt_1 (by decide) ?_
  refine lv_aload_n hx hb dX1_channelAt_2 rfl (lv_at hl 0 rfl) ?_
  refine gw_get (C := RX1) (T := TX1) (N := 21) (ci := 1) (fs := xx_fs1 ad σ.1.1) (v := .int (σ.1.1 10)) hx hb hT hH.1 0 xx_0 rfl in_X1 12 (by decide) rfl q188 rfl dX1_channelAt_3 ?_
  refine lv_as hk.1.1 ?_
  refine lv_iconst (v := 1) hx hb dX1_channelAt_6 (by decide) ?_
  refine lv_isub hx hb dX1_channelAt_7 ?_
  refine ss_ci (n := 3) (c_X1_isIn l (nI k) 0 ((nI nC) - 1)) hx hb hml hT.1 hT.2.1 (lw_S q254 q255 q33 q256) (by decide +kernel) ⟨Nat.le_of_ble_eq_true rfl, Nat.le_of_ble_eq_true rfl⟩ rfl hl.1 rfl (Nat.le_of_ble_eq_true rfl) dX1_channelAt_8 ⟨Nat.le_of_ble_eq_true rfl, Nat.le_of_ble_eq_true rfl⟩ (fun r_8 hp_8 => ?_)
  rcases hp_8 with ⟨rfl, h_8⟩ | ⟨rfl, h_8⟩
  · skip
    refine tk_cSv (n := 1) (c_X1_mustBe1 l) hx hb hml hT.1 hT.2.1 (fun a U g mk h => h) (fun U hU hW => trivial) (lw_S q439 q440 q33 q441) (by decide +kernel) ⟨Nat.le_of_ble_eq_true rfl, Nat.le_of_ble_eq_true rfl⟩ rfl hl.1 rfl (Nat.le_of_ble_eq_true rfl) dX1_channelAt_11 ⟨Nat.le_of_ble_eq_true rfl, Nat.le_of_ble_eq_true rfl⟩ ?_
    refine lv_aload_n hx hb dX1_channelAt_14 rfl (lv_at hl 0 rfl) ?_
    refine gw_get (C := RX1) (T := TX1) (N := 21) (ci := 1) (fs := xx_fs1 ad σ.1.1) (v := .ref (ad 4)) hx hb hT hH.1 0 xx_0 rfl in_X1 1 (by decide) rfl q177 rfl dX1_channelAt_15 ?_
    refine lv_iload_n hx hb dX1_channelAt_18 rfl (lv_at hl 1 rfl) ?_
    refine gw_aald (b := ad (40 + k)) hx hb hT hH.1 4 4 xx_4 rfl k rfl (show k < 8 by omega) (by decide) (xx_chr hk (show k < nC by omega)) dX1_channelAt_19 ?_
    exact xr_rr hx hb hr hlocks rfl dX1_channelAt_20
  · skip
    exact absurd ((in_rg (n := nC) (by omega) (nI k)).mpr ⟨k, hkk, rfl⟩) h_8

set_option maxHeartbeats 1000000 in
set_option maxRecDepth 100000 in
theorem c_X1_channelAt0 (l : Launch) (hfl : l.flags = pinnedFlags ++ [noTraceFlag]) (σ : xS) {nC nS : Nat} {nW : Nat → Nat} (hk : xk σ nC nS nW) (v : Int32) (hno : ¬ ∃ k, k < nC ∧ nI k = v) : xt_C l yX1_channelAt (Cond.code yX1_channelAt cX1_channelAt 2 (some (.object "DesertChannels$Channel"))) 7 (fun ad => [.ref (ad 0), .int v]) σ 1 := by
  refine xt_of (by decide) (fun ad => Nat.le_of_ble_eq_true rfl) ?_
  intro p e s m args below meth c G A ad wk wv ls X hE hH hl
  obtain ⟨hx, hb, hml, hT, hr, hlocks, hxc, hA⟩ := id X
  have hl : lv_has ls 2 [(0, .ref (ad 0)), (1, .int v)] := hl
  have h8 := hk.1.2
  have h60 := hk.2.1.2
  refine lv_iload_n hx hb dX1_channelAt_0 rfl (lv_at hl 1 rfl) ?_
  refine lv_iconst (v := 0) hx hb dX1_channelAt_1 (by decide) ?_
  refine lv_aload_n hx hb dX1_channelAt_2 rfl (lv_at hl 0 rfl) ?_
  refine gw_get (C := RX1) (T := TX1) (N := 21) (ci := 1) (fs := xx_fs1 ad σ.1.1) (v := .int (σ.1.1 10)) hx hb hT hH.1 0 xx_0 rfl in_X1 12 (by decide) rfl q188 rfl dX1_channelAt_3 ?_
  refine lv_as hk.1.1 ?_
  refine lv_iconst (v := 1) hx hb dX1_channelAt_6 (by decide) ?_
  refine lv_isub hx hb dX1_channelAt_7 ?_
  refine ss_ci (n := 3) (c_X1_isIn l v 0 ((nI nC) - 1)) hx hb hml hT.1 hT.2.1 (lw_S q254 q255 q33 q256) (by decide +kernel) ⟨Nat.le_of_ble_eq_true rfl, Nat.le_of_ble_eq_true rfl⟩ rfl hl.1 rfl (Nat.le_of_ble_eq_true rfl) dX1_channelAt_8 ⟨Nat.le_of_ble_eq_true rfl, Nat.le_of_ble_eq_true rfl⟩ (fun r_8 hp_8 => ?_)
  rcases hp_8 with ⟨rfl, h_8⟩ | ⟨rfl, h_8⟩
  · skip
    exact absurd ((in_rg (n := nC) (by omega) v).mp h_8) hno
  · skip
    exact xt_call (k := 1) (yy_S (n := 1) (c_X1_mustBe0 l hfl σ G A ad wk wv) hx hb hml hT hxc hA hH q441 (ex_code_of hT.2.1 q441) (ex_named (hT.2.1 _ q441)) q440 q33 q439 (by decide +kernel) ⟨Nat.le_of_ble_eq_true rfl, Nat.le_of_ble_eq_true rfl⟩ rfl hl.1 rfl (Nat.le_of_ble_eq_true rfl) dX1_channelAt_11 ⟨Nat.le_of_ble_eq_true rfl, Nat.le_of_ble_eq_true rfl⟩) hlocks hE xt_tq (fun q h => by cases h) (Nat.le_of_ble_eq_true rfl) (Nat.le_of_ble_eq_true rfl)

set_option maxHeartbeats 1000000 in
set_option maxRecDepth 100000 in
theorem c_X1_shareAt1 (l : Launch) (σ : xS) {nC nS : Nat} {nW : Nat → Nat} (hk : xk σ nC nS nW) (k : Nat) (hkk : k < nS) : xr_Cr l yX1_shareAt cX1_shareAt 2 (some (.object "DesertChannels$Share")) 2 (fun ad => [.ref (ad 0), .int (nI k)]) σ (fun ad => .ref (ad (220 + k))) := by
  refine xr_ofr (by decide) (fun ad => Nat.le_of_ble_eq_true rfl) ?_
  intro p e s m args below meth c G ad wk ls X hH hl
  obtain ⟨hx, hb, hml, hT, hr, hlocks⟩ := id X
  have hl : lv_has ls 2 [(0, .ref (ad 0)), (1, .int (nI k))] := hl
  have h8 := hk.1.2
  have h60 := hk.2.1.2
  refine lv_iload_n hx hb dX1_shareAt_0 rfl (lv_at hl 1 rfl) ?_
  refine lv_iconst (v := 0) hx hb dX1_shareAt_1 (by decide) ?_
  refine lv_aload_n hx hb dX1_shareAt_2 rfl (lv_at hl 0 rfl) ?_
  refine gw_get (C := RX1) (T := TX1) (N := 21) (ci := 1) (fs := xx_fs1 ad σ.1.1) (v := .int (σ.1.1 17)) hx hb hT hH.1 0 xx_0 rfl in_X1 14 (by decide) rfl q190 rfl dX1_shareAt_3 ?_
  refine lv_as hk.2.1.1 ?_
  refine lv_iconst (v := 1) hx hb dX1_shareAt_6 (by decide) ?_
  refine lv_isub hx hb dX1_shareAt_7 ?_
  refine ss_ci (n := 3) (c_X1_isIn l (nI k) 0 ((nI nS) - 1)) hx hb hml hT.1 hT.2.1 (lw_S q254 q255 q33 q256) (by decide +kernel) ⟨Nat.le_of_ble_eq_true rfl, Nat.le_of_ble_eq_true rfl⟩ rfl hl.1 rfl (Nat.le_of_ble_eq_true rfl) dX1_shareAt_8 ⟨Nat.le_of_ble_eq_true rfl, Nat.le_of_ble_eq_true rfl⟩ (fun r_8 hp_8 => ?_)
  rcases hp_8 with ⟨rfl, h_8⟩ | ⟨rfl, h_8⟩
  · skip
    refine tk_cSv (n := 1) (c_X1_mustBe1 l) hx hb hml hT.1 hT.2.1 (fun a U g mk h => h) (fun U hU hW => trivial) (lw_S q439 q440 q33 q441) (by decide +kernel) ⟨Nat.le_of_ble_eq_true rfl, Nat.le_of_ble_eq_true rfl⟩ rfl hl.1 rfl (Nat.le_of_ble_eq_true rfl) dX1_shareAt_11 ⟨Nat.le_of_ble_eq_true rfl, Nat.le_of_ble_eq_true rfl⟩ ?_
    refine lv_aload_n hx hb dX1_shareAt_14 rfl (lv_at hl 0 rfl) ?_
    refine gw_get (C := RX1) (T := TX1) (N := 21) (ci := 1) (fs := xx_fs1 ad σ.1.1) (v := .ref (ad 5)) hx hb hT hH.1 0 xx_0 rfl in_X1 2 (by decide) rfl q178 rfl dX1_shareAt_15 ?_
    refine lv_iload_n hx hb dX1_shareAt_18 rfl (lv_at hl 1 rfl) ?_
    refine gw_aald (b := ad (220 + k)) hx hb hT hH.1 5 6 xx_5 rfl k rfl (show k < 60 by omega) (by decide) (xx_shr hk (show k < nS by omega)) dX1_shareAt_19 ?_
    exact xr_rr hx hb hr hlocks rfl dX1_shareAt_20
  · skip
    exact absurd ((in_rg (n := nS) (by omega) (nI k)).mpr ⟨k, hkk, rfl⟩) h_8

set_option maxHeartbeats 1000000 in
set_option maxRecDepth 100000 in
theorem c_X1_shareAt0 (l : Launch) (hfl : l.flags = pinnedFlags ++ [noTraceFlag]) (σ : xS) {nC nS : Nat} {nW : Nat → Nat} (hk : xk σ nC nS nW) (v : Int32) (hno : ¬ ∃ k, k < nS ∧ nI k = v) : xt_C l yX1_shareAt (Cond.code yX1_shareAt cX1_shareAt 2 (some (.object "DesertChannels$Share"))) 7 (fun ad => [.ref (ad 0), .int v]) σ 1 := by
  refine xt_of (by decide) (fun ad => Nat.le_of_ble_eq_true rfl) ?_
  intro p e s m args below meth c G A ad wk wv ls X hE hH hl
  obtain ⟨hx, hb, hml, hT, hr, hlocks, hxc, hA⟩ := id X
  have hl : lv_has ls 2 [(0, .ref (ad 0)), (1, .int v)] := hl
  have h8 := hk.1.2
  have h60 := hk.2.1.2
  refine lv_iload_n hx hb dX1_shareAt_0 rfl (lv_at hl 1 rfl) ?_
  refine lv_iconst (v := 0) hx hb dX1_shareAt_1 (by decide) ?_
  refine lv_aload_n hx hb dX1_shareAt_2 rfl (lv_at hl 0 rfl) ?_
  refine gw_get (C := RX1) (T := TX1) (N := 21) (ci := 1) (fs := xx_fs1 ad σ.1.1) (v := .int (σ.1.1 17)) hx hb hT hH.1 0 xx_0 rfl in_X1 14 (by decide) rfl q190 rfl dX1_shareAt_3 ?_
  refine lv_as hk.2.1.1 ?_
  refine lv_iconst (v := 1) hx hb dX1_shareAt_6 (by decide) ?_
  refine lv_isub hx hb dX1_shareAt_7 ?_
  refine ss_ci (n := 3) (c_X1_isIn l v 0 ((nI nS) - 1)) hx hb hml hT.1 hT.2.1 (lw_S q254 q255 q33 q256) (by decide +kernel) ⟨Nat.le_of_ble_eq_true rfl, Nat.le_of_ble_eq_true rfl⟩ rfl hl.1 rfl (Nat.le_of_ble_eq_true rfl) dX1_shareAt_8 ⟨Nat.le_of_ble_eq_true rfl, Nat.le_of_ble_eq_true rfl⟩ (fun r_8 hp_8 => ?_)
  rcases hp_8 with ⟨rfl, h_8⟩ | ⟨rfl, h_8⟩
  · skip
    exact absurd ((in_rg (n := nS) (by omega) v).mp h_8) hno
  · skip
    exact xt_call (k := 1) (yy_S (n := 1) (c_X1_mustBe0 l hfl σ G A ad wk wv) hx hb hml hT hxc hA hH q441 (ex_code_of hT.2.1 q441) (ex_named (hT.2.1 _ q441)) q440 q33 q439 (by decide +kernel) ⟨Nat.le_of_ble_eq_true rfl, Nat.le_of_ble_eq_true rfl⟩ rfl hl.1 rfl (Nat.le_of_ble_eq_true rfl) dX1_shareAt_11 ⟨Nat.le_of_ble_eq_true rfl, Nat.le_of_ble_eq_true rfl⟩) hlocks hE xt_tq (fun q h => by cases h) (Nat.le_of_ble_eq_true rfl) (Nat.le_of_ble_eq_true rfl)

set_option maxHeartbeats 1000000 in
set_option maxRecDepth 100000 in
theorem c_X1_dugAt1 (l : Launch) (σ : xS) {nC nS : Nat} {nW : Nat → Nat} (hk : xk σ nC nS nW) (k : Nat) (hkk : k < nC) (hd : ¬ σ.1.2 8 k = -1) : xr_Cr l yX1_dugAt cX1_dugAt 3 (some (.object "DesertChannels$Channel")) 3 (fun ad => [.ref (ad 0), .int (nI k)]) σ (fun ad => .ref (ad (40 + k))) := by
  refine xr_ofr (by decide) (fun ad => Nat.le_of_ble_eq_true rfl) ?_
  intro p e s m args below meth c G ad wk ls X hH hl
  obtain ⟨hx, hb, hml, hT, hr, hlocks⟩ := id X
  have hl : lv_has ls 3 [(0, .ref (ad 0)), (1, .int (nI k))] := hl
  refine lv_aload_n hx hb dX1_dugAt_0 rfl (lv_at hl 0 rfl) ?_
  refine lv_iload_n hx hb dX1_dugAt_1 rfl (lv_at hl 1 rfl) ?_
  refine xr_Vr (n := 1) 0 ((c_X1_channelAt1 l σ hk k (by omega)) G ad wk) hx hb hml hT hH.1 hH.2.1 xx_0 rfl (lw_V q435 q437 qs4 q33 q438) (by decide +kernel) ⟨Nat.le_of_ble_eq_true rfl, Nat.le_of_ble_eq_true rfl⟩ rfl hl.1 rfl (Nat.le_of_ble_eq_true rfl) dX1_dugAt_2 ⟨Nat.le_of_ble_eq_true rfl, Nat.le_of_ble_eq_true rfl⟩ ?_
  refine lv_astore_n (lv' := [(2, .ref (ad (40 + k))), (0, .ref (ad 0)), (1, .int (nI k))]) hx hb dX1_dugAt_5 rfl hl (by decide) rfl (fun ls hl => ?_)
  refine lv_aload_n hx hb dX1_dugAt_6 rfl (lv_at hl 0 rfl) ?_
  refine xr_V (n := 0) (40 + k) ((c_X5_isDug l σ hk k (by omega)) G ad wk) hx hb hml hT hH.1 hH.2.1 (xx_chan hk (show k < nC by omega)) rfl (lw_V q280 q281 q282 q42 q283) (by decide +kernel) ⟨Nat.le_of_ble_eq_true rfl, Nat.le_of_ble_eq_true rfl⟩ rfl hl.1 rfl (Nat.le_of_ble_eq_true rfl) dX1_dugAt_7 ⟨Nat.le_of_ble_eq_true rfl, Nat.le_of_ble_eq_true rfl⟩ (fun r_7 hp_7 => ?_)
  rcases hp_7 with ⟨rfl, h_7⟩ | ⟨rfl, h_7⟩
  · skip
    refine tk_cSv (n := 1) (c_X1_stands1 l) hx hb hml hT.1 hT.2.1 (fun a U g mk h => h) (fun U hU hW => trivial) (lw_S q457 q458 q33 q459) (by decide +kernel) ⟨Nat.le_of_ble_eq_true rfl, Nat.le_of_ble_eq_true rfl⟩ rfl hl.1 rfl (Nat.le_of_ble_eq_true rfl) dX1_dugAt_10 ⟨Nat.le_of_ble_eq_true rfl, Nat.le_of_ble_eq_true rfl⟩ ?_
    refine lv_aload_n hx hb dX1_dugAt_13 rfl (lv_at hl 0 rfl) ?_
    exact xr_rr hx hb hr hlocks rfl dX1_dugAt_14
  · skip
    exact absurd h_7 hd

set_option maxHeartbeats 1000000 in
set_option maxRecDepth 100000 in
theorem c_X1_dugAt0 (l : Launch) (hfl : l.flags = pinnedFlags ++ [noTraceFlag]) (σ : xS) {nC nS : Nat} {nW : Nat → Nat} (hk : xk σ nC nS nW) (v : Int32) (hno : ¬ ∃ k, k < nC ∧ nI k = v) : xt_C l yX1_dugAt (Cond.code yX1_dugAt cX1_dugAt 3 (some (.object "DesertChannels$Channel"))) 8 (fun ad => [.ref (ad 0), .int v]) σ 1 := by
  refine xt_of (by decide) (fun ad => Nat.le_of_ble_eq_true rfl) ?_
  intro p e s m args below meth c G A ad wk wv ls X hE hH hl
  obtain ⟨hx, hb, hml, hT, hr, hlocks, hxc, hA⟩ := id X
  have hl : lv_has ls 3 [(0, .ref (ad 0)), (1, .int v)] := hl
  refine lv_aload_n hx hb dX1_dugAt_0 rfl (lv_at hl 0 rfl) ?_
  refine lv_iload_n hx hb dX1_dugAt_1 rfl (lv_at hl 1 rfl) ?_
  exact xt_call (k := 1) (yy_V (n := 1) 0 (c_X1_channelAt0 l hfl σ hk v hno G A ad wk wv) hx hb hml hT hxc hA hH xx_0 rfl q438 (ex_code_of hT.2.1 q438) q437 qs4 q33 q435 (by decide +kernel) ⟨Nat.le_of_ble_eq_true rfl, Nat.le_of_ble_eq_true rfl⟩ rfl hl.1 rfl (Nat.le_of_ble_eq_true rfl) dX1_dugAt_2 ⟨Nat.le_of_ble_eq_true rfl, Nat.le_of_ble_eq_true rfl⟩) hlocks hE xt_tq (fun q h => by cases h) (Nat.le_of_ble_eq_true rfl) (Nat.le_of_ble_eq_true rfl)

set_option maxHeartbeats 1000000 in
set_option maxRecDepth 100000 in
theorem c_X1_dugAt2 (l : Launch) (hfl : l.flags = pinnedFlags ++ [noTraceFlag]) (σ : xS) {nC nS : Nat} {nW : Nat → Nat} (hk : xk σ nC nS nW) (k : Nat) (hkk : k < nC) (hd : σ.1.2 8 k = -1) : xt_C l yX1_dugAt (Cond.code yX1_dugAt cX1_dugAt 3 (some (.object "DesertChannels$Channel"))) 8 (fun ad => [.ref (ad 0), .int (nI k)]) σ 2 := by
  refine xt_of (by decide) (fun ad => Nat.le_of_ble_eq_true rfl) ?_
  intro p e s m args below meth c G A ad wk wv ls X hE hH hl
  obtain ⟨hx, hb, hml, hT, hr, hlocks, hxc, hA⟩ := id X
  have hl : lv_has ls 3 [(0, .ref (ad 0)), (1, .int (nI k))] := hl
  refine lv_aload_n hx hb dX1_dugAt_0 rfl (lv_at hl 0 rfl) ?_
  refine lv_iload_n hx hb dX1_dugAt_1 rfl (lv_at hl 1 rfl) ?_
  refine xr_Vr (n := 1) 0 ((c_X1_channelAt1 l σ hk k (by omega)) G ad wk) hx hb hml hT hH.1 hH.2.1 xx_0 rfl (lw_V q435 q437 qs4 q33 q438) (by decide +kernel) ⟨Nat.le_of_ble_eq_true rfl, Nat.le_of_ble_eq_true rfl⟩ rfl hl.1 rfl (Nat.le_of_ble_eq_true rfl) dX1_dugAt_2 ⟨Nat.le_of_ble_eq_true rfl, Nat.le_of_ble_eq_true rfl⟩ ?_
  refine lv_astore_n (lv' := [(2, .ref (ad (40 + k))), (0, .ref (ad 0)), (1, .int (nI k))]) hx hb dX1_dugAt_5 rfl hl (by decide) rfl (fun ls hl => ?_)
  refine lv_aload_n hx hb dX1_dugAt_6 rfl (lv_at hl 0 rfl) ?_
  refine xr_V (n := 0) (40 + k) ((c_X5_isDug l σ hk k (by omega)) G ad wk) hx hb hml hT hH.1 hH.2.1 (xx_chan hk (show k < nC by omega)) rfl (lw_V q280 q281 q282 q42 q283) (by decide +kernel) ⟨Nat.le_of_ble_eq_true rfl, Nat.le_of_ble_eq_true rfl⟩ rfl hl.1 rfl (Nat.le_of_ble_eq_true rfl) dX1_dugAt_7 ⟨Nat.le_of_ble_eq_true rfl, Nat.le_of_ble_eq_true rfl⟩ (fun r_7 hp_7 => ?_)
  rcases hp_7 with ⟨rfl, h_7⟩ | ⟨rfl, h_7⟩
  · skip
    exact absurd hd h_7
  · skip
    exact xt_call (k := 2) (yy_S (n := 1) (c_X1_stands0 l hfl σ G A ad wk wv) hx hb hml hT hxc hA hH q459 (ex_code_of hT.2.1 q459) (ex_named (hT.2.1 _ q459)) q458 q33 q457 (by decide +kernel) ⟨Nat.le_of_ble_eq_true rfl, Nat.le_of_ble_eq_true rfl⟩ rfl hl.1 rfl (Nat.le_of_ble_eq_true rfl) dX1_dugAt_10 ⟨Nat.le_of_ble_eq_true rfl, Nat.le_of_ble_eq_true rfl⟩) hlocks hE xt_tq (fun q h => by cases h) (Nat.le_of_ble_eq_true rfl) (Nat.le_of_ble_eq_true rfl)
