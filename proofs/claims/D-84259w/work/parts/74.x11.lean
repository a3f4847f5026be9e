theorem ex_cov {es : List ExceptionTableEntry} {hh : List (Nat × Nat × Nat × Nat)} {pc : Nat} (hE : es.map (fun h => (h.startPc, h.endPc, h.handlerPc, h.catchType)) = hh) (h : ∀ x ∈ hh, ¬ (x.1 ≤ pc ∧ pc < x.2.1)) : ∀ y ∈ es, covers y pc = false := by
  intro y hy
  have h1 := h (y.startPc, y.endPc, y.handlerPc, y.catchType) (by rw [← hE]; exact List.mem_map_of_mem hy)
  rw [covers]
  rcases Nat.lt_or_ge pc y.startPc with q | q
  · rw [decide_eq_false (by omega), Bool.false_and]
  · rw [decide_eq_false (show ¬ pc < y.endPc from fun z => h1 ⟨q, z⟩), Bool.and_false]
def xLw (σ u : xS) : Prop := (∀ k, k ≠ 24 → k ≠ 25 → k ≠ 26 → k ≠ 28 → k ≠ 37 → σ.1.1 k = u.1.1 k) ∧ (∀ k, k ≠ 21 → k ≠ 22 → σ.1.2 k = u.1.2 k) ∧ σ.2 = u.2
theorem xLw_of {σ u : xS} {D0 : Nat → Int32} {nT : Nat} (h : xRp (xs_st (xs_st (xs_af (xs_st (xs_st σ 24 0) 28 (-1)) 22 D0) 26 (nI nT)) 25 0) u) : xLw σ u := by
  refine ⟨fun k h1 h2 h3 h4 h5 => ?_, fun k h1 h2 => ?_, h.2.2⟩
  · refine Eq.trans ?_ (h.1 k h2 h5)
    show σ.1.1 k = va_up (va_up (va_up (va_up σ.1.1 24 0) 28 (-1)) 26 (nI nT)) 25 0 k
    simp only [va_up, if_neg h1, if_neg h2, if_neg h3, if_neg h4]
  · refine Eq.trans ?_ (h.2.1 k h2)
    exact (xs_af_o (σ := xs_st (xs_st σ 24 0) 28 (-1)) h2).symm

set_option maxHeartbeats 1000000 in
set_option maxRecDepth 100000 in
theorem c_X1_law (l : Launch) (hfl : l.flags = pinnedFlags ++ [noTraceFlag]) (σ : xS) {nT : Nat} (h24 : σ.1.1 24 = nI nT) (hnT : nT ≤ 400) (htp : ∀ j, j < 400 → ((σ.1.2 23) j &&& 255 = 59 ↔ (σ.1.2 23) j = 59)) : xx_C l yX1_law (Cond.codeWith yX1_law cX1_law 4 (some .int) [(35, 48, 51, 260)]) 7 8 100 (fun ad => [.ref (ad 0)]) σ (fun r u => ∃ cnt d, pLaw (σ.1.2 23) nT (nT + 1) 0 0 (va_cpy (σ.1.2 21) (σ.1.2 22) 0 0 4) = .inr (cnt, d) ∧ cnt ≤ 401 ∧ xLw σ u ∧ u.1.1 24 = 0 ∧ u.1.1 28 = -1 ∧ (∀ j, j < 4 → u.1.2 21 j = d j) ∧ some (.int (nI cnt)) = r) (fun k u => k = 3 ∧ ∃ f, pLaw (σ.1.2 23) nT (nT + 1) 0 0 (va_cpy (σ.1.2 21) (σ.1.2 22) 0 0 4) = .inl f ∧ xLw σ u ∧ u.1.1 24 = 0 ∧ u.1.1 28 = nI f ∧ u.1.2 21 = σ.1.2 21) := by
  refine xx_ofW (by decide) (fun ad => Nat.le_of_ble_eq_true rfl) ?_
  intro p e s m args below meth c G A ad wk wv ls X hE hH hl
  obtain ⟨hx, hb, hml, hT, hr, hlocks, hxc, hA⟩ := id X
  have hl : lv_has ls 4 [(0, .ref (ad 0))] := hl
  refine lv_aload_n hx hb dX1_law_0 rfl (lv_at hl 0 rfl) ?_
  refine gw_get (C := RX1) (T := TX1) (N := 21) (ci := 1) (fs := xx_fs1 ad σ.1.1) (v := .ref (ad 1)) hx hb hT hH.1 0 xx_0 rfl in_X1 0 (by decide) rfl q176 rfl dX1_law_1 ?_
  refine gw_getN (C := RX2) (T := TX2) (N := 6) (ci := 2) (fs := xx_fs2 ad σ.1.1) (v := .int (σ.1.1 24)) hx hb hT hH.1 1 xx_1 rfl in_X2 3 (by decide) rfl (List.mem_of_getElem? (i := 2) rfl) rfl dX1_law_4 ?_
  refine lv_as h24 ?_
  refine lv_istore_n (lv' := [(1, .int (nI nT)), (0, .ref (ad 0))]) hx hb dX1_law_7 rfl hl (by decide) rfl (fun ls hl => ?_)
  refine lv_aload_n hx hb dX1_law_8 rfl (lv_at hl 1 rfl) ?_
  refine gw_get (C := RX1) (T := TX1) (N := 21) (ci := 1) (fs := xx_fs1 ad σ.1.1) (v := .ref (ad 1)) hx hb hT hH.1 0 xx_0 rfl in_X1 0 (by decide) rfl q176 rfl dX1_law_9 ?_
  refine lv_iconst (v := 0) hx hb dX1_law_12 (by decide) ?_
  refine gw_putN (C := RX2) (T := TX2) (N := 6) (ci := 2) (fs := xx_fs2 ad σ.1.1) (v := .int 0) hx hb hT hH 1 xx_1 rfl in_X2 tyX2 tyX2_ok nmX2 3 (by decide) rfl rfl (List.mem_of_getElem? (i := 2) rfl) rfl rfl (Nat.le_of_ble_eq_true rfl) dX1_law_13 (fun H locs hH => ?_)
  rw [xx_up2 (k := 3) (j := 24) (by decide) 0] at hH
  refine lv_aload_n hx hb dX1_law_16 rfl (lv_at hl 1 rfl) ?_
  refine lv_iconst (v := (-1)) hx hb dX1_law_17 (by decide) ?_
  refine gw_put (C := RX1) (T := TX1) (N := 21) (ci := 1) (fs := xx_fs1 ad (xs_st σ 24 0).1.1) (v := .int (-1)) hx hb hT hH 0 xx_0 rfl in_X1 tyX1 tyX1_ok nmX1 20 (by decide) rfl rfl q196 rfl rfl (Nat.le_of_ble_eq_true rfl) dX1_law_18 (fun H locs hH => ?_)
  rw [xx_up1 (k := 20) (j := 28) (by decide) (-1)] at hH
  refine lv_aload_n hx hb dX1_law_21 rfl (lv_at hl 1 rfl) ?_
  refine gw_get (C := RX1) (T := TX1) (N := 21) (ci := 1) (fs := xx_fs1 ad (xs_st (xs_st σ 24 0) 28 (-1)).1.1) (v := .ref (ad 21)) hx hb hT hH.1 0 xx_0 rfl in_X1 3 (by decide) rfl q179 rfl dX1_law_22 ?_
  refine lv_iconst (v := 0) hx hb dX1_law_25 (by decide) ?_
  refine lv_aload_n hx hb dX1_law_26 rfl (lv_at hl 1 rfl) ?_
  refine gw_get (C := RX1) (T := TX1) (N := 21) (ci := 1) (fs := xx_fs1 ad (xs_st (xs_st σ 24 0) 28 (-1)).1.1) (v := .ref (ad 22)) hx hb hT hH.1 0 xx_0 rfl in_X1 4 (by decide) rfl q180 rfl dX1_law_27 ?_
  refine lv_iconst (v := 0) hx hb dX1_law_30 (by decide) ?_
  refine lv_iconst (v := 4) hx hb dX1_law_31 (by decide) ?_
  refine xx_copy4 (i := 21) (j := 22) hx hb (hml.trans hl.1.symm) hT q680 hH rfl rfl (by decide) (by decide) rfl rfl (Nat.le_of_ble_eq_true rfl) (Nat.le_of_ble_eq_true rfl) dX1_law_32 (fun H locs hH => ?_)
  replace hH : xx_H G A s.heap H locs ad wk (xs_af (xs_st (xs_st σ 24 0) 28 (-1)) 22 (va_cpy (σ.1.2 21) (σ.1.2 22) 0 0 4)) := hH
  refine lv_aload_n hx hb dX1_law_35 rfl (lv_at hl 1 rfl) ?_
  refine gw_get (C := RX1) (T := TX1) (N := 21) (ci := 1) (fs := xx_fs1 ad (xs_af (xs_st (xs_st σ 24 0) 28 (-1)) 22 (va_cpy (σ.1.2 21) (σ.1.2 22) 0 0 4)).1.1) (v := .ref (ad 1)) hx hb hT hH.1 0 xx_0 rfl in_X1 0 (by decide) rfl q176 rfl dX1_law_36 ?_
  refine lv_iload_n hx hb dX1_law_39 rfl (lv_at hl 0 rfl) ?_
  refine lv_aload_n hx hb dX1_law_40 rfl (lv_at hl 1 rfl) ?_
  refine gw_get (C := RX1) (T := TX1) (N := 21) (ci := 1) (fs := xx_fs1 ad (xs_af (xs_st (xs_st σ 24 0) 28 (-1)) 22 (va_cpy (σ.1.2 21) (σ.1.2 22) 0 0 4)).1.1) (v := .ref (ad 22)) hx hb hT hH.1 0 xx_0 rfl in_X1 4 (by decide) rfl q180 rfl dX1_law_41 ?_
  refine xz_call (yy_V (n := 2) 1 (c_X2_read l (xs_af (xs_st (xs_st σ 24 0) 28 (-1)) 22 (va_cpy (σ.1.2 21) (σ.1.2 22) 0 0 4)) (nT := nT) hnT htp G A ad wk wv) hx hb hml hT hxc hA hH xx_1 rfl q686 (ex_code_of hT.2.1 q686) q684 q685 q34 q683 (by decide +kernel) ⟨Nat.le_of_ble_eq_true rfl, Nat.le_of_ble_eq_true rfl⟩ rfl hl.1 rfl (Nat.le_of_ble_eq_true rfl) dX1_law_44 ⟨Nat.le_of_ble_eq_true rfl, Nat.le_of_ble_eq_true rfl⟩) hH (fun v_44 u_44 H locs hH hp_44 => ?_) (fun a_44 k_44 u_44 H locs hH hp_44 hI_44 h6_44 => ?_)
  rotate_left
  · skip
    obtain ⟨rfl, f, hPL, hu, h37⟩ := hp_44
    obtain rfl := h6_44 rfl
    refine WT.caught (pc := 51) rfl (fun T hTH hpl => ex_find (own := RX1) (cls := fun _ => 6) (k := 6) hpl hT.1 hT.2.1 hxc.1.2 (by rw [hTH]; exact hI_44) [(35, 48, 51, 260)] c.exceptionTable.toList hE (fun x hx => by rw [List.mem_singleton] at hx; subst hx; exact ⟨by decide, q679, Or.inl rfl⟩) rfl) ?_
    refine lv_astore_n (lv' := [(3, .ref (ad 2)), (1, .int (nI nT)), (0, .ref (ad 0))]) hx hb dX1_law_51 rfl hl (by decide) rfl (fun ls hl => ?_)
    refine lv_aload_n hx hb dX1_law_52 rfl (lv_at hl 2 rfl) ?_
    refine lv_aload_n hx hb dX1_law_53 rfl (lv_at hl 0 rfl) ?_
    refine gw_getN (C := RX3) (T := TX3) (N := 7) (ci := 3) (fs := xx_fs3 u_44.1.1) (v := .int (nI f)) hx hb hT hH.1 2 xx_2 rfl in_X3 6 (by decide) rfl (List.mem_of_getElem? (i := 0) rfl) (congrArg some (congrArg Value.int h37)) dX1_law_54 ?_
    refine gw_put (C := RX1) (T := TX1) (N := 21) (ci := 1) (fs := xx_fs1 ad u_44.1.1) (v := .int (nI f)) hx hb hT hH 0 xx_0 rfl in_X1 tyX1 tyX1_ok nmX1 20 (by decide) rfl rfl q196 rfl rfl (Nat.le_of_ble_eq_true rfl) dX1_law_57 (fun H locs hH => ?_)
    rw [xx_up1 (k := 20) (j := 28) (by decide) (nI f)] at hH
    have hLW : xLw σ (xs_st u_44 28 (nI f)) := by
      have h := xLw_of hu
      exact ⟨fun k h1 h2 h3 h4 h5 => (h.1 k h1 h2 h3 h4 h5).trans (by show _ = va_up u_44.1.1 28 (nI f) k; simp only [va_up, if_neg h4]), h.2.1, h.2.2⟩
    refine W.widen (k := 7) (n := 94) (Nat.le_of_ble_eq_true rfl) (Nat.le_of_ble_eq_true rfl) ?_
    exact ex_thrH (own := RX1) (cls := "java/lang/IllegalArgumentException") (ic := 69) (inw := 67) hx hb hfl hT.1 hT.2.1 (by decide +kernel) (fun U hU hW => ex_ats3 (A := A) hT.2.1 hxc.1 hW (hxc.at hW hH.2.2 hU).2.1) q321 q40 q322 (ex_cov hE (by decide)) hlocks hml hl.1 dX1_law_60 dX1_law_63 dX1_law_64 dX1_law_67 (Nat.le_of_ble_eq_true rfl) (Nat.le_of_ble_eq_true rfl) (Nat.le_of_ble_eq_true rfl) (Nat.le_of_ble_eq_true rfl) (xx_tq hT hH (fun _ _ _ => rfl) (k := 3) (by decide) (⟨rfl, f, hPL, hLW, (hu.1 24 (by decide) (by decide)).symm, rfl, (hu.2.1 21 (by decide)).symm⟩)) hH.2.2.2.2
  obtain ⟨cnt, dd, hPL, hc4, hu, h22, rfl⟩ := hp_44
  refine lv_istore_n (lv' := [(2, .int (nI cnt)), (1, .int (nI nT)), (0, .ref (ad 0))]) hx hb dX1_law_47 rfl hl (by decide) rfl (fun ls hl => ?_)
  refine lv_goto (tgt := 68) hx hb dX1_law_48 (by decide) ?_
  refine lv_aload_n hx hb dX1_law_68 rfl (lv_at hl 2 rfl) ?_
  refine gw_get (C := RX1) (T := TX1) (N := 21) (ci := 1) (fs := xx_fs1 ad u_44.1.1) (v := .ref (ad 22)) hx hb hT hH.1 0 xx_0 rfl in_X1 4 (by decide) rfl q180 rfl dX1_law_69 ?_
  refine lv_iconst (v := 0) hx hb dX1_law_72 (by decide) ?_
  refine lv_aload_n hx hb dX1_law_73 rfl (lv_at hl 2 rfl) ?_
  refine gw_get (C := RX1) (T := TX1) (N := 21) (ci := 1) (fs := xx_fs1 ad u_44.1.1) (v := .ref (ad 21)) hx hb hT hH.1 0 xx_0 rfl in_X1 3 (by decide) rfl q179 rfl dX1_law_74 ?_
  refine lv_iconst (v := 0) hx hb dX1_law_77 (by decide) ?_
  refine lv_iconst (v := 4) hx hb dX1_law_78 (by decide) ?_
  refine xx_copy4 (i := 22) (j := 21) hx hb (hml.trans hl.1.symm) hT q680 hH rfl rfl (by decide) (by decide) rfl rfl (Nat.le_of_ble_eq_true rfl) (Nat.le_of_ble_eq_true rfl) dX1_law_79 (fun H locs hH => ?_)
  have hLW : xLw σ (xs_af u_44 21 (va_cpy (u_44.1.2 22) (u_44.1.2 21) 0 0 4)) := by
    have h := xLw_of hu
    exact ⟨h.1, fun k h1 h2 => (h.2.1 k h1 h2).trans (xs_af_o h1).symm, h.2.2⟩
  refine lv_iload_n hx hb dX1_law_82 rfl (lv_at hl 0 rfl) ?_
  exact xx_ri hx hb hr hlocks hT hH (fun _ _ _ => rfl) rfl dX1_law_83 (⟨cnt, dd, hPL, hc4, hLW, (hu.1 24 (by decide) (by decide)).symm, (hu.1 28 (by decide) (by decide)).symm, fun j hj => by rw [xs_af_s, va_cpy, if_pos ⟨Nat.zero_le _, by omega⟩, h22]; congr 1; omega, rfl⟩) (Nat.le_of_ble_eq_true rfl) (Nat.le_of_ble_eq_true rfl)
