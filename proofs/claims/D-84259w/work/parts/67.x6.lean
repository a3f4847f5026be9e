def xBe (σ : xS) (k : Nat) (f t o : Int32) : xS := xs_ar (xs_ar (xs_ar (xs_ar σ 16 (7 * k + 1) f) 16 (7 * k + 2) t) 16 (7 * k + 3) o) 16 (7 * k + 4) (-1)
def xSell (σ : xS) (k n q : Nat) (f t o : Int32) : xS :=
  if σ.1.2 16 (7 * k + 1) < f then (if t < σ.1.2 16 (7 * k + 2) then xBe (xAdd (xAdd σ n q (σ.1.2 16 (7 * k + 1)) f (σ.1.2 16 (7 * k + 3))) (n + 1) q t (σ.1.2 16 (7 * k + 2)) (σ.1.2 16 (7 * k + 3))) k f t o else xBe (xAdd σ n q (σ.1.2 16 (7 * k + 1)) f (σ.1.2 16 (7 * k + 3))) k f t o)
  else (if t < σ.1.2 16 (7 * k + 2) then xBe (xAdd σ n q t (σ.1.2 16 (7 * k + 2)) (σ.1.2 16 (7 * k + 3))) k f t o else xBe σ k f t o)

set_option maxHeartbeats 1000000 in
set_option maxRecDepth 100000 in
theorem c_X7_be (l : Launch) (σ : xS) {nC nS : Nat} {nW : Nat → Nat} (hk : xk σ nC nS nW) (k : Nat) (hkS : k < nS) (f t o : Int32) : xz_C l yX7_be (Cond.code yX7_be cX7_be 4 none) 1 0 0 (fun ad => [.ref (ad (220 + k)), .int f, .int t, .int o]) σ (fun r u => none = r ∧ xBe σ k f t o = u) (fun _ _ => False) := by
  refine xz_of (by decide) (fun ad => Nat.le_of_ble_eq_true rfl) ?_
  intro p e s m args below meth c G A ad wk wv ls X hE hH hl
  obtain ⟨hx, hb, hml, hT, hr, hlocks, hxc, hA⟩ := id X
  have hl : lv_has ls 4 [(0, .ref (ad (220 + k))), (1, .int f), (2, .int t), (3, .int o)] := hl
  refine lv_aload_n hx hb dX7_be_0 rfl (lv_at hl 0 rfl) ?_
  refine lv_iload_n hx hb dX7_be_1 rfl (lv_at hl 1 rfl) ?_
  refine gw_put (C := RX7) (T := TX7) (N := 8) (ci := 6) (fs := xx_fs7 ad σ.1 k) (v := .int f) hx hb hT hH (220 + k) (xx_share hk (k := k) (by omega)) rfl in_X7 tyX7 tyX7_ok nmX7 2 (by decide) rfl rfl q532 rfl rfl (Nat.le_of_ble_eq_true rfl) dX7_be_2 (fun H locs hH => ?_)
  rw [xx_up7 hk (show k < nS by omega) (k := 2) (o := 1) (by decide) f] at hH
  have hk := hk.sh (n := k) (o := 1) f (by decide)
  refine lv_aload_n hx hb dX7_be_5 rfl (lv_at hl 0 rfl) ?_
  refine lv_iload_n hx hb dX7_be_6 rfl (lv_at hl 2 rfl) ?_
  refine gw_put (C := RX7) (T := TX7) (N := 8) (ci := 6) (fs := xx_fs7 ad (xs_ar σ 16 (7 * k + 1) f).1 k) (v := .int t) hx hb hT hH (220 + k) (xx_share hk (k := k) (by omega)) rfl in_X7 tyX7 tyX7_ok nmX7 3 (by decide) rfl rfl q534 rfl rfl (Nat.le_of_ble_eq_true rfl) dX7_be_7 (fun H locs hH => ?_)
  rw [xx_up7 hk (show k < nS by omega) (k := 3) (o := 2) (by decide) t] at hH
  have hk := hk.sh (n := k) (o := 2) t (by decide)
  refine lv_aload_n hx hb dX7_be_10 rfl (lv_at hl 0 rfl) ?_
  refine lv_iload_n hx hb dX7_be_11 rfl (lv_at hl 3 rfl) ?_
  refine gw_put (C := RX7) (T := TX7) (N := 8) (ci := 6) (fs := xx_fs7 ad (xs_ar (xs_ar σ 16 (7 * k + 1) f) 16 (7 * k + 2) t).1 k) (v := .int o) hx hb hT hH (220 + k) (xx_share hk (k := k) (by omega)) rfl in_X7 tyX7 tyX7_ok nmX7 4 (by decide) rfl rfl q536 rfl rfl (Nat.le_of_ble_eq_true rfl) dX7_be_12 (fun H locs hH => ?_)
  rw [xx_up7 hk (show k < nS by omega) (k := 4) (o := 3) (by decide) o] at hH
  have hk := hk.sh (n := k) (o := 3) o (by decide)
  refine lv_aload_n hx hb dX7_be_15 rfl (lv_at hl 0 rfl) ?_
  refine lv_iconst (v := (-1)) hx hb dX7_be_16 (by decide) ?_
  refine gw_put (C := RX7) (T := TX7) (N := 8) (ci := 6) (fs := xx_fs7 ad (xs_ar (xs_ar (xs_ar σ 16 (7 * k + 1) f) 16 (7 * k + 2) t) 16 (7 * k + 3) o).1 k) (v := .int (-1)) hx hb hT hH (220 + k) (xx_share hk (k := k) (by omega)) rfl in_X7 tyX7 tyX7_ok nmX7 5 (by decide) rfl rfl q538 rfl rfl (Nat.le_of_ble_eq_true rfl) dX7_be_17 (fun H locs hH => ?_)
  rw [xx_up7 hk (show k < nS by omega) (k := 5) (o := 4) (by decide) (-1)] at hH
  have hk := hk.sh (n := k) (o := 4) (-1) (by decide)
  exact xz_rv hx hb hr hlocks hT hH dX7_be_20 (⟨rfl, rfl⟩) (Nat.le_of_ble_eq_true rfl) (Nat.le_of_ble_eq_true rfl)

set_option maxHeartbeats 1000000 in
set_option maxRecDepth 100000 in
theorem c_X1_sell (l : Launch) (hfl : l.flags = pinnedFlags ++ [noTraceFlag]) (σ : xS) {nC nS : Nat} {nW : Nat → Nat} (hk : xk σ nC nS nW) (v f t o : Int32) : xx_C l yX1_sell (Cond.code yX1_sell cX1_sell 8 none) 9 8 100 (fun ad => [.ref (ad 0), .int v, .int f, .int t, .int o]) σ (fun r u => none = r ∧ ∃ k, k < nS ∧ nI k = v ∧ ∃ q, q < nC ∧ σ.1.2 16 (7 * k) = nI q ∧ ¬ (¬ σ.1.2 16 (7 * k + 4) = -1 ∧ σ.1.1 4 < σ.1.2 16 (7 * k + 6)) ∧ ((0 ≤ o ∧ o ≤ 30) ∧ σ.1.2 16 (7 * k + 1) ≤ f ∧ f < t ∧ t ≤ σ.1.2 16 (7 * k + 2)) ∧ nS + pMore σ.1 k f t ≤ 60 ∧ xSell σ k nS q f t o = u) (fun z u => σ = u ∧ ((z = 1 ∧ (¬ ∃ k, k < nS ∧ nI k = v)) ∨ ∃ k, k < nS ∧ nI k = v ∧ ((z = 2 ∧ (¬ σ.1.2 16 (7 * k + 4) = -1 ∧ σ.1.1 4 < σ.1.2 16 (7 * k + 6))) ∨ (¬ (¬ σ.1.2 16 (7 * k + 4) = -1 ∧ σ.1.1 4 < σ.1.2 16 (7 * k + 6)) ∧ ((z = 3 ∧ ¬ ((0 ≤ o ∧ o ≤ 30) ∧ σ.1.2 16 (7 * k + 1) ≤ f ∧ f < t ∧ t ≤ σ.1.2 16 (7 * k + 2))) ∨ (((0 ≤ o ∧ o ≤ 30) ∧ σ.1.2 16 (7 * k + 1) ≤ f ∧ f < t ∧ t ≤ σ.1.2 16 (7 * k + 2)) ∧ z = 4 ∧ 60 < nS + pMore σ.1 k f t)))))) := by
  refine xx_of (by decide) (fun ad => Nat.le_of_ble_eq_true rfl) ?_
  intro p e s m args below meth c G A ad wk wv ls X hE hH hl
  obtain ⟨hx, hb, hml, hT, hr, hlocks, hxc, hA⟩ := id X
  have hl : lv_has ls 8 [(0, .ref (ad 0)), (1, .int v), (2, .int f), (3, .int t), (4, .int o)] := hl
  have h8 := hk.1.2
  have h60 := hk.2.1.2
  have hk0 := hk
  have hx0 : ∀ i x, xx_w G ad wk σ i = some x → ad i = ad i := fun _ _ _ => rfl
  refine lv_aload_n hx hb dX1_sell_0 rfl (lv_at hl 0 rfl) ?_
  refine lv_iload_n hx hb dX1_sell_1 rfl (lv_at hl 1 rfl) ?_
  by_cases h_2 : ∃ k, k < nS ∧ nI k = v
  · skip
    obtain ⟨k, hkk, rfl⟩ := h_2
    refine xr_Vr (n := 1) 0 ((c_X1_shareAt1 l σ hk k (by omega)) G ad wk) hx hb hml hT hH.1 hH.2.1 xx_0 rfl (lw_V q607 q609 qs8 q33 q610) (by decide +kernel) ⟨Nat.le_of_ble_eq_true rfl, Nat.le_of_ble_eq_true rfl⟩ rfl hl.1 rfl (Nat.le_of_ble_eq_true rfl) dX1_sell_2 ⟨Nat.le_of_ble_eq_true rfl, Nat.le_of_ble_eq_true rfl⟩ ?_
    refine lv_astore (lv' := [(5, .ref (ad (220 + k))), (0, .ref (ad 0)), (1, .int (nI k)), (2, .int f), (3, .int t), (4, .int o)]) hx hb dX1_sell_5 hl (by decide) rfl (fun ls hl => ?_)
    refine lv_aload hx hb dX1_sell_7 (lv_at hl 0 rfl) ?_
    refine lv_aload_n hx hb dX1_sell_9 rfl (lv_at hl 1 rfl) ?_
    refine gw_get (C := RX1) (T := TX1) (N := 21) (ci := 1) (fs := xx_fs1 ad σ.1.1) (v := .int (σ.1.1 4)) hx hb hT hH.1 0 xx_0 rfl in_X1 18 (by decide) rfl q194 rfl dX1_sell_10 ?_
    refine xr_V (n := 1) (220 + k) ((c_X7_isLet l σ hk k (by omega) (σ.1.1 4)) G ad wk) hx hb hml hT hH.1 hH.2.1 (xx_share hk (k := k) (by omega)) rfl (lw_V q276 q277 q278 q49 q279) (by decide +kernel) ⟨Nat.le_of_ble_eq_true rfl, Nat.le_of_ble_eq_true rfl⟩ rfl hl.1 rfl (Nat.le_of_ble_eq_true rfl) dX1_sell_13 ⟨Nat.le_of_ble_eq_true rfl, Nat.le_of_ble_eq_true rfl⟩ (fun r_13 hp_13 => ?_)
    rcases hp_13 with ⟨rfl, h_13⟩ | ⟨rfl, h_13⟩
    · skip
      refine lv_if_ne (tgt := 23) hx hb dX1_sell_16 (by decide) (fun c_16 => ?_) (fun c_16 => ?_)
      · skip
        refine lv_iconst (v := 0) hx hb dX1_sell_23 (by decide) ?_
        exact xt_call (k := 2) (yy_S (n := 1) (c_X1_stands0 l hfl σ G A ad wk wv) hx hb hml hT hxc hA hH q459 (ex_code_of hT.2.1 q459) (ex_named (hT.2.1 _ q459)) q458 q33 q457 (by decide +kernel) ⟨Nat.le_of_ble_eq_true rfl, Nat.le_of_ble_eq_true rfl⟩ rfl hl.1 rfl (Nat.le_of_ble_eq_true rfl) dX1_sell_24 ⟨Nat.le_of_ble_eq_true rfl, Nat.le_of_ble_eq_true rfl⟩) hlocks hE (xx_tq hT hH (fun _ _ _ => rfl) (by decide) (⟨rfl, Or.inr ⟨k, hkk, rfl, Or.inl ⟨rfl, h_13⟩⟩⟩)) hH.2.2.2.2 (Nat.le_of_ble_eq_true rfl) (Nat.le_of_ble_eq_true rfl)
      · skip
        exact absurd c_16 (by decide)
    · skip
      refine lv_if_ne (tgt := 23) hx hb dX1_sell_16 (by decide) (fun c_16 => ?_) (fun c_16 => ?_)
      · skip
        exact absurd c_16 (by decide)
      · skip
        refine lv_iconst (v := 1) hx hb dX1_sell_19 (by decide) ?_
        refine lv_goto (tgt := 24) hx hb dX1_sell_20 (by decide) ?_
        refine tk_cSv (n := 1) (c_X1_stands1 l) hx hb hml hT.1 hT.2.1 (fun a U g mk h => h) (fun U hU hW => trivial) (lw_S q457 q458 q33 q459) (by decide +kernel) ⟨Nat.le_of_ble_eq_true rfl, Nat.le_of_ble_eq_true rfl⟩ rfl hl.1 rfl (Nat.le_of_ble_eq_true rfl) dX1_sell_24 ⟨Nat.le_of_ble_eq_true rfl, Nat.le_of_ble_eq_true rfl⟩ ?_
        refine lv_iload_n hx hb dX1_sell_27 rfl (lv_at hl 3 rfl) ?_
        refine lv_aload hx hb dX1_sell_28 (lv_at hl 0 rfl) ?_
        refine gw_getN (C := RX7) (T := TX7) (N := 8) (ci := 6) (fs := xx_fs7 ad σ.1 k) (v := .int (σ.1.2 16 (7 * k + 1))) hx hb hT hH.1 (220 + k) (xx_share hk (k := k) (by omega)) rfl in_X7 2 (by decide) rfl (List.mem_of_getElem? (i := 13) rfl) rfl dX1_sell_30 ?_
        refine lv_icmp_lt (tgt := 62) hx hb dX1_sell_33 (by decide) (fun c_33 => ?_) (fun c_33 => ?_)
        · skip
          refine lv_iconst (v := 0) hx hb dX1_sell_62 (by decide) ?_
          exact xt_call (k := 3) (yy_S (n := 1) (c_X1_must0 l hfl σ G A ad wk wv) hx hb hml hT hxc hA hH q320 (ex_code_of hT.2.1 q320) (ex_named (hT.2.1 _ q320)) q319 q33 q318 (by decide +kernel) ⟨Nat.le_of_ble_eq_true rfl, Nat.le_of_ble_eq_true rfl⟩ rfl hl.1 rfl (Nat.le_of_ble_eq_true rfl) dX1_sell_63 ⟨Nat.le_of_ble_eq_true rfl, Nat.le_of_ble_eq_true rfl⟩) hlocks hE (xx_tq hT hH (fun _ _ _ => rfl) (by decide) (⟨rfl, Or.inr ⟨k, hkk, rfl, Or.inr ⟨h_13, Or.inl ⟨rfl, fun g => absurd g.2.1 (Int32.not_le.mpr c_33)⟩⟩⟩⟩)) hH.2.2.2.2 (Nat.le_of_ble_eq_true rfl) (Nat.le_of_ble_eq_true rfl)
        · skip
          refine lv_iload_n hx hb dX1_sell_36 rfl (lv_at hl 3 rfl) ?_
          refine lv_iload_n hx hb dX1_sell_37 rfl (lv_at hl 4 rfl) ?_
          refine lv_icmp_ge (tgt := 62) hx hb dX1_sell_38 (by decide) (fun c_38 => ?_) (fun c_38 => ?_)
          · skip
            refine lv_iconst (v := 0) hx hb dX1_sell_62 (by decide) ?_
            exact xt_call (k := 3) (yy_S (n := 1) (c_X1_must0 l hfl σ G A ad wk wv) hx hb hml hT hxc hA hH q320 (ex_code_of hT.2.1 q320) (ex_named (hT.2.1 _ q320)) q319 q33 q318 (by decide +kernel) ⟨Nat.le_of_ble_eq_true rfl, Nat.le_of_ble_eq_true rfl⟩ rfl hl.1 rfl (Nat.le_of_ble_eq_true rfl) dX1_sell_63 ⟨Nat.le_of_ble_eq_true rfl, Nat.le_of_ble_eq_true rfl⟩) hlocks hE (xx_tq hT hH (fun _ _ _ => rfl) (by decide) (⟨rfl, Or.inr ⟨k, hkk, rfl, Or.inr ⟨h_13, Or.inl ⟨rfl, fun g => absurd g.2.2.1 (Int32.not_lt.mpr c_38)⟩⟩⟩⟩)) hH.2.2.2.2 (Nat.le_of_ble_eq_true rfl) (Nat.le_of_ble_eq_true rfl)
          · skip
            refine lv_iload_n hx hb dX1_sell_41 rfl (lv_at hl 4 rfl) ?_
            refine lv_aload hx hb dX1_sell_42 (lv_at hl 0 rfl) ?_
            refine gw_getN (C := RX7) (T := TX7) (N := 8) (ci := 6) (fs := xx_fs7 ad σ.1 k) (v := .int (σ.1.2 16 (7 * k + 2))) hx hb hT hH.1 (220 + k) (xx_share hk (k := k) (by omega)) rfl in_X7 3 (by decide) rfl (List.mem_of_getElem? (i := 14) rfl) rfl dX1_sell_44 ?_
            refine lv_icmp_gt (tgt := 62) hx hb dX1_sell_47 (by decide) (fun c_47 => ?_) (fun c_47 => ?_)
            · skip
              refine lv_iconst (v := 0) hx hb dX1_sell_62 (by decide) ?_
              exact xt_call (k := 3) (yy_S (n := 1) (c_X1_must0 l hfl σ G A ad wk wv) hx hb hml hT hxc hA hH q320 (ex_code_of hT.2.1 q320) (ex_named (hT.2.1 _ q320)) q319 q33 q318 (by decide +kernel) ⟨Nat.le_of_ble_eq_true rfl, Nat.le_of_ble_eq_true rfl⟩ rfl hl.1 rfl (Nat.le_of_ble_eq_true rfl) dX1_sell_63 ⟨Nat.le_of_ble_eq_true rfl, Nat.le_of_ble_eq_true rfl⟩) hlocks hE (xx_tq hT hH (fun _ _ _ => rfl) (by decide) (⟨rfl, Or.inr ⟨k, hkk, rfl, Or.inr ⟨h_13, Or.inl ⟨rfl, fun g => absurd g.2.2.2 (Int32.not_le.mpr c_47)⟩⟩⟩⟩)) hH.2.2.2.2 (Nat.le_of_ble_eq_true rfl) (Nat.le_of_ble_eq_true rfl)
            · skip
              refine lv_iload hx hb dX1_sell_50 (lv_at hl 5 rfl) ?_
              refine ss_ci (n := 1) (c_X1_isOwner l o) hx hb hml hT.1 hT.2.1 (lw_S q516 q517 q33 q518) (by decide +kernel) ⟨Nat.le_of_ble_eq_true rfl, Nat.le_of_ble_eq_true rfl⟩ rfl hl.1 rfl (Nat.le_of_ble_eq_true rfl) dX1_sell_52 ⟨Nat.le_of_ble_eq_true rfl, Nat.le_of_ble_eq_true rfl⟩ (fun r_52 hp_52 => ?_)
              rcases hp_52 with ⟨rfl, h_52⟩ | ⟨rfl, h_52⟩
              · skip
                refine lv_if_eq (tgt := 62) hx hb dX1_sell_55 (by decide) (fun c_55 => ?_) (fun c_55 => ?_)
                · skip
                  exact absurd c_55 (by decide)
                · skip
                  refine lv_iconst (v := 1) hx hb dX1_sell_58 (by decide) ?_
                  refine lv_goto (tgt := 63) hx hb dX1_sell_59 (by decide) ?_
                  refine tk_cSv (n := 1) (c_X1_must1 l) hx hb hml hT.1 hT.2.1 (fun a U g mk h => h) (fun U hU hW => trivial) (lw_S q318 q319 q33 q320) (by decide +kernel) ⟨Nat.le_of_ble_eq_true rfl, Nat.le_of_ble_eq_true rfl⟩ rfl hl.1 rfl (Nat.le_of_ble_eq_true rfl) dX1_sell_63 ⟨Nat.le_of_ble_eq_true rfl, Nat.le_of_ble_eq_true rfl⟩ ?_
                  refine lv_iload_n hx hb dX1_sell_66 rfl (lv_at hl 3 rfl) ?_
                  refine lv_aload hx hb dX1_sell_67 (lv_at hl 0 rfl) ?_
                  refine gw_getN (C := RX7) (T := TX7) (N := 8) (ci := 6) (fs := xx_fs7 ad σ.1 k) (v := .int (σ.1.2 16 (7 * k + 1))) hx hb hT hH.1 (220 + k) (xx_share hk (k := k) (by omega)) rfl in_X7 2 (by decide) rfl (List.mem_of_getElem? (i := 13) rfl) rfl dX1_sell_69 ?_
                  refine lv_icmp_le (tgt := 79) hx hb dX1_sell_72 (by decide) (fun c_72 => ?_) (fun c_72 => ?_)
                  · skip
                    refine lv_iconst (v := 0) hx hb dX1_sell_79 (by decide) ?_
                    refine lv_iload_n hx hb dX1_sell_80 rfl (lv_at hl 4 rfl) ?_
                    refine lv_aload hx hb dX1_sell_81 (lv_at hl 0 rfl) ?_
                    refine gw_getN (C := RX7) (T := TX7) (N := 8) (ci := 6) (fs := xx_fs7 ad σ.1 k) (v := .int (σ.1.2 16 (7 * k + 2))) hx hb hT hH.1 (220 + k) (xx_share hk (k := k) (by omega)) rfl in_X7 3 (by decide) rfl (List.mem_of_getElem? (i := 14) rfl) rfl dX1_sell_83 ?_
                    refine lv_icmp_ge (tgt := 93) hx hb dX1_sell_86 (by decide) (fun c_86 => ?_) (fun c_86 => ?_)
                    · skip
                      refine lv_iconst (v := 0) hx hb dX1_sell_93 (by decide) ?_
                      refine lv_iadd hx hb dX1_sell_94 ?_
                      refine lv_as (nI_add 0 0) ?_
                      refine lv_istore (lv' := [(6, .int (nI (0 + 0))), (5, .ref (ad (220 + k))), (0, .ref (ad 0)), (1, .int (nI k)), (2, .int f), (3, .int t), (4, .int o)]) hx hb dX1_sell_95 hl (by decide) rfl (fun ls hl => ?_)
                      have hpm := (show pMore σ.1 k f t = 0 + 0 by unfold pMore; rw [if_neg (Int32.not_lt.mpr c_72), if_neg (Int32.not_lt.mpr c_86)])
                      refine lv_aload_n hx hb dX1_sell_97 rfl (lv_at hl 2 rfl) ?_
                      refine gw_get (C := RX1) (T := TX1) (N := 21) (ci := 1) (fs := xx_fs1 ad σ.1.1) (v := .int (σ.1.1 17)) hx hb hT hH.1 0 xx_0 rfl in_X1 14 (by decide) rfl q190 rfl dX1_sell_98 ?_
                      refine lv_as hk.2.1.1 ?_
                      refine lv_iload hx hb dX1_sell_101 (lv_at hl 0 rfl) ?_
                      refine lv_iadd hx hb dX1_sell_103 ?_
                      refine lv_as (nI_add nS (0 + 0)) ?_
                      refine lv_bipush (v := 60) hx hb dX1_sell_104 (by decide) ?_
                      refine lv_icmp_gt (tgt := 113) hx hb dX1_sell_106 (by decide) (fun c_106 => ?_) (fun c_106 => ?_)
                      · skip
                        have c_106 : 60 < (nS + (0 + 0)) := (nI_ltI (a := 60) (b := (nS + (0 + 0))) (by omega) (by omega)).mp c_106
                        refine lv_iconst (v := 0) hx hb dX1_sell_113 (by decide) ?_
                        exact xt_call (k := 4) (yy_S (n := 1) (c_X1_mayBe0 l hfl σ G A ad wk wv) hx hb hml hT hxc hA hH q352 (ex_code_of hT.2.1 q352) (ex_named (hT.2.1 _ q352)) q351 q33 q350 (by decide +kernel) ⟨Nat.le_of_ble_eq_true rfl, Nat.le_of_ble_eq_true rfl⟩ rfl hl.1 rfl (Nat.le_of_ble_eq_true rfl) dX1_sell_114 ⟨Nat.le_of_ble_eq_true rfl, Nat.le_of_ble_eq_true rfl⟩) hlocks hE (xx_tq hT hH (fun _ _ _ => rfl) (by decide) (⟨rfl, Or.inr ⟨k, hkk, rfl, Or.inr ⟨h_13, Or.inr ⟨⟨h_52, in_ge c_33, in_lt c_38, in_ge c_47⟩, rfl, by rw [hpm]; omega⟩⟩⟩⟩)) hH.2.2.2.2 (Nat.le_of_ble_eq_true rfl) (Nat.le_of_ble_eq_true rfl)
                      · skip
                        have c_106 : ¬ (60 < (nS + (0 + 0))) := fun h => c_106 ((nI_ltI (a := 60) (b := (nS + (0 + 0))) (by omega) (by omega)).mpr h)
                        refine lv_iconst (v := 1) hx hb dX1_sell_109 (by decide) ?_
                        refine lv_goto (tgt := 114) hx hb dX1_sell_110 (by decide) ?_
                        refine tk_cSv (n := 1) (c_X1_mayBe1 l) hx hb hml hT.1 hT.2.1 (fun a U g mk h => h) (fun U hU hW => trivial) (lw_S q350 q351 q33 q352) (by decide +kernel) ⟨Nat.le_of_ble_eq_true rfl, Nat.le_of_ble_eq_true rfl⟩ rfl hl.1 rfl (Nat.le_of_ble_eq_true rfl) dX1_sell_114 ⟨Nat.le_of_ble_eq_true rfl, Nat.le_of_ble_eq_true rfl⟩ ?_
                        obtain ⟨q, hqc, hq⟩ := hk.2.2.2 k (by omega)
                        refine lv_aload hx hb dX1_sell_117 (lv_at hl 1 rfl) ?_
                        refine gw_getN (C := RX7) (T := TX7) (N := 8) (ci := 6) (fs := xx_fs7 ad σ.1 k) (v := .int (σ.1.2 16 (7 * k + 3))) hx hb hT hH.1 (220 + k) (xx_share hk (k := k) (by omega)) rfl in_X7 4 (by decide) rfl (List.mem_of_getElem? (i := 15) rfl) rfl dX1_sell_119 ?_
                        refine lv_istore (lv' := [(7, .int (σ.1.2 16 (7 * k + 3))), (6, .int (nI (0 + 0))), (5, .ref (ad (220 + k))), (0, .ref (ad 0)), (1, .int (nI k)), (2, .int f), (3, .int t), (4, .int o)]) hx hb dX1_sell_122 hl (by decide) rfl (fun ls hl => ?_)
                        refine lv_iload_n hx hb dX1_sell_124 rfl (lv_at hl 5 rfl) ?_
                        refine lv_aload hx hb dX1_sell_125 (lv_at hl 2 rfl) ?_
                        refine gw_getN (C := RX7) (T := TX7) (N := 8) (ci := 6) (fs := xx_fs7 ad σ.1 k) (v := .int (σ.1.2 16 (7 * k + 1))) hx hb hT hH.1 (220 + k) (xx_share hk (k := k) (by omega)) rfl in_X7 2 (by decide) rfl (List.mem_of_getElem? (i := 13) rfl) rfl dX1_sell_127 ?_
                        refine lv_icmp_le (tgt := 155) hx hb dX1_sell_130 (by decide) (fun c_130 => ?_) (fun c_130 => ?_)
                        · skip
                          refine lv_iload_n hx hb dX1_sell_155 rfl (lv_at hl 6 rfl) ?_
                          refine lv_aload hx hb dX1_sell_156 (lv_at hl 2 rfl) ?_
                          refine gw_getN (C := RX7) (T := TX7) (N := 8) (ci := 6) (fs := xx_fs7 ad σ.1 k) (v := .int (σ.1.2 16 (7 * k + 2))) hx hb hT hH.1 (220 + k) (xx_share hk (k := k) (by omega)) rfl in_X7 3 (by decide) rfl (List.mem_of_getElem? (i := 14) rfl) rfl dX1_sell_158 ?_
                          refine lv_icmp_ge (tgt := 186) hx hb dX1_sell_161 (by decide) (fun c_161 => ?_) (fun c_161 => ?_)
                          · skip
                            refine lv_aload hx hb dX1_sell_186 (lv_at hl 2 rfl) ?_
                            refine lv_iload_n hx hb dX1_sell_188 rfl (lv_at hl 5 rfl) ?_
                            refine lv_iload_n hx hb dX1_sell_189 rfl (lv_at hl 6 rfl) ?_
                            refine lv_iload hx hb dX1_sell_190 (lv_at hl 7 rfl) ?_
                            refine xz_call (yy_V (n := 3) (220 + k) (c_X7_be l σ hk k (by omega) f t o G A ad wk wv) hx hb hml hT hxc hA hH (xx_share hk (k := k) (by omega)) rfl q614 (ex_code_of hT.2.1 q614) q612 q613 q49 q611 (by decide +kernel) ⟨Nat.le_of_ble_eq_true rfl, Nat.le_of_ble_eq_true rfl⟩ rfl hl.1 rfl (Nat.le_of_ble_eq_true rfl) dX1_sell_192 ⟨Nat.le_of_ble_eq_true rfl, Nat.le_of_ble_eq_true rfl⟩) hH (fun v_192 u_192 H locs hH hp_192 => ?_) (fun a_192 k_192 u_192 H locs hH hp_192 hI_192 h6_192 => ?_)
                            rotate_left
                            · exact hp_192.elim
                            obtain ⟨rfl, rfl⟩ := hp_192
                            exact xx_rv hx hb hr hlocks hT hH (fun _ _ _ => rfl) dX1_sell_195 (⟨rfl, k, hkk, rfl, q, hqc, hq, h_13, ⟨h_52, in_ge c_33, in_lt c_38, in_ge c_47⟩, by rw [hpm]; omega, by unfold xSell; rw [if_neg (Int32.not_lt.mpr c_72), if_neg (Int32.not_lt.mpr c_86)]⟩) (Nat.le_of_ble_eq_true rfl) (Nat.le_of_ble_eq_true rfl)
                          · skip
                            exact absurd c_86 c_161
                        · skip
                          exact absurd c_72 c_130
                    · skip
                      refine lv_iconst (v := 1) hx hb dX1_sell_89 (by decide) ?_
                      refine lv_goto (tgt := 94) hx hb dX1_sell_90 (by decide) ?_
                      refine lv_iadd hx hb dX1_sell_94 ?_
                      refine lv_as (nI_add 0 1) ?_
                      refine lv_istore (lv' := [(6, .int (nI (0 + 1))), (5, .ref (ad (220 + k))), (0, .ref (ad 0)), (1, .int (nI k)), (2, .int f), (3, .int t), (4, .int o)]) hx hb dX1_sell_95 hl (by decide) rfl (fun ls hl => ?_)
                      have hpm := (show pMore σ.1 k f t = 0 + 1 by unfold pMore; rw [if_neg (Int32.not_lt.mpr c_72), if_pos (in_lt c_86)])
                      refine lv_aload_n hx hb dX1_sell_97 rfl (lv_at hl 2 rfl) ?_
                      refine gw_get (C := RX1) (T := TX1) (N := 21) (ci := 1) (fs := xx_fs1 ad σ.1.1) (v := .int (σ.1.1 17)) hx hb hT hH.1 0 xx_0 rfl in_X1 14 (by decide) rfl q190 rfl dX1_sell_98 ?_
                      refine lv_as hk.2.1.1 ?_
                      refine lv_iload hx hb dX1_sell_101 (lv_at hl 0 rfl) ?_
                      refine lv_iadd hx hb dX1_sell_103 ?_
                      refine lv_as (nI_add nS (0 + 1)) ?_
                      refine lv_bipush (v := 60) hx hb dX1_sell_104 (by decide) ?_
                      refine lv_icmp_gt (tgt := 113) hx hb dX1_sell_106 (by decide) (fun c_106 => ?_) (fun c_106 => ?_)
                      · skip
                        have c_106 : 60 < (nS + (0 + 1)) := (nI_ltI (a := 60) (b := (nS + (0 + 1))) (by omega) (by omega)).mp c_106
                        refine lv_iconst (v := 0) hx hb dX1_sell_113 (by decide) ?_
                        exact xt_call (k := 4) (yy_S (n := 1) (c_X1_mayBe0 l hfl σ G A ad wk wv) hx hb hml hT hxc hA hH q352 (ex_code_of hT.2.1 q352) (ex_named (hT.2.1 _ q352)) q351 q33 q350 (by decide +kernel) ⟨Nat.le_of_ble_eq_true rfl, Nat.le_of_ble_eq_true rfl⟩ rfl hl.1 rfl (Nat.le_of_ble_eq_true rfl) dX1_sell_114 ⟨Nat.le_of_ble_eq_true rfl, Nat.le_of_ble_eq_true rfl⟩) hlocks hE (xx_tq hT hH (fun _ _ _ => rfl) (by decide) (⟨rfl, Or.inr ⟨k, hkk, rfl, Or.inr ⟨h_13, Or.inr ⟨⟨h_52, in_ge c_33, in_lt c_38, in_ge c_47⟩, rfl, by rw [hpm]; omega⟩⟩⟩⟩)) hH.2.2.2.2 (Nat.le_of_ble_eq_true rfl) (Nat.le_of_ble_eq_true rfl)
                      · skip
                        have c_106 : ¬ (60 < (nS + (0 + 1))) := fun h => c_106 ((nI_ltI (a := 60) (b := (nS + (0 + 1))) (by omega) (by omega)).mpr h)
                        refine lv_iconst (v := 1) hx hb dX1_sell_109 (by decide) ?_
                        refine lv_goto (tgt := 114) hx hb dX1_sell_110 (by decide) ?_
                        refine tk_cSv (n := 1) (c_X1_mayBe1 l) hx hb hml hT.1 hT.2.1 (fun a U g mk h => h) (fun U hU hW => trivial) (lw_S q350 q351 q33 q352) (by decide +kernel) ⟨Nat.le_of_ble_eq_true rfl, Nat.le_of_ble_eq_true rfl⟩ rfl hl.1 rfl (Nat.le_of_ble_eq_true rfl) dX1_sell_114 ⟨Nat.le_of_ble_eq_true rfl, Nat.le_of_ble_eq_true rfl⟩ ?_
                        obtain ⟨q, hqc, hq⟩ := hk.2.2.2 k (by omega)
                        refine lv_aload hx hb dX1_sell_117 (lv_at hl 1 rfl) ?_
                        refine gw_getN (C := RX7) (T := TX7) (N := 8) (ci := 6) (fs := xx_fs7 ad σ.1 k) (v := .int (σ.1.2 16 (7 * k + 3))) hx hb hT hH.1 (220 + k) (xx_share hk (k := k) (by omega)) rfl in_X7 4 (by decide) rfl (List.mem_of_getElem? (i := 15) rfl) rfl dX1_sell_119 ?_
                        refine lv_istore (lv' := [(7, .int (σ.1.2 16 (7 * k + 3))), (6, .int (nI (0 + 1))), (5, .ref (ad (220 + k))), (0, .ref (ad 0)), (1, .int (nI k)), (2, .int f), (3, .int t), (4, .int o)]) hx hb dX1_sell_122 hl (by decide) rfl (fun ls hl => ?_)
                        refine lv_iload_n hx hb dX1_sell_124 rfl (lv_at hl 5 rfl) ?_
                        refine lv_aload hx hb dX1_sell_125 (lv_at hl 2 rfl) ?_
                        refine gw_getN (C := RX7) (T := TX7) (N := 8) (ci := 6) (fs := xx_fs7 ad σ.1 k) (v := .int (σ.1.2 16 (7 * k + 1))) hx hb hT hH.1 (220 + k) (xx_share hk (k := k) (by omega)) rfl in_X7 2 (by decide) rfl (List.mem_of_getElem? (i := 13) rfl) rfl dX1_sell_127 ?_
                        refine lv_icmp_le (tgt := 155) hx hb dX1_sell_130 (by decide) (fun c_130 => ?_) (fun c_130 => ?_)
                        · skip
                          refine lv_iload_n hx hb dX1_sell_155 rfl (lv_at hl 6 rfl) ?_
                          refine lv_aload hx hb dX1_sell_156 (lv_at hl 2 rfl) ?_
                          refine gw_getN (C := RX7) (T := TX7) (N := 8) (ci := 6) (fs := xx_fs7 ad σ.1 k) (v := .int (σ.1.2 16 (7 * k + 2))) hx hb hT hH.1 (220 + k) (xx_share hk (k := k) (by omega)) rfl in_X7 3 (by decide) rfl (List.mem_of_getElem? (i := 14) rfl) rfl dX1_sell_158 ?_
                          refine lv_icmp_ge (tgt := 186) hx hb dX1_sell_161 (by decide) (fun c_161 => ?_) (fun c_161 => ?_)
                          · skip
                            exact absurd c_161 c_86
                          · skip
                            refine lv_aload_n hx hb dX1_sell_164 rfl (lv_at hl 3 rfl) ?_
                            refine lv_aload hx hb dX1_sell_165 (lv_at hl 2 rfl) ?_
                            refine gw_getN (C := RX7) (T := TX7) (N := 8) (ci := 6) (fs := xx_fs7 ad σ.1 k) (v := .ref (ad (40 + q))) hx hb hT hH.1 (220 + k) (xx_share hk (k := k) (by omega)) rfl in_X7 0 (by decide) rfl (List.mem_of_getElem? (i := 11) rfl) (xx_sch hk hq hqc) dX1_sell_167 ?_
                            refine lv_aload hx hb dX1_sell_170 (lv_at hl 2 rfl) ?_
                            refine gw_getN (C := RX7) (T := TX7) (N := 8) (ci := 6) (fs := xx_fs7 ad σ.1 k) (v := .int (nI q)) hx hb hT hH.1 (220 + k) (xx_share hk (k := k) (by omega)) rfl in_X7 1 (by decide) rfl (List.mem_of_getElem? (i := 12) rfl) (congrArg some (congrArg Value.int (hq))) dX1_sell_172 ?_
                            refine lv_iload_n hx hb dX1_sell_175 rfl (lv_at hl 6 rfl) ?_
                            refine lv_aload hx hb dX1_sell_176 (lv_at hl 2 rfl) ?_
                            refine gw_getN (C := RX7) (T := TX7) (N := 8) (ci := 6) (fs := xx_fs7 ad σ.1 k) (v := .int (σ.1.2 16 (7 * k + 2))) hx hb hT hH.1 (220 + k) (xx_share hk (k := k) (by omega)) rfl in_X7 3 (by decide) rfl (List.mem_of_getElem? (i := 14) rfl) rfl dX1_sell_178 ?_
                            refine lv_iload hx hb dX1_sell_181 (lv_at hl 0 rfl) ?_
                            refine xx_call (yy_V (n := 5) 0 (c_X1_add l σ hk (by omega) q hqc t (σ.1.2 16 (7 * k + 2)) (σ.1.2 16 (7 * k + 3)) G A ad wk wv) hx hb hml hT hxc hA hH xx_0 rfl q522 (ex_code_of hT.2.1 q522) q521 qs6 q33 q519 (by decide +kernel) ⟨Nat.le_of_ble_eq_true rfl, Nat.le_of_ble_eq_true rfl⟩ rfl hl.1 rfl (Nat.le_of_ble_eq_true rfl) dX1_sell_183 ⟨Nat.le_of_ble_eq_true rfl, Nat.le_of_ble_eq_true rfl⟩) hH (fun v_183 u_183 ad_183 H locs hext_183 hH hp_183 => ?_) (fun a_183 k_183 u_183 ad_183 H locs hext_183 hH hp_183 hI_183 h6_183 => ?_)
                            rotate_left
                            · exact hp_183.elim
                            obtain ⟨rfl, rfl⟩ := hp_183
                            have hx0 := xx_ext2 hk0 hk (Nat.le_refl _) (by omega) (fun _ => Nat.le_refl _) hx0 hext_183
                            rw [← hext_183 (220 + k) _ (xx_share hk (k := k) (by omega))] at hl
                            rw [← hext_183 (0) _ xx_0] at hl
                            have hk := hk.add (by omega) hqc t (σ.1.2 16 (7 * k + 2)) (σ.1.2 16 (7 * k + 3))
                            refine lv_aload hx hb dX1_sell_186 (lv_at hl 2 rfl) ?_
                            refine lv_iload_n hx hb dX1_sell_188 rfl (lv_at hl 5 rfl) ?_
                            refine lv_iload_n hx hb dX1_sell_189 rfl (lv_at hl 6 rfl) ?_
                            refine lv_iload hx hb dX1_sell_190 (lv_at hl 7 rfl) ?_
                            refine xz_call (yy_V (n := 3) (220 + k) (c_X7_be l (xAdd σ nS q t (σ.1.2 16 (7 * k + 2)) (σ.1.2 16 (7 * k + 3))) hk k (by omega) f t o G A ad_183 wk wv) hx hb hml hT hxc hA hH (xx_share hk (k := k) (by omega)) rfl q614 (ex_code_of hT.2.1 q614) q612 q613 q49 q611 (by decide +kernel) ⟨Nat.le_of_ble_eq_true rfl, Nat.le_of_ble_eq_true rfl⟩ rfl hl.1 rfl (Nat.le_of_ble_eq_true rfl) dX1_sell_192 ⟨Nat.le_of_ble_eq_true rfl, Nat.le_of_ble_eq_true rfl⟩) hH (fun v_192 u_192 H locs hH hp_192 => ?_) (fun a_192 k_192 u_192 H locs hH hp_192 hI_192 h6_192 => ?_)
                            rotate_left
                            · exact hp_192.elim
                            obtain ⟨rfl, rfl⟩ := hp_192
                            exact xx_rv hx hb hr hlocks hT hH hx0 dX1_sell_195 (⟨rfl, k, hkk, rfl, q, hqc, hq, h_13, ⟨h_52, in_ge c_33, in_lt c_38, in_ge c_47⟩, by rw [hpm]; omega, by unfold xSell; rw [if_neg (Int32.not_lt.mpr c_72), if_pos (in_lt c_86)]⟩) (Nat.le_of_ble_eq_true rfl) (Nat.le_of_ble_eq_true rfl)
                        · skip
                          exact absurd c_72 c_130
                  · skip
                    refine lv_iconst (v := 1) hx hb dX1_sell_75 (by decide) ?_
                    refine lv_goto (tgt := 80) hx hb dX1_sell_76 (by decide) ?_
                    refine lv_iload_n hx hb dX1_sell_80 rfl (lv_at hl 4 rfl) ?_
                    refine lv_aload hx hb dX1_sell_81 (lv_at hl 0 rfl) ?_
                    refine gw_getN (C := RX7) (T := TX7) (N := 8) (ci := 6) (fs := xx_fs7 ad σ.1 k) (v := .int (σ.1.2 16 (7 * k + 2))) hx hb hT hH.1 (220 + k) (xx_share hk (k := k) (by omega)) rfl in_X7 3 (by decide) rfl (List.mem_of_getElem? (i := 14) rfl) rfl dX1_sell_83 ?_
                    refine lv_icmp_ge (tgt := 93) hx hb dX1_sell_86 (by decide) (fun c_86 => ?_) (fun c_86 => ?_)
                    · skip
                      refine lv_iconst (v := 0) hx hb dX1_sell_93 (by decide) ?_
                      refine lv_iadd hx hb dX1_sell_94 ?_
                      refine lv_as (nI_add 1 0) ?_
                      refine lv_istore (lv' := [(6, .int (nI (1 + 0))), (5, .ref (ad (220 + k))), (0, .ref (ad 0)), (1, .int (nI k)), (2, .int f), (3, .int t), (4, .int o)]) hx hb dX1_sell_95 hl (by decide) rfl (fun ls hl => ?_)
                      have hpm := (show pMore σ.1 k f t = 1 + 0 by unfold pMore; rw [if_pos (in_lt c_72), if_neg (Int32.not_lt.mpr c_86)])
                      refine lv_aload_n hx hb dX1_sell_97 rfl (lv_at hl 2 rfl) ?_
                      refine gw_get (C := RX1) (T := TX1) (N := 21) (ci := 1) (fs := xx_fs1 ad σ.1.1) (v := .int (σ.1.1 17)) hx hb hT hH.1 0 xx_0 rfl in_X1 14 (by decide) rfl q190 rfl dX1_sell_98 ?_
                      refine lv_as hk.2.1.1 ?_
                      refine lv_iload hx hb dX1_sell_101 (lv_at hl 0 rfl) ?_
                      refine lv_iadd hx hb dX1_sell_103 ?_
                      refine lv_as (nI_add nS (1 + 0)) ?_
                      refine lv_bipush (v := 60) hx hb dX1_sell_104 (by decide) ?_
                      refine lv_icmp_gt (tgt := 113) hx hb dX1_sell_106 (by decide) (fun c_106 => ?_) (fun c_106 => ?_)
                      · skip
                        have c_106 : 60 < (nS + (1 + 0)) := (nI_ltI (a := 60) (b := (nS + (1 + 0))) (by omega) (by omega)).mp c_106
                        refine lv_iconst (v := 0) hx hb dX1_sell_113 (by decide) ?_
                        exact xt_call (k := 4) (yy_S (n := 1) (c_X1_mayBe0 l hfl σ G A ad wk wv) hx hb hml hT hxc hA hH q352 (ex_code_of hT.2.1 q352) (ex_named (hT.2.1 _ q352)) q351 q33 q350 (by decide +kernel) ⟨Nat.le_of_ble_eq_true rfl, Nat.le_of_ble_eq_true rfl⟩ rfl hl.1 rfl (Nat.le_of_ble_eq_true rfl) dX1_sell_114 ⟨Nat.le_of_ble_eq_true rfl, Nat.le_of_ble_eq_true rfl⟩) hlocks hE (xx_tq hT hH (fun _ _ _ => rfl) (by decide) (⟨rfl, Or.inr ⟨k, hkk, rfl, Or.inr ⟨h_13, Or.inr ⟨⟨h_52, in_ge c_33, in_lt c_38, in_ge c_47⟩, rfl, by rw [hpm]; omega⟩⟩⟩⟩)) hH.2.2.2.2 (Nat.le_of_ble_eq_true rfl) (Nat.le_of_ble_eq_true rfl)
                      · skip
                        have c_106 : ¬ (60 < (nS + (1 + 0))) := fun h => c_106 ((nI_ltI (a := 60) (b := (nS + (1 + 0))) (by omega) (by omega)).mpr h)
                        refine lv_iconst (v := 1) hx hb dX1_sell_109 (by decide) ?_
                        refine lv_goto (tgt := 114) hx hb dX1_sell_110 (by decide) ?_
                        refine tk_cSv (n := 1) (c_X1_mayBe1 l) hx hb hml hT.1 hT.2.1 (fun a U g mk h => h) (fun U hU hW => trivial) (lw_S q350 q351 q33 q352) (by decide +kernel) ⟨Nat.le_of_ble_eq_true rfl, Nat.le_of_ble_eq_true rfl⟩ rfl hl.1 rfl (Nat.le_of_ble_eq_true rfl) dX1_sell_114 ⟨Nat.le_of_ble_eq_true rfl, Nat.le_of_ble_eq_true rfl⟩ ?_
                        obtain ⟨q, hqc, hq⟩ := hk.2.2.2 k (by omega)
                        refine lv_aload hx hb dX1_sell_117 (lv_at hl 1 rfl) ?_
                        refine gw_getN (C := RX7) (T := TX7) (N := 8) (ci := 6) (fs := xx_fs7 ad σ.1 k) (v := .int (σ.1.2 16 (7 * k + 3))) hx hb hT hH.1 (220 + k) (xx_share hk (k := k) (by omega)) rfl in_X7 4 (by decide) rfl (List.mem_of_getElem? (i := 15) rfl) rfl dX1_sell_119 ?_
                        refine lv_istore (lv' := [(7, .int (σ.1.2 16 (7 * k + 3))), (6, .int (nI (1 + 0))), (5, .ref (ad (220 + k))), (0, .ref (ad 0)), (1, .int (nI k)), (2, .int f), (3, .int t), (4, .int o)]) hx hb dX1_sell_122 hl (by decide) rfl (fun ls hl => ?_)
                        refine lv_iload_n hx hb dX1_sell_124 rfl (lv_at hl 5 rfl) ?_
                        refine lv_aload hx hb dX1_sell_125 (lv_at hl 2 rfl) ?_
                        refine gw_getN (C := RX7) (T := TX7) (N := 8) (ci := 6) (fs := xx_fs7 ad σ.1 k) (v := .int (σ.1.2 16 (7 * k + 1))) hx hb hT hH.1 (220 + k) (xx_share hk (k := k) (by omega)) rfl in_X7 2 (by decide) rfl (List.mem_of_getElem? (i := 13) rfl) rfl dX1_sell_127 ?_
                        refine lv_icmp_le (tgt := 155) hx hb dX1_sell_130 (by decide) (fun c_130 => ?_) (fun c_130 => ?_)
                        · skip
                          exact absurd c_130 c_72
                        · skip
                          refine lv_aload_n hx hb dX1_sell_133 rfl (lv_at hl 3 rfl) ?_
                          refine lv_aload hx hb dX1_sell_134 (lv_at hl 2 rfl) ?_
                          refine gw_getN (C := RX7) (T := TX7) (N := 8) (ci := 6) (fs := xx_fs7 ad σ.1 k) (v := .ref (ad (40 + q))) hx hb hT hH.1 (220 + k) (xx_share hk (k := k) (by omega)) rfl in_X7 0 (by decide) rfl (List.mem_of_getElem? (i := 11) rfl) (xx_sch hk hq hqc) dX1_sell_136 ?_
                          refine lv_aload hx hb dX1_sell_139 (lv_at hl 2 rfl) ?_
                          refine gw_getN (C := RX7) (T := TX7) (N := 8) (ci := 6) (fs := xx_fs7 ad σ.1 k) (v := .int (nI q)) hx hb hT hH.1 (220 + k) (xx_share hk (k := k) (by omega)) rfl in_X7 1 (by decide) rfl (List.mem_of_getElem? (i := 12) rfl) (congrArg some (congrArg Value.int (hq))) dX1_sell_141 ?_
                          refine lv_aload hx hb dX1_sell_144 (lv_at hl 2 rfl) ?_
                          refine gw_getN (C := RX7) (T := TX7) (N := 8) (ci := 6) (fs := xx_fs7 ad σ.1 k) (v := .int (σ.1.2 16 (7 * k + 1))) hx hb hT hH.1 (220 + k) (xx_share hk (k := k) (by omega)) rfl in_X7 2 (by decide) rfl (List.mem_of_getElem? (i := 13) rfl) rfl dX1_sell_146 ?_
                          refine lv_iload_n hx hb dX1_sell_149 rfl (lv_at hl 5 rfl) ?_
                          refine lv_iload hx hb dX1_sell_150 (lv_at hl 0 rfl) ?_
                          refine xx_call (yy_V (n := 5) 0 (c_X1_add l σ hk (by omega) q hqc (σ.1.2 16 (7 * k + 1)) f (σ.1.2 16 (7 * k + 3)) G A ad wk wv) hx hb hml hT hxc hA hH xx_0 rfl q522 (ex_code_of hT.2.1 q522) q521 qs6 q33 q519 (by decide +kernel) ⟨Nat.le_of_ble_eq_true rfl, Nat.le_of_ble_eq_true rfl⟩ rfl hl.1 rfl (Nat.le_of_ble_eq_true rfl) dX1_sell_152 ⟨Nat.le_of_ble_eq_true rfl, Nat.le_of_ble_eq_true rfl⟩) hH (fun v_152 u_152 ad_152 H locs hext_152 hH hp_152 => ?_) (fun a_152 k_152 u_152 ad_152 H locs hext_152 hH hp_152 hI_152 h6_152 => ?_)
                          rotate_left
                          · exact hp_152.elim
                          obtain ⟨rfl, rfl⟩ := hp_152
                          have hx0 := xx_ext2 hk0 hk (Nat.le_refl _) (by omega) (fun _ => Nat.le_refl _) hx0 hext_152
                          rw [← hext_152 (220 + k) _ (xx_share hk (k := k) (by omega))] at hl
                          rw [← hext_152 (0) _ xx_0] at hl
                          have hk := hk.add (by omega) hqc (σ.1.2 16 (7 * k + 1)) f (σ.1.2 16 (7 * k + 3))
                          refine lv_iload_n hx hb dX1_sell_155 rfl (lv_at hl 6 rfl) ?_
                          refine lv_aload hx hb dX1_sell_156 (lv_at hl 2 rfl) ?_
                          refine gw_getN (C := RX7) (T := TX7) (N := 8) (ci := 6) (fs := xx_fs7 ad_152 (xAdd σ nS q (σ.1.2 16 (7 * k + 1)) f (σ.1.2 16 (7 * k + 3))).1 k) (v := .int (σ.1.2 16 (7 * k + 2))) hx hb hT hH.1 (220 + k) (xx_share hk (k := k) (by omega)) rfl in_X7 3 (by decide) rfl (List.mem_of_getElem? (i := 14) rfl) (congrArg some (congrArg Value.int (xAdd_at _ _ _ _ _ _ (by omega)))) dX1_sell_158 ?_
                          refine lv_icmp_ge (tgt := 186) hx hb dX1_sell_161 (by decide) (fun c_161 => ?_) (fun c_161 => ?_)
                          · skip
                            refine lv_aload hx hb dX1_sell_186 (lv_at hl 2 rfl) ?_
                            refine lv_iload_n hx hb dX1_sell_188 rfl (lv_at hl 5 rfl) ?_
                            refine lv_iload_n hx hb dX1_sell_189 rfl (lv_at hl 6 rfl) ?_
                            refine lv_iload hx hb dX1_sell_190 (lv_at hl 7 rfl) ?_
                            refine xz_call (yy_V (n := 3) (220 + k) (c_X7_be l (xAdd σ nS q (σ.1.2 16 (7 * k + 1)) f (σ.1.2 16 (7 * k + 3))) hk k (by omega) f t o G A ad_152 wk wv) hx hb hml hT hxc hA hH (xx_share hk (k := k) (by omega)) rfl q614 (ex_code_of hT.2.1 q614) q612 q613 q49 q611 (by decide +kernel) ⟨Nat.le_of_ble_eq_true rfl, Nat.le_of_ble_eq_true rfl⟩ rfl hl.1 rfl (Nat.le_of_ble_eq_true rfl) dX1_sell_192 ⟨Nat.le_of_ble_eq_true rfl, Nat.le_of_ble_eq_true rfl⟩) hH (fun v_192 u_192 H locs hH hp_192 => ?_) (fun a_192 k_192 u_192 H locs hH hp_192 hI_192 h6_192 => ?_)
                            rotate_left
                            · exact hp_192.elim
                            obtain ⟨rfl, rfl⟩ := hp_192
                            exact xx_rv hx hb hr hlocks hT hH hx0 dX1_sell_195 (⟨rfl, k, hkk, rfl, q, hqc, hq, h_13, ⟨h_52, in_ge c_33, in_lt c_38, in_ge c_47⟩, by rw [hpm]; omega, by unfold xSell; rw [if_pos (in_lt c_72), if_neg (Int32.not_lt.mpr c_86)]⟩) (Nat.le_of_ble_eq_true rfl) (Nat.le_of_ble_eq_true rfl)
                          · skip
                            exact absurd c_86 c_161
                    · skip
                      refine lv_iconst (v := 1) hx hb dX1_sell_89 (by decide) ?_
                      refine lv_goto (tgt := 94) hx hb dX1_sell_90 (by decide) ?_
                      refine lv_iadd hx hb dX1_sell_94 ?_
                      refine lv_as (nI_add 1 1) ?_
                      refine lv_istore (lv' := [(6, .int (nI (1 + 1))), (5, .ref (ad (220 + k))), (0, .ref (ad 0)), (1, .int (nI k)), (2, .int f), (3, .int t), (4, .int o)]) hx hb dX1_sell_95 hl (by decide) rfl (fun ls hl => ?_)
                      have hpm := (show pMore σ.1 k f t = 1 + 1 by unfold pMore; rw [if_pos (in_lt c_72), if_pos (in_lt c_86)])
                      refine lv_aload_n hx hb dX1_sell_97 rfl (lv_at hl 2 rfl) ?_
                      refine gw_get (C := RX1) (T := TX1) (N := 21) (ci := 1) (fs := xx_fs1 ad σ.1.1) (v := .int (σ.1.1 17)) hx hb hT hH.1 0 xx_0 rfl in_X1 14 (by decide) rfl q190 rfl dX1_sell_98 ?_
                      refine lv_as hk.2.1.1 ?_
                      refine lv_iload hx hb dX1_sell_101 (lv_at hl 0 rfl) ?_
                      refine lv_iadd hx hb dX1_sell_103 ?_
                      refine lv_as (nI_add nS (1 + 1)) ?_
                      refine lv_bipush (v := 60) hx hb dX1_sell_104 (by decide) ?_
                      refine lv_icmp_gt (tgt := 113) hx hb dX1_sell_106 (by decide) (fun c_106 => ?_) (fun c_106 => ?_)
                      · skip
                        have c_106 : 60 < (nS + (1 + 1)) := (nI_ltI (a := 60) (b := (nS + (1 + 1))) (by omega) (by omega)).mp c_106
                        refine lv_iconst (v := 0) hx hb dX1_sell_113 (by decide) ?_
                        exact xt_call (k := 4) (yy_S (n := 1) (c_X1_mayBe0 l hfl σ G A ad wk wv) hx hb hml hT hxc hA hH q352 (ex_code_of hT.2.1 q352) (ex_named (hT.2.1 _ q352)) q351 q33 q350 (by decide +kernel) ⟨Nat.le_of_ble_eq_true rfl, Nat.le_of_ble_eq_true rfl⟩ rfl hl.1 rfl (Nat.le_of_ble_eq_true rfl) dX1_sell_114 ⟨Nat.le_of_ble_eq_true rfl, Nat.le_of_ble_eq_true rfl⟩) hlocks hE (xx_tq hT hH (fun _ _ _ => rfl) (by decide) (⟨rfl, Or.inr ⟨k, hkk, rfl, Or.inr ⟨h_13, Or.inr ⟨⟨h_52, in_ge c_33, in_lt c_38, in_ge c_47⟩, rfl, by rw [hpm]; omega⟩⟩⟩⟩)) hH.2.2.2.2 (Nat.le_of_ble_eq_true rfl) (Nat.le_of_ble_eq_true rfl)
                      · skip
                        have c_106 : ¬ (60 < (nS + (1 + 1))) := fun h => c_106 ((nI_ltI (a := 60) (b := (nS + (1 + 1))) (by omega) (by omega)).mpr h)
                        refine lv_iconst (v := 1) hx hb dX1_sell_109 (by decide) ?_
                        refine lv_goto (tgt := 114) hx hb dX1_sell_110 (by decide) ?_
                        refine tk_cSv (n := 1) (c_X1_mayBe1 l) hx hb hml hT.1 hT.2.1 (fun a U g mk h => h) (fun U hU hW => trivial) (lw_S q350 q351 q33 q352) (by decide +kernel) ⟨Nat.le_of_ble_eq_true rfl, Nat.le_of_ble_eq_true rfl⟩ rfl hl.1 rfl (Nat.le_of_ble_eq_true rfl) dX1_sell_114 ⟨Nat.le_of_ble_eq_true rfl, Nat.le_of_ble_eq_true rfl⟩ ?_
                        obtain ⟨q, hqc, hq⟩ := hk.2.2.2 k (by omega)
                        refine lv_aload hx hb dX1_sell_117 (lv_at hl 1 rfl) ?_
                        refine gw_getN (C := RX7) (T := TX7) (N := 8) (ci := 6) (fs := xx_fs7 ad σ.1 k) (v := .int (σ.1.2 16 (7 * k + 3))) hx hb hT hH.1 (220 + k) (xx_share hk (k := k) (by omega)) rfl in_X7 4 (by decide) rfl (List.mem_of_getElem? (i := 15) rfl) rfl dX1_sell_119 ?_
                        refine lv_istore (lv' := [(7, .int (σ.1.2 16 (7 * k + 3))), (6, .int (nI (1 + 1))), (5, .ref (ad (220 + k))), (0, .ref (ad 0)), (1, .int (nI k)), (2, .int f), (3, .int t), (4, .int o)]) hx hb dX1_sell_122 hl (by decide) rfl (fun ls hl => ?_)
                        refine lv_iload_n hx hb dX1_sell_124 rfl (lv_at hl 5 rfl) ?_
                        refine lv_aload hx hb dX1_sell_125 (lv_at hl 2 rfl) ?_
                        refine gw_getN (C := RX7) (T := TX7) (N := 8) (ci := 6) (fs := xx_fs7 ad σ.1 k) (v := .int (σ.1.2 16 (7 * k + 1))) hx hb hT hH.1 (220 + k) (xx_share hk (k := k) (by omega)) rfl in_X7 2 (by decide) rfl (List.mem_of_getElem? (i := 13) rfl) rfl dX1_sell_127 ?_
                        refine lv_icmp_le (tgt := 155) hx hb dX1_sell_130 (by decide) (fun c_130 => ?_) (fun c_130 => ?_)
                        · skip
                          exact absurd c_130 c_72
                        · skip
                          refine lv_aload_n hx hb dX1_sell_133 rfl (lv_at hl 3 rfl) ?_
                          refine lv_aload hx hb dX1_sell_134 (lv_at hl 2 rfl) ?_
                          refine gw_getN (C := RX7) (T := TX7) (N := 8) (ci := 6) (fs := xx_fs7 ad σ.1 k) (v := .ref (ad (40 + q))) hx hb hT hH.1 (220 + k) (xx_share hk (k := k) (by omega)) rfl in_X7 0 (by decide) rfl (List.mem_of_getElem? (i := 11) rfl) (xx_sch hk hq hqc) dX1_sell_136 ?_
                          refine lv_aload hx hb dX1_sell_139 (lv_at hl 2 rfl) ?_
                          refine gw_getN (C := RX7) (T := TX7) (N := 8) (ci := 6) (fs := xx_fs7 ad σ.1 k) (v := .int (nI q)) hx hb hT hH.1 (220 + k) (xx_share hk (k := k) (by omega)) rfl in_X7 1 (by decide) rfl (List.mem_of_getElem? (i := 12) rfl) (congrArg some (congrArg Value.int (hq))) dX1_sell_141 ?_
                          refine lv_aload hx hb dX1_sell_144 (lv_at hl 2 rfl) ?_
                          refine gw_getN (C := RX7) (T := TX7) (N := 8) (ci := 6) (fs := xx_fs7 ad σ.1 k) (v := .int (σ.1.2 16 (7 * k + 1))) hx hb hT hH.1 (220 + k) (xx_share hk (k := k) (by omega)) rfl in_X7 2 (by decide) rfl (List.mem_of_getElem? (i := 13) rfl) rfl dX1_sell_146 ?_
                          refine lv_iload_n hx hb dX1_sell_149 rfl (lv_at hl 5 rfl) ?_
                          refine lv_iload hx hb dX1_sell_150 (lv_at hl 0 rfl) ?_
                          refine xx_call (yy_V (n := 5) 0 (c_X1_add l σ hk (by omega) q hqc (σ.1.2 16 (7 * k + 1)) f (σ.1.2 16 (7 * k + 3)) G A ad wk wv) hx hb hml hT hxc hA hH xx_0 rfl q522 (ex_code_of hT.2.1 q522) q521 qs6 q33 q519 (by decide +kernel) ⟨Nat.le_of_ble_eq_true rfl, Nat.le_of_ble_eq_true rfl⟩ rfl hl.1 rfl (Nat.le_of_ble_eq_true rfl) dX1_sell_152 ⟨Nat.le_of_ble_eq_true rfl, Nat.le_of_ble_eq_true rfl⟩) hH (fun v_152 u_152 ad_152 H locs hext_152 hH hp_152 => ?_) (fun a_152 k_152 u_152 ad_152 H locs hext_152 hH hp_152 hI_152 h6_152 => ?_)
                          rotate_left
                          · exact hp_152.elim
                          obtain ⟨rfl, rfl⟩ := hp_152
                          have hx0 := xx_ext2 hk0 hk (Nat.le_refl _) (by omega) (fun _ => Nat.le_refl _) hx0 hext_152
                          rw [← hext_152 (220 + k) _ (xx_share hk (k := k) (by omega))] at hl
                          rw [← hext_152 (0) _ xx_0] at hl
                          have hk := hk.add (by omega) hqc (σ.1.2 16 (7 * k + 1)) f (σ.1.2 16 (7 * k + 3))
                          refine lv_iload_n hx hb dX1_sell_155 rfl (lv_at hl 6 rfl) ?_
                          refine lv_aload hx hb dX1_sell_156 (lv_at hl 2 rfl) ?_
                          refine gw_getN (C := RX7) (T := TX7) (N := 8) (ci := 6) (fs := xx_fs7 ad_152 (xAdd σ nS q (σ.1.2 16 (7 * k + 1)) f (σ.1.2 16 (7 * k + 3))).1 k) (v := .int (σ.1.2 16 (7 * k + 2))) hx hb hT hH.1 (220 + k) (xx_share hk (k := k) (by omega)) rfl in_X7 3 (by decide) rfl (List.mem_of_getElem? (i := 14) rfl) (congrArg some (congrArg Value.int (xAdd_at _ _ _ _ _ _ (by omega)))) dX1_sell_158 ?_
                          refine lv_icmp_ge (tgt := 186) hx hb dX1_sell_161 (by decide) (fun c_161 => ?_) (fun c_161 => ?_)
                          · skip
                            exact absurd c_161 c_86
                          · skip
                            refine lv_aload_n hx hb dX1_sell_164 rfl (lv_at hl 3 rfl) ?_
                            refine lv_aload hx hb dX1_sell_165 (lv_at hl 2 rfl) ?_
                            refine gw_getN (C := RX7) (T := TX7) (N := 8) (ci := 6) (fs := xx_fs7 ad_152 (xAdd σ nS q (σ.1.2 16 (7 * k + 1)) f (σ.1.2 16 (7 * k + 3))).1 k) (v := .ref (ad_152 (40 + q))) hx hb hT hH.1 (220 + k) (xx_share hk (k := k) (by omega)) rfl in_X7 0 (by decide) rfl (List.mem_of_getElem? (i := 11) rfl) (xx_sch hk ((xAdd_at _ _ _ _ _ _ (by omega)).trans hq) hqc) dX1_sell_167 ?_
                            refine lv_aload hx hb dX1_sell_170 (lv_at hl 2 rfl) ?_
                            refine gw_getN (C := RX7) (T := TX7) (N := 8) (ci := 6) (fs := xx_fs7 ad_152 (xAdd σ nS q (σ.1.2 16 (7 * k + 1)) f (σ.1.2 16 (7 * k + 3))).1 k) (v := .int (nI q)) hx hb hT hH.1 (220 + k) (xx_share hk (k := k) (by omega)) rfl in_X7 1 (by decide) rfl (List.mem_of_getElem? (i := 12) rfl) (congrArg some (congrArg Value.int ((xAdd_at _ _ _ _ _ _ (by omega)).trans hq))) dX1_sell_172 ?_
                            refine lv_iload_n hx hb dX1_sell_175 rfl (lv_at hl 6 rfl) ?_
                            refine lv_aload hx hb dX1_sell_176 (lv_at hl 2 rfl) ?_
                            refine gw_getN (C := RX7) (T := TX7) (N := 8) (ci := 6) (fs := xx_fs7 ad_152 (xAdd σ nS q (σ.1.2 16 (7 * k + 1)) f (σ.1.2 16 (7 * k + 3))).1 k) (v := .int (σ.1.2 16 (7 * k + 2))) hx hb hT hH.1 (220 + k) (xx_share hk (k := k) (by omega)) rfl in_X7 3 (by decide) rfl (List.mem_of_getElem? (i := 14) rfl) (congrArg some (congrArg Value.int (xAdd_at _ _ _ _ _ _ (by omega)))) dX1_sell_178 ?_
                            refine lv_iload hx hb dX1_sell_181 (lv_at hl 0 rfl) ?_
                            refine xx_call (yy_V (n := 5) 0 (c_X1_add l (xAdd σ nS q (σ.1.2 16 (7 * k + 1)) f (σ.1.2 16 (7 * k + 3))) hk (by omega) q hqc t (σ.1.2 16 (7 * k + 2)) (σ.1.2 16 (7 * k + 3)) G A ad_152 wk wv) hx hb hml hT hxc hA hH xx_0 rfl q522 (ex_code_of hT.2.1 q522) q521 qs6 q33 q519 (by decide +kernel) ⟨Nat.le_of_ble_eq_true rfl, Nat.le_of_ble_eq_true rfl⟩ rfl hl.1 rfl (Nat.le_of_ble_eq_true rfl) dX1_sell_183 ⟨Nat.le_of_ble_eq_true rfl, Nat.le_of_ble_eq_true rfl⟩) hH (fun v_183 u_183 ad_183 H locs hext_183 hH hp_183 => ?_) (fun a_183 k_183 u_183 ad_183 H locs hext_183 hH hp_183 hI_183 h6_183 => ?_)
                            rotate_left
                            · exact hp_183.elim
                            obtain ⟨rfl, rfl⟩ := hp_183
                            have hx0 := xx_ext2 hk0 hk (Nat.le_refl _) (by omega) (fun _ => Nat.le_refl _) hx0 hext_183
                            rw [← hext_183 (220 + k) _ (xx_share hk (k := k) (by omega))] at hl
                            rw [← hext_183 (0) _ xx_0] at hl
                            have hk := hk.add (by omega) hqc t (σ.1.2 16 (7 * k + 2)) (σ.1.2 16 (7 * k + 3))
                            refine lv_aload hx hb dX1_sell_186 (lv_at hl 2 rfl) ?_
                            refine lv_iload_n hx hb dX1_sell_188 rfl (lv_at hl 5 rfl) ?_
                            refine lv_iload_n hx hb dX1_sell_189 rfl (lv_at hl 6 rfl) ?_
                            refine lv_iload hx hb dX1_sell_190 (lv_at hl 7 rfl) ?_
                            refine xz_call (yy_V (n := 3) (220 + k) (c_X7_be l (xAdd (xAdd σ nS q (σ.1.2 16 (7 * k + 1)) f (σ.1.2 16 (7 * k + 3))) (nS + 1) q t (σ.1.2 16 (7 * k + 2)) (σ.1.2 16 (7 * k + 3))) hk k (by omega) f t o G A ad_183 wk wv) hx hb hml hT hxc hA hH (xx_share hk (k := k) (by omega)) rfl q614 (ex_code_of hT.2.1 q614) q612 q613 q49 q611 (by decide +kernel) ⟨Nat.le_of_ble_eq_true rfl, Nat.le_of_ble_eq_true rfl⟩ rfl hl.1 rfl (Nat.le_of_ble_eq_true rfl) dX1_sell_192 ⟨Nat.le_of_ble_eq_true rfl, Nat.le_of_ble_eq_true rfl⟩) hH (fun v_192 u_192 H locs hH hp_192 => ?_) (fun a_192 k_192 u_192 H locs hH hp_192 hI_192 h6_192 => ?_)
                            rotate_left
                            · exact hp_192.elim
                            obtain ⟨rfl, rfl⟩ := hp_192
                            exact xx_rv hx hb hr hlocks hT hH hx0 dX1_sell_195 (⟨rfl, k, hkk, rfl, q, hqc, hq, h_13, ⟨h_52, in_ge c_33, in_lt c_38, in_ge c_47⟩, by rw [hpm]; omega, by unfold xSell; rw [if_pos (in_lt c_72), if_pos (in_lt c_86)]⟩) (Nat.le_of_ble_eq_true rfl) (Nat.le_of_ble_eq_true rfl)
              · skip
                refine lv_if_eq (tgt := 62) hx hb dX1_sell_55 (by decide) (fun c_55 => ?_) (fun c_55 => ?_)
                · skip
                  refine lv_iconst (v := 0) hx hb dX1_sell_62 (by decide) ?_
                  exact xt_call (k := 3) (yy_S (n := 1) (c_X1_must0 l hfl σ G A ad wk wv) hx hb hml hT hxc hA hH q320 (ex_code_of hT.2.1 q320) (ex_named (hT.2.1 _ q320)) q319 q33 q318 (by decide +kernel) ⟨Nat.le_of_ble_eq_true rfl, Nat.le_of_ble_eq_true rfl⟩ rfl hl.1 rfl (Nat.le_of_ble_eq_true rfl) dX1_sell_63 ⟨Nat.le_of_ble_eq_true rfl, Nat.le_of_ble_eq_true rfl⟩) hlocks hE (xx_tq hT hH (fun _ _ _ => rfl) (by decide) (⟨rfl, Or.inr ⟨k, hkk, rfl, Or.inr ⟨h_13, Or.inl ⟨rfl, fun g => h_52 g.1⟩⟩⟩⟩)) hH.2.2.2.2 (Nat.le_of_ble_eq_true rfl) (Nat.le_of_ble_eq_true rfl)
                · skip
                  exact absurd c_55 (by decide)
  · skip
    exact xt_call (k := 1) (yy_V (n := 1) 0 (c_X1_shareAt0 l hfl σ hk v h_2 G A ad wk wv) hx hb hml hT hxc hA hH xx_0 rfl q610 (ex_code_of hT.2.1 q610) q609 qs8 q33 q607 (by decide +kernel) ⟨Nat.le_of_ble_eq_true rfl, Nat.le_of_ble_eq_true rfl⟩ rfl hl.1 rfl (Nat.le_of_ble_eq_true rfl) dX1_sell_2 ⟨Nat.le_of_ble_eq_true rfl, Nat.le_of_ble_eq_true rfl⟩) hlocks hE (xx_tq hT hH (fun _ _ _ => rfl) (by decide) (⟨rfl, Or.inl ⟨rfl, h_2⟩⟩)) hH.2.2.2.2 (Nat.le_of_ble_eq_true rfl) (Nat.le_of_ble_eq_true rfl)

set_option maxHeartbeats 1000000 in
set_option maxRecDepth 100000 in
theorem lp_X1_holder {p : Program} {l : Launch} {e : Env} {s : State} {m : MethodId} {args : Array Value} {below : List Frame} {meth : Method} {c : Code} {Q : State → Prop} {G : gw_G} {A : Nat → Prop} {ad wk wv : Nat → Nat} (σ : xS) {nC nS : Nat} {nW : Nat → Nat} (hk : xk σ nC nS nW) (k : Nat) (hkk : k < nC) (z x : Int32) (w : Nat) (hw : w < nS) (hit : pHit σ.1 k x w) (X : gx_Y RX1 cX1_holder 6 (some .int) G A wk wv p s m args meth c)  (K : (∀ (i : Nat) (H : Heap) (locs : List Loc) (ls : Array Slot), i < nS → pHit σ.1 k x i → (∀ j, j < i → ¬ pHit σ.1 k x j) → xx_H G A s.heap H locs ad wk σ → lv_has ls 6 [(0, .ref (ad 0)), (2, .int z), (5, .int (nI i))] → W p l e (xx_rm 8 8 100) s m args below meth c H locs 0 0 Q (F0 m 88 ls []))) : ∀ (n : Nat) (i : Nat), w < i + n → i ≤ w → (∀ j, j < i → ¬ pHit σ.1 k x j) → ∀ (H : Heap) (locs : List Loc) (ls : Array Slot), xx_H G A s.heap H locs ad wk σ → lv_has ls 6 [(0, .ref (ad 0)), (2, .int z), (3, .ref (ad (40 + k))), (4, .int x), (5, .int (nI i))] → W p l e (xx_rm 8 8 100) s m args below meth c H locs 0 0 Q (F0 m 38 ls []) := by
  obtain ⟨hx, hb, hml, hT, hr, hlocks, hxc, hA⟩ := id X
  intro n
  induction n with
  | zero =>
    intro i h0 hi hall
    exact absurd h0 (by omega)
  | succ n ih =>
    intro i h0 hi hall H locs ls hH hl
    have h8 := hk.1.2
    have h60 := hk.2.1.2
    obtain ⟨q, hqc, hq⟩ := hk.2.2.2 i (by omega)
    have hnx : ¬ pHit σ.1 k x i → i < w := fun h => by rcases Nat.lt_or_ge i w with y | y; exact y; rw [show i = w by omega] at h; exact absurd hit h
    refine lv_aload_n hx hb dX1_holder_38 rfl (lv_at hl 0 rfl) ?_
    refine gw_get (C := RX1) (T := TX1) (N := 21) (ci := 1) (fs := xx_fs1 ad σ.1.1) (v := .ref (ad 5)) hx hb hT hH.1 0 xx_0 rfl in_X1 2 (by decide) rfl q178 rfl dX1_holder_39 ?_
    refine lv_iload hx hb dX1_holder_42 (lv_at hl 4 rfl) ?_
    refine gw_aald (b := ad (220 + i)) hx hb hT hH.1 5 6 xx_5 rfl i rfl (show i < 60 by omega) (by decide) (xx_shr hk (show i < nS by omega)) dX1_holder_44 ?_
    refine gw_getN (C := RX7) (T := TX7) (N := 8) (ci := 6) (fs := xx_fs7 ad σ.1 i) (v := .ref (ad (40 + q))) hx hb hT hH.1 (220 + i) (xx_share hk (k := i) (by omega)) rfl in_X7 0 (by decide) rfl (List.mem_of_getElem? (i := 11) rfl) (xx_sch hk hq hqc) dX1_holder_45 ?_
    refine lv_aload_n hx hb dX1_holder_48 rfl (lv_at hl 2 rfl) ?_
    refine xx_acmp_ne (tgt := 82) (i := q) (j := k) hx hb hH.2.1 hk (show q < nC by omega) (show k < nC by omega) dX1_holder_49 (by decide) (fun c_49 => ?_) (fun c_49 => ?_)
    · skip
      refine lv_iinc (v := nI (i + 1)) (lv' := [(5, .int (nI (i + 1))), (0, .ref (ad 0)), (2, .int z), (3, .ref (ad (40 + k))), (4, .int x)]) hx hb dX1_holder_82 hl (k := 4) rfl (nI_add i 1) (by decide) rfl (fun ls hl => ?_)
      refine lv_goto (tgt := 38) hx hb dX1_holder_85 (by decide) ?_
      have hni : ¬ pHit σ.1 k x i := fun h => c_49 ((nI_eq (by omega) (by omega)).mp (hq.symm.trans h.1))
      have hiw := hnx hni
      exact ih (i + 1) (by omega) (by omega) (fun j hj => by rcases Nat.lt_or_ge j i with y | y; exact hall j y; rw [show j = i by omega]; exact hni) _ _ _ hH (lv_sub hl [1, 2, 3, 4, 0] rfl)
    · skip
      refine lv_iload hx hb dX1_holder_52 (lv_at hl 3 rfl) ?_
      refine lv_aload_n hx hb dX1_holder_54 rfl (lv_at hl 0 rfl) ?_
      refine gw_get (C := RX1) (T := TX1) (N := 21) (ci := 1) (fs := xx_fs1 ad σ.1.1) (v := .ref (ad 5)) hx hb hT hH.1 0 xx_0 rfl in_X1 2 (by decide) rfl q178 rfl dX1_holder_55 ?_
      refine lv_iload hx hb dX1_holder_58 (lv_at hl 4 rfl) ?_
      refine gw_aald (b := ad (220 + i)) hx hb hT hH.1 5 6 xx_5 rfl i rfl (show i < 60 by omega) (by decide) (xx_shr hk (show i < nS by omega)) dX1_holder_60 ?_
      refine gw_getN (C := RX7) (T := TX7) (N := 8) (ci := 6) (fs := xx_fs7 ad σ.1 i) (v := .int (σ.1.2 16 (7 * i + 1))) hx hb hT hH.1 (220 + i) (xx_share hk (k := i) (by omega)) rfl in_X7 2 (by decide) rfl (List.mem_of_getElem? (i := 13) rfl) rfl dX1_holder_61 ?_
      refine lv_icmp_lt (tgt := 82) hx hb dX1_holder_64 (by decide) (fun c_64 => ?_) (fun c_64 => ?_)
      · skip
        refine lv_iinc (v := nI (i + 1)) (lv' := [(5, .int (nI (i + 1))), (0, .ref (ad 0)), (2, .int z), (3, .ref (ad (40 + k))), (4, .int x)]) hx hb dX1_holder_82 hl (k := 4) rfl (nI_add i 1) (by decide) rfl (fun ls hl => ?_)
        refine lv_goto (tgt := 38) hx hb dX1_holder_85 (by decide) ?_
        have hni : ¬ pHit σ.1 k x i := fun h => h.2.1 c_64
        have hiw := hnx hni
        exact ih (i + 1) (by omega) (by omega) (fun j hj => by rcases Nat.lt_or_ge j i with y | y; exact hall j y; rw [show j = i by omega]; exact hni) _ _ _ hH (lv_sub hl [1, 2, 3, 4, 0] rfl)
      · skip
        refine lv_iload hx hb dX1_holder_67 (lv_at hl 3 rfl) ?_
        refine lv_aload_n hx hb dX1_holder_69 rfl (lv_at hl 0 rfl) ?_
        refine gw_get (C := RX1) (T := TX1) (N := 21) (ci := 1) (fs := xx_fs1 ad σ.1.1) (v := .ref (ad 5)) hx hb hT hH.1 0 xx_0 rfl in_X1 2 (by decide) rfl q178 rfl dX1_holder_70 ?_
        refine lv_iload hx hb dX1_holder_73 (lv_at hl 4 rfl) ?_
        refine gw_aald (b := ad (220 + i)) hx hb hT hH.1 5 6 xx_5 rfl i rfl (show i < 60 by omega) (by decide) (xx_shr hk (show i < nS by omega)) dX1_holder_75 ?_
        refine gw_getN (C := RX7) (T := TX7) (N := 8) (ci := 6) (fs := xx_fs7 ad σ.1 i) (v := .int (σ.1.2 16 (7 * i + 2))) hx hb hT hH.1 (220 + i) (xx_share hk (k := i) (by omega)) rfl in_X7 3 (by decide) rfl (List.mem_of_getElem? (i := 14) rfl) rfl dX1_holder_76 ?_
        refine lv_icmp_lt (tgt := 88) hx hb dX1_holder_79 (by decide) (fun c_79 => ?_) (fun c_79 => ?_)
        · skip
          exact K i _ _ _ (by omega) ⟨hq.trans (congrArg nI c_49), c_64, c_79⟩ hall hH (lv_sub hl [0, 1, 4] rfl)
        · skip
          refine lv_iinc (v := nI (i + 1)) (lv' := [(5, .int (nI (i + 1))), (0, .ref (ad 0)), (2, .int z), (3, .ref (ad (40 + k))), (4, .int x)]) hx hb dX1_holder_82 hl (k := 4) rfl (nI_add i 1) (by decide) rfl (fun ls hl => ?_)
          refine lv_goto (tgt := 38) hx hb dX1_holder_85 (by decide) ?_
          have hni : ¬ pHit σ.1 k x i := fun h => c_79 h.2.2
          have hiw := hnx hni
          exact ih (i + 1) (by omega) (by omega) (fun j hj => by rcases Nat.lt_or_ge j i with y | y; exact hall j y; rw [show j = i by omega]; exact hni) _ _ _ hH (lv_sub hl [1, 2, 3, 4, 0] rfl)

set_option maxHeartbeats 1000000 in
set_option maxRecDepth 100000 in
theorem c_X1_holder (l : Launch) (hfl : l.flags = pinnedFlags ++ [noTraceFlag]) (σ : xS) {nC nS : Nat} {nW : Nat → Nat} (hk : xk σ nC nS nW) (v z : Int32) (h9 : ∀ k, k < nC → ¬ σ.1.2 8 k = -1 → ¬ σ.1.2 9 k = 0) (hcov : ∀ k, k < nC → ¬ σ.1.2 8 k = -1 → 0 ≤ z → ∃ w, w < nS ∧ pHit σ.1 k (pRem z (σ.1.2 9 k)) w) : xx_C l yX1_holder (Cond.code yX1_holder cX1_holder 6 (some .int)) 8 8 100 (fun ad => [.ref (ad 0), .int v, .int z]) σ (fun r u => σ = u ∧ ∃ k, k < nC ∧ nI k = v ∧ 0 ≤ z ∧ ((σ.1.2 8 k = -1 ∧ some (.int (-1)) = r) ∨ (¬ σ.1.2 8 k = -1 ∧ ∃ i, i < nS ∧ pHit σ.1 k (pRem z (σ.1.2 9 k)) i ∧ (∀ j, j < i → ¬ pHit σ.1 k (pRem z (σ.1.2 9 k)) j) ∧ some (.int (xHold σ.1 i z)) = r))) (fun q u => σ = u ∧ ((q = 1 ∧ (¬ ∃ k, k < nC ∧ nI k = v)) ∨ ∃ k, k < nC ∧ nI k = v ∧ q = 3 ∧ ¬ 0 ≤ z)) := by
  refine xx_of (by decide) (fun ad => Nat.le_of_ble_eq_true rfl) ?_
  intro p e s m args below meth c G A ad wk wv ls X hE hH hl
  obtain ⟨hx, hb, hml, hT, hr, hlocks, hxc, hA⟩ := id X
  have hl : lv_has ls 6 [(0, .ref (ad 0)), (1, .int v), (2, .int z)] := hl
  have h8 := hk.1.2
  have h60 := hk.2.1.2
  refine lv_aload_n hx hb dX1_holder_0 rfl (lv_at hl 0 rfl) ?_
  refine lv_iload_n hx hb dX1_holder_1 rfl (lv_at hl 1 rfl) ?_
  by_cases h_2 : ∃ k, k < nC ∧ nI k = v
  · skip
    obtain ⟨k, hkk, rfl⟩ := h_2
    refine xr_Vr (n := 1) 0 ((c_X1_channelAt1 l σ hk k (by omega)) G ad wk) hx hb hml hT hH.1 hH.2.1 xx_0 rfl (lw_V q435 q437 qs4 q33 q438) (by decide +kernel) ⟨Nat.le_of_ble_eq_true rfl, Nat.le_of_ble_eq_true rfl⟩ rfl hl.1 rfl (Nat.le_of_ble_eq_true rfl) dX1_holder_2 ⟨Nat.le_of_ble_eq_true rfl, Nat.le_of_ble_eq_true rfl⟩ ?_
    refine lv_astore_n (lv' := [(3, .ref (ad (40 + k))), (0, .ref (ad 0)), (1, .int (nI k)), (2, .int z)]) hx hb dX1_holder_5 rfl hl (by decide) rfl (fun ls hl => ?_)
    refine lv_iload_n hx hb dX1_holder_6 rfl (lv_at hl 3 rfl) ?_
    refine lv_if_lt (tgt := 14) hx hb dX1_holder_7 (by decide) (fun c_7 => ?_) (fun c_7 => ?_)
    · skip
      refine lv_iconst (v := 0) hx hb dX1_holder_14 (by decide) ?_
      exact xt_call (k := 3) (yy_S (n := 1) (c_X1_must0 l hfl σ G A ad wk wv) hx hb hml hT hxc hA hH q320 (ex_code_of hT.2.1 q320) (ex_named (hT.2.1 _ q320)) q319 q33 q318 (by decide +kernel) ⟨Nat.le_of_ble_eq_true rfl, Nat.le_of_ble_eq_true rfl⟩ rfl hl.1 rfl (Nat.le_of_ble_eq_true rfl) dX1_holder_15 ⟨Nat.le_of_ble_eq_true rfl, Nat.le_of_ble_eq_true rfl⟩) hlocks hE (xx_tq hT hH (fun _ _ _ => rfl) (by decide) (⟨rfl, Or.inr ⟨k, hkk, rfl, rfl, Int32.not_le.mpr c_7⟩⟩)) hH.2.2.2.2 (Nat.le_of_ble_eq_true rfl) (Nat.le_of_ble_eq_true rfl)
    · skip
      refine lv_iconst (v := 1) hx hb dX1_holder_10 (by decide) ?_
      refine lv_goto (tgt := 15) hx hb dX1_holder_11 (by decide) ?_
      refine tk_cSv (n := 1) (c_X1_must1 l) hx hb hml hT.1 hT.2.1 (fun a U g mk h => h) (fun U hU hW => trivial) (lw_S q318 q319 q33 q320) (by decide +kernel) ⟨Nat.le_of_ble_eq_true rfl, Nat.le_of_ble_eq_true rfl⟩ rfl hl.1 rfl (Nat.le_of_ble_eq_true rfl) dX1_holder_15 ⟨Nat.le_of_ble_eq_true rfl, Nat.le_of_ble_eq_true rfl⟩ ?_
      refine lv_aload_n hx hb dX1_holder_18 rfl (lv_at hl 0 rfl) ?_
      refine xr_V (n := 0) (40 + k) ((c_X5_isDug l σ hk k (by omega)) G ad wk) hx hb hml hT hH.1 hH.2.1 (xx_chan hk (show k < nC by omega)) rfl (lw_V q280 q281 q282 q42 q283) (by decide +kernel) ⟨Nat.le_of_ble_eq_true rfl, Nat.le_of_ble_eq_true rfl⟩ rfl hl.1 rfl (Nat.le_of_ble_eq_true rfl) dX1_holder_19 ⟨Nat.le_of_ble_eq_true rfl, Nat.le_of_ble_eq_true rfl⟩ (fun r_19 hp_19 => ?_)
      rcases hp_19 with ⟨rfl, h_19⟩ | ⟨rfl, h_19⟩
      · skip
        refine lv_if_ne (tgt := 27) hx hb dX1_holder_22 (by decide) (fun c_22 => ?_) (fun c_22 => ?_)
        · skip
          refine lv_iload_n hx hb dX1_holder_27 rfl (lv_at hl 3 rfl) ?_
          refine lv_aload_n hx hb dX1_holder_28 rfl (lv_at hl 0 rfl) ?_
          refine gw_getN (C := RX5) (T := TX5) (N := 5) (ci := 4) (fs := xx_fs5 ad σ.1 k) (v := .int (σ.1.2 9 k)) hx hb hT hH.1 (40 + k) (xx_chan hk (show k < nC by omega)) rfl in_X5 4 (by decide) rfl (List.mem_of_getElem? (i := 7) rfl) rfl dX1_holder_29 ?_
          refine lv_irem hx hb dX1_holder_32 (h9 k hkk h_19) ?_
          refine lv_as (z := pRem z (σ.1.2 9 k)) rfl ?_
          refine lv_istore (lv' := [(4, .int (pRem z (σ.1.2 9 k))), (3, .ref (ad (40 + k))), (0, .ref (ad 0)), (1, .int (nI k)), (2, .int z)]) hx hb dX1_holder_33 hl (by decide) rfl (fun ls hl => ?_)
          refine lv_iconst (v := 0) hx hb dX1_holder_35 (by decide) ?_
          refine lv_istore (lv' := [(5, .int 0), (4, .int (pRem z (σ.1.2 9 k))), (3, .ref (ad (40 + k))), (0, .ref (ad 0)), (1, .int (nI k)), (2, .int z)]) hx hb dX1_holder_36 hl (by decide) rfl (fun ls hl => ?_)
          obtain ⟨w, hw, hit⟩ := hcov k hkk h_19 (in_ge c_7)
          refine lp_X1_holder σ hk k hkk z (pRem z (σ.1.2 9 k)) w hw hit X ?_ (w + 1) 0 (by omega) (Nat.zero_le _) (fun j hj => absurd hj (Nat.not_lt_zero j)) _ _ _ hH (lv_sub hl [3, 5, 2, 1, 0] rfl)
          intro i H locs ls hi hit hno hH hl
          refine lv_aload_n hx hb dX1_holder_88 rfl (lv_at hl 0 rfl) ?_
          refine gw_get (C := RX1) (T := TX1) (N := 21) (ci := 1) (fs := xx_fs1 ad σ.1.1) (v := .ref (ad 5)) hx hb hT hH.1 0 xx_0 rfl in_X1 2 (by decide) rfl q178 rfl dX1_holder_89 ?_
          refine lv_iload hx hb dX1_holder_92 (lv_at hl 2 rfl) ?_
          refine gw_aald (b := ad (220 + i)) hx hb hT hH.1 5 6 xx_5 rfl i rfl (show i < 60 by omega) (by decide) (xx_shr hk (show i < nS by omega)) dX1_holder_94 ?_
          refine lv_iload_n hx hb dX1_holder_95 rfl (lv_at hl 1 rfl) ?_
          refine xr_V (n := 1) (220 + i) ((c_X7_holder l σ hk i (by omega) z) G ad wk) hx hb hml hT hH.1 hH.2.1 (xx_share hk (k := i) (by omega)) rfl (lw_V q645 q646 q647 q49 q648) (by decide +kernel) ⟨Nat.le_of_ble_eq_true rfl, Nat.le_of_ble_eq_true rfl⟩ rfl hl.1 rfl (Nat.le_of_ble_eq_true rfl) dX1_holder_96 ⟨Nat.le_of_ble_eq_true rfl, Nat.le_of_ble_eq_true rfl⟩ (fun r_96 hp_96 => ?_)
          obtain rfl := hp_96
          exact xx_ri hx hb hr hlocks hT hH (fun _ _ _ => rfl) rfl dX1_holder_99 (⟨rfl, k, hkk, rfl, in_ge c_7, Or.inr ⟨h_19, i, hi, hit, hno, rfl⟩⟩) (Nat.le_of_ble_eq_true rfl) (Nat.le_of_ble_eq_true rfl)
        · skip
          exact absurd c_22 (by decide)
      · skip
        refine lv_if_ne (tgt := 27) hx hb dX1_holder_22 (by decide) (fun c_22 => ?_) (fun c_22 => ?_)
        · skip
          exact absurd c_22 (by decide)
        · skip
          refine lv_iconst (v := (-1)) hx hb dX1_holder_25 (by decide) ?_
          exact xx_ri hx hb hr hlocks hT hH (fun _ _ _ => rfl) rfl dX1_holder_26 (⟨rfl, k, hkk, rfl, in_ge c_7, Or.inl ⟨h_19, rfl⟩⟩) (Nat.le_of_ble_eq_true rfl) (Nat.le_of_ble_eq_true rfl)
  · skip
    exact xt_call (k := 1) (yy_V (n := 1) 0 (c_X1_channelAt0 l hfl σ hk v h_2 G A ad wk wv) hx hb hml hT hxc hA hH xx_0 rfl q438 (ex_code_of hT.2.1 q438) q437 qs4 q33 q435 (by decide +kernel) ⟨Nat.le_of_ble_eq_true rfl, Nat.le_of_ble_eq_true rfl⟩ rfl hl.1 rfl (Nat.le_of_ble_eq_true rfl) dX1_holder_2 ⟨Nat.le_of_ble_eq_true rfl, Nat.le_of_ble_eq_true rfl⟩) hlocks hE (xx_tq hT hH (fun _ _ _ => rfl) (by decide) (⟨rfl, Or.inl ⟨rfl, h_2⟩⟩)) hH.2.2.2.2 (Nat.le_of_ble_eq_true rfl) (Nat.le_of_ble_eq_true rfl)

def xLets (σ : mS) : Nat → Nat
  | 0 => 0
  | n + 1 => xLets σ n + (if ¬ σ.2 16 (7 * n + 4) = -1 ∧ σ.1 4 < σ.2 16 (7 * n + 6) then 1 else 0)
theorem xLets_le (σ : mS) : ∀ n, xLets σ n ≤ n
  | 0 => Nat.le_refl _
  | n + 1 => by
    have := xLets_le σ n
    rw [xLets]
    split <;> omega
def xWat (σ : mS) (nC : Nat) (nW : Nat → Nat) : Nat → Int32
  | 0 => 0
  | n + 1 => xWat σ nC nW n + (if σ.2 8 n = -1 then 0 else xFlows σ nC nW n (σ.1 11))
def xCount (σ : mS) (nC nS : Nat) (nW : Nat → Nat) (x : Int32) : Int32 :=
  if x = 0 then σ.1 10 else if x = 1 then σ.1 11 else if x = 2 then σ.1 3 else if x = 3 then σ.1 4 else if x = 4 then σ.1 17 else if x = 5 then nI (xLets σ nS) else if x = 6 then σ.1 34 else if x = 7 then xWat σ nC nW nC else -1
theorem xCount_out (σ : mS) (nC nS : Nat) (nW : Nat → Nat) (x : Int32) (h : x.toInt < 0 ∨ 7 < x.toInt) : xCount σ nC nS nW x = -1 := by
  have key : ∀ (y : Int32) (a : Int), y.toInt = a → 0 ≤ a → a ≤ 7 → ¬ x = y := by
    rintro y a ha h0 h7 rfl
    omega
  unfold xCount
  rw [if_neg (key 0 0 rfl (by decide) (by decide)), if_neg (key 1 1 rfl (by decide) (by decide)), if_neg (key 2 2 rfl (by decide) (by decide)), if_neg (key 3 3 rfl (by decide) (by decide)), if_neg (key 4 4 rfl (by decide) (by decide)), if_neg (key 5 5 rfl (by decide) (by decide)), if_neg (key 6 6 rfl (by decide) (by decide)), if_neg (key 7 7 rfl (by decide) (by decide))]

set_option maxHeartbeats 1000000 in
set_option maxRecDepth 100000 in
theorem lp_X1_count1 {p : Program} {l : Launch} {e : Env} {s : State} {m : MethodId} {args : Array Value} {below : List Frame} {meth : Method} {c : Code} {Q : State → Prop} {G : gw_G} {ad wk : Nat → Nat} (σ : xS) {nC nS : Nat} {nW : Nat → Nat} (hk : xk σ nC nS nW) (x : Int32) (X : gx_X RX1 cX1_count 5 (some .int) G p s m args meth c) (hH : xr_H G ad wk σ s.heap) (K : (∀ (ls : Array Slot), lv_has ls 5 [(0, .ref (ad 0)), (1, .int x), (2, .int (nI (xLets σ.1 nS))), (3, .int 0)] → W p l e (mm_rm 6) s m args below meth c s.heap [] 0 0 Q (F0 m 47 ls []))) : ∀ (n : Nat) (i : Nat), nS < i + n → i ≤ nS → ∀ (ls : Array Slot), lv_has ls 5 [(0, .ref (ad 0)), (1, .int x), (2, .int (nI (xLets σ.1 i))), (3, .int 0), (4, .int (nI i))] → W p l e (mm_rm 6) s m args below meth c s.heap [] 0 0 Q (F0 m 7 ls []) := by
  obtain ⟨hx, hb, hml, hT, hr, hlocks⟩ := id X
  intro n
  induction n with
  | zero =>
    intro i h0 hi
    exact absurd h0 (by omega)
  | succ n ih =>
    intro i h0 hi ls hl
    have h8 := hk.1.2
    have h60 := hk.2.1.2
    have hle := xLets_le σ.1 i
    refine lv_iload hx hb dX1_count_7 (lv_at hl 4 rfl) ?_
    refine lv_aload_n hx hb dX1_count_9 rfl (lv_at hl 0 rfl) ?_
    refine gw_get (C := RX1) (T := TX1) (N := 21) (ci := 1) (fs := xx_fs1 ad σ.1.1) (v := .int (σ.1.1 17)) hx hb hT hH.1 0 xx_0 rfl in_X1 14 (by decide) rfl q190 rfl dX1_count_10 ?_
    refine lv_as hk.2.1.1 ?_
    refine lv_icmp_ge (tgt := 47) hx hb dX1_count_13 (by decide) (fun c_13 => ?_) (fun c_13 => ?_)
    · skip
      have c_13 : nS ≤ i := (nI_leI (a := nS) (b := i) (by omega) (by omega)).mp c_13
      obtain rfl : nS = i := by omega
      exact K _ (lv_sub hl [0, 1, 2, 3] rfl)
    · skip
      have c_13 : ¬ (nS ≤ i) := fun h => c_13 ((nI_leI (a := nS) (b := i) (by omega) (by omega)).mpr h)
      refine lv_iload_n hx hb dX1_count_16 rfl (lv_at hl 2 rfl) ?_
      refine lv_aload_n hx hb dX1_count_17 rfl (lv_at hl 0 rfl) ?_
      refine gw_get (C := RX1) (T := TX1) (N := 21) (ci := 1) (fs := xx_fs1 ad σ.1.1) (v := .ref (ad 5)) hx hb hT hH.1 0 xx_0 rfl in_X1 2 (by decide) rfl q178 rfl dX1_count_18 ?_
      refine lv_iload hx hb dX1_count_21 (lv_at hl 4 rfl) ?_
      refine gw_aald (b := ad (220 + i)) hx hb hT hH.1 5 6 xx_5 rfl i rfl (show i < 60 by omega) (by decide) (xx_shr hk (show i < nS by omega)) dX1_count_23 ?_
      refine lv_aload_n hx hb dX1_count_24 rfl (lv_at hl 0 rfl) ?_
      refine gw_get (C := RX1) (T := TX1) (N := 21) (ci := 1) (fs := xx_fs1 ad σ.1.1) (v := .int (σ.1.1 4)) hx hb hT hH.1 0 xx_0 rfl in_X1 18 (by decide) rfl q194 rfl dX1_count_25 ?_
      refine xr_V (n := 1) (220 + i) ((c_X7_isLet l σ hk i (by omega) (σ.1.1 4)) G ad wk) hx hb hml hT hH.1 hH.2.1 (xx_share hk (k := i) (by omega)) rfl (lw_V q276 q277 q278 q49 q279) (by decide +kernel) ⟨Nat.le_of_ble_eq_true rfl, Nat.le_of_ble_eq_true rfl⟩ rfl hl.1 rfl (Nat.le_of_ble_eq_true rfl) dX1_count_28 ⟨Nat.le_of_ble_eq_true rfl, Nat.le_of_ble_eq_true rfl⟩ (fun r_28 hp_28 => ?_)
      rcases hp_28 with ⟨rfl, h_28⟩ | ⟨rfl, h_28⟩
      · skip
        refine lv_if_eq (tgt := 38) hx hb dX1_count_31 (by decide) (fun c_31 => ?_) (fun c_31 => ?_)
        · skip
          exact absurd c_31 (by decide)
        · skip
          refine lv_iconst (v := 1) hx hb dX1_count_34 (by decide) ?_
          refine lv_goto (tgt := 39) hx hb dX1_count_35 (by decide) ?_
          refine lv_iadd hx hb dX1_count_39 ?_
          refine lv_as (nI_add (xLets σ.1 i) 1) ?_
          refine lv_istore_n (lv' := [(2, .int (nI ((xLets σ.1 i) + 1))), (0, .ref (ad 0)), (1, .int x), (3, .int 0), (4, .int (nI i))]) hx hb dX1_count_40 rfl hl (by decide) rfl (fun ls hl => ?_)
          refine lv_iinc (v := nI (i + 1)) (lv' := [(4, .int (nI (i + 1))), (2, .int (nI ((xLets σ.1 i) + 1))), (0, .ref (ad 0)), (1, .int x), (3, .int 0)]) hx hb dX1_count_41 hl (k := 4) rfl (nI_add i 1) (by decide) rfl (fun ls hl => ?_)
          refine lv_goto (tgt := 7) hx hb dX1_count_44 (by decide) ?_
          have e2 : xLets σ.1 (i + 1) = xLets σ.1 i + 1 := by rw [xLets, if_pos h_28]
          have hl := lv_sub (l' := [(0, .ref (ad 0)), (1, .int x), (2, .int (nI (xLets σ.1 i + 1))), (3, .int 0), (4, .int (nI (i + 1)))]) hl [2, 3, 1, 4, 0] rfl
          rw [← e2] at hl
          exact ih (i + 1) (by omega) (by omega) _ hl
      · skip
        refine lv_if_eq (tgt := 38) hx hb dX1_count_31 (by decide) (fun c_31 => ?_) (fun c_31 => ?_)
        · skip
          refine lv_iconst (v := 0) hx hb dX1_count_38 (by decide) ?_
          refine lv_iadd hx hb dX1_count_39 ?_
          refine lv_as (nI_add (xLets σ.1 i) 0) ?_
          refine lv_istore_n (lv' := [(2, .int (nI ((xLets σ.1 i) + 0))), (0, .ref (ad 0)), (1, .int x), (3, .int 0), (4, .int (nI i))]) hx hb dX1_count_40 rfl hl (by decide) rfl (fun ls hl => ?_)
          refine lv_iinc (v := nI (i + 1)) (lv' := [(4, .int (nI (i + 1))), (2, .int (nI ((xLets σ.1 i) + 0))), (0, .ref (ad 0)), (1, .int x), (3, .int 0)]) hx hb dX1_count_41 hl (k := 4) rfl (nI_add i 1) (by decide) rfl (fun ls hl => ?_)
          refine lv_goto (tgt := 7) hx hb dX1_count_44 (by decide) ?_
          have e2 : xLets σ.1 (i + 1) = xLets σ.1 i + 0 := by rw [xLets, if_neg h_28]
          have hl := lv_sub (l' := [(0, .ref (ad 0)), (1, .int x), (2, .int (nI (xLets σ.1 i + 0))), (3, .int 0), (4, .int (nI (i + 1)))]) hl [2, 3, 1, 4, 0] rfl
          rw [← e2] at hl
          exact ih (i + 1) (by omega) (by omega) _ hl
        · skip
          exact absurd c_31 (by decide)

set_option maxHeartbeats 1000000 in
set_option maxRecDepth 100000 in
theorem lp_X1_count2 {p : Program} {l : Launch} {e : Env} {s : State} {m : MethodId} {args : Array Value} {below : List Frame} {meth : Method} {c : Code} {Q : State → Prop} {G : gw_G} {ad wk : Nat → Nat} (σ : xS) {nC nS : Nat} {nW : Nat → Nat} (hk : xk σ nC nS nW) (x : Int32) (X : gx_X RX1 cX1_count 5 (some .int) G p s m args meth c) (hH : xr_H G ad wk σ s.heap) (K : (∀ (ls : Array Slot), lv_has ls 5 [(0, .ref (ad 0)), (1, .int x), (2, .int (nI (xLets σ.1 nS))), (3, .int (xWat σ.1 nC nW nC))] → W p l e (mm_rm 6) s m args below meth c s.heap [] 0 0 Q (F0 m 100 ls []))) : ∀ (n : Nat) (i : Nat), nC < i + n → i ≤ nC → ∀ (ls : Array Slot), lv_has ls 5 [(0, .ref (ad 0)), (1, .int x), (2, .int (nI (xLets σ.1 nS))), (3, .int (xWat σ.1 nC nW i)), (4, .int (nI i))] → W p l e (mm_rm 6) s m args below meth c s.heap [] 0 0 Q (F0 m 50 ls []) := by
  obtain ⟨hx, hb, hml, hT, hr, hlocks⟩ := id X
  intro n
  induction n with
  | zero =>
    intro i h0 hi
    exact absurd h0 (by omega)
  | succ n ih =>
    intro i h0 hi ls hl
    have h8 := hk.1.2
    have h60 := hk.2.1.2
    refine lv_iload hx hb dX1_count_50 (lv_at hl 4 rfl) ?_
    refine lv_aload_n hx hb dX1_count_52 rfl (lv_at hl 0 rfl) ?_
    refine gw_get (C := RX1) (T := TX1) (N := 21) (ci := 1) (fs := xx_fs1 ad σ.1.1) (v := .int (σ.1.1 10)) hx hb hT hH.1 0 xx_0 rfl in_X1 12 (by decide) rfl q188 rfl dX1_count_53 ?_
    refine lv_as hk.1.1 ?_
    refine lv_icmp_ge (tgt := 100) hx hb dX1_count_56 (by decide) (fun c_56 => ?_) (fun c_56 => ?_)
    · skip
      have c_56 : nC ≤ i := (nI_leI (a := nC) (b := i) (by omega) (by omega)).mp c_56
      obtain rfl : nC = i := by omega
      exact K _ (lv_sub hl [0, 1, 2, 3] rfl)
    · skip
      have c_56 : ¬ (nC ≤ i) := fun h => c_56 ((nI_leI (a := nC) (b := i) (by omega) (by omega)).mpr h)
      refine lv_iload_n hx hb dX1_count_59 rfl (lv_at hl 3 rfl) ?_
      refine lv_aload_n hx hb dX1_count_60 rfl (lv_at hl 0 rfl) ?_
      refine gw_get (C := RX1) (T := TX1) (N := 21) (ci := 1) (fs := xx_fs1 ad σ.1.1) (v := .ref (ad 4)) hx hb hT hH.1 0 xx_0 rfl in_X1 1 (by decide) rfl q177 rfl dX1_count_61 ?_
      refine lv_iload hx hb dX1_count_64 (lv_at hl 4 rfl) ?_
      refine gw_aald (b := ad (40 + i)) hx hb hT hH.1 4 4 xx_4 rfl i rfl (show i < 8 by omega) (by decide) (xx_chr hk (show i < nC by omega)) dX1_count_66 ?_
      refine xr_V (n := 0) (40 + i) ((c_X5_isDug l σ hk i (by omega)) G ad wk) hx hb hml hT hH.1 hH.2.1 (xx_chan hk (show i < nC by omega)) rfl (lw_V q280 q281 q282 q42 q283) (by decide +kernel) ⟨Nat.le_of_ble_eq_true rfl, Nat.le_of_ble_eq_true rfl⟩ rfl hl.1 rfl (Nat.le_of_ble_eq_true rfl) dX1_count_67 ⟨Nat.le_of_ble_eq_true rfl, Nat.le_of_ble_eq_true rfl⟩ (fun r_67 hp_67 => ?_)
      rcases hp_67 with ⟨rfl, h_67⟩ | ⟨rfl, h_67⟩
      · skip
        refine lv_if_eq (tgt := 91) hx hb dX1_count_70 (by decide) (fun c_70 => ?_) (fun c_70 => ?_)
        · skip
          exact absurd c_70 (by decide)
        · skip
          refine lv_aload_n hx hb dX1_count_73 rfl (lv_at hl 0 rfl) ?_
          refine lv_aload_n hx hb dX1_count_74 rfl (lv_at hl 0 rfl) ?_
          refine gw_get (C := RX1) (T := TX1) (N := 21) (ci := 1) (fs := xx_fs1 ad σ.1.1) (v := .ref (ad 4)) hx hb hT hH.1 0 xx_0 rfl in_X1 1 (by decide) rfl q177 rfl dX1_count_75 ?_
          refine lv_iload hx hb dX1_count_78 (lv_at hl 4 rfl) ?_
          refine gw_aald (b := ad (40 + i)) hx hb hT hH.1 4 4 xx_4 rfl i rfl (show i < 8 by omega) (by decide) (xx_chr hk (show i < nC by omega)) dX1_count_80 ?_
          refine lv_aload_n hx hb dX1_count_81 rfl (lv_at hl 0 rfl) ?_
          refine gw_get (C := RX1) (T := TX1) (N := 21) (ci := 1) (fs := xx_fs1 ad σ.1.1) (v := .int (σ.1.1 11)) hx hb hT hH.1 0 xx_0 rfl in_X1 13 (by decide) rfl q189 rfl dX1_count_82 ?_
          refine xr_V (n := 2) 0 ((c_X1_flowOf l σ hk i (by omega) (σ.1.1 11)) G ad wk) hx hb hml hT hH.1 hH.2.1 xx_0 rfl (lw_V q284 q286 qs2 q33 q287) (by decide +kernel) ⟨Nat.le_of_ble_eq_true rfl, Nat.le_of_ble_eq_true rfl⟩ rfl hl.1 rfl (Nat.le_of_ble_eq_true rfl) dX1_count_85 ⟨Nat.le_of_ble_eq_true rfl, Nat.le_of_ble_eq_true rfl⟩ (fun r_85 hp_85 => ?_)
          obtain rfl := hp_85
          refine lv_goto (tgt := 92) hx hb dX1_count_88 (by decide) ?_
          refine lv_iadd hx hb dX1_count_92 ?_
          refine lv_istore_n (lv' := [(3, .int ((xWat σ.1 nC nW i) + (xFlows σ.1 nC nW i (σ.1.1 11)))), (0, .ref (ad 0)), (1, .int x), (2, .int (nI (xLets σ.1 nS))), (4, .int (nI i))]) hx hb dX1_count_93 rfl hl (by decide) rfl (fun ls hl => ?_)
          refine lv_iinc (v := nI (i + 1)) (lv' := [(4, .int (nI (i + 1))), (3, .int ((xWat σ.1 nC nW i) + (xFlows σ.1 nC nW i (σ.1.1 11)))), (0, .ref (ad 0)), (1, .int x), (2, .int (nI (xLets σ.1 nS)))]) hx hb dX1_count_94 hl (k := 4) rfl (nI_add i 1) (by decide) rfl (fun ls hl => ?_)
          refine lv_goto (tgt := 50) hx hb dX1_count_97 (by decide) ?_
          have e3 : xWat σ.1 nC nW (i + 1) = xWat σ.1 nC nW i + xFlows σ.1 nC nW i (σ.1.1 11) := by rw [xWat, if_neg h_67]
          have hl := lv_sub (l' := [(0, .ref (ad 0)), (1, .int x), (2, .int (nI (xLets σ.1 nS))), (3, .int ((xWat σ.1 nC nW i) + (xFlows σ.1 nC nW i (σ.1.1 11)))), (4, .int (nI (i + 1)))]) hl [2, 3, 4, 1, 0] rfl
          rw [← e3] at hl
          exact ih (i + 1) (by omega) (by omega) _ hl
      · skip
        refine lv_if_eq (tgt := 91) hx hb dX1_count_70 (by decide) (fun c_70 => ?_) (fun c_70 => ?_)
        · skip
          refine lv_iconst (v := 0) hx hb dX1_count_91 (by decide) ?_
          refine lv_iadd hx hb dX1_count_92 ?_
          refine lv_istore_n (lv' := [(3, .int ((xWat σ.1 nC nW i) + 0)), (0, .ref (ad 0)), (1, .int x), (2, .int (nI (xLets σ.1 nS))), (4, .int (nI i))]) hx hb dX1_count_93 rfl hl (by decide) rfl (fun ls hl => ?_)
          refine lv_iinc (v := nI (i + 1)) (lv' := [(4, .int (nI (i + 1))), (3, .int ((xWat σ.1 nC nW i) + 0)), (0, .ref (ad 0)), (1, .int x), (2, .int (nI (xLets σ.1 nS)))]) hx hb dX1_count_94 hl (k := 4) rfl (nI_add i 1) (by decide) rfl (fun ls hl => ?_)
          refine lv_goto (tgt := 50) hx hb dX1_count_97 (by decide) ?_
          have e3 : xWat σ.1 nC nW (i + 1) = xWat σ.1 nC nW i + 0 := by rw [xWat, if_pos h_67]
          have hl := lv_sub (l' := [(0, .ref (ad 0)), (1, .int x), (2, .int (nI (xLets σ.1 nS))), (3, .int ((xWat σ.1 nC nW i) + 0)), (4, .int (nI (i + 1)))]) hl [2, 3, 4, 1, 0] rfl
          rw [← e3] at hl
          exact ih (i + 1) (by omega) (by omega) _ hl
        · skip
          exact absurd c_70 (by decide)

set_option maxHeartbeats 1000000 in
set_option maxRecDepth 100000 in
theorem c_X1_count (l : Launch) (σ : xS) {nC nS : Nat} {nW : Nat → Nat} (hk : xk σ nC nS nW) (x : Int32) : xr_C l yX1_count cX1_count 5 (some .int) 6 (fun ad => [.ref (ad 0), .int x]) σ (fun r => xCount σ.1 nC nS nW x = r) := by
  refine xr_ofi (by decide) (fun ad => Nat.le_of_ble_eq_true rfl) ?_
  intro p e s m args below meth c G ad wk ls X hH hl
  obtain ⟨hx, hb, hml, hT, hr, hlocks⟩ := id X
  have hl : lv_has ls 5 [(0, .ref (ad 0)), (1, .int x)] := hl
  have h8 := hk.1.2
  have h60 := hk.2.1.2
  refine lv_iconst (v := 0) hx hb dX1_count_0 (by decide) ?_
  refine lv_istore_n (lv' := [(2, .int 0), (0, .ref (ad 0)), (1, .int x)]) hx hb dX1_count_1 rfl hl (by decide) rfl (fun ls hl => ?_)
  refine lv_iconst (v := 0) hx hb dX1_count_2 (by decide) ?_
  refine lv_istore_n (lv' := [(3, .int 0), (2, .int 0), (0, .ref (ad 0)), (1, .int x)]) hx hb dX1_count_3 rfl hl (by decide) rfl (fun ls hl => ?_)
  refine lv_iconst (v := 0) hx hb dX1_count_4 (by decide) ?_
  refine lv_istore (lv' := [(4, .int 0), (3, .int 0), (2, .int 0), (0, .ref (ad 0)), (1, .int x)]) hx hb dX1_count_5 hl (by decide) rfl (fun ls hl => ?_)
  refine lp_X1_count1 σ hk x X hH ?_ (nS + 1) 0 (by omega) (Nat.zero_le _) _ (lv_sub hl [3, 4, 2, 1, 0] rfl)
  intro ls hl
  refine lv_iconst (v := 0) hx hb dX1_count_47 (by decide) ?_
  refine lv_istore (lv' := [(4, .int 0), (0, .ref (ad 0)), (1, .int x), (2, .int (nI (xLets σ.1 nS))), (3, .int 0)]) hx hb dX1_count_48 hl (by decide) rfl (fun ls hl => ?_)
  refine lp_X1_count2 σ hk x X hH ?_ (nC + 1) 0 (by omega) (Nat.zero_le _) _ (lv_sub hl [1, 2, 3, 4, 0] rfl)
  intro ls hl
  refine lv_iload_n hx hb dX1_count_100 rfl (lv_at hl 1 rfl) ?_
  by_cases c_101 : x.toInt < 0 ∨ 7 < x.toInt
  · refine lv_tableOut (tgt := 182) hx hb dX1_count_101 c_101 (by decide) ?_
    refine lv_iconst (v := (-1)) hx hb dX1_count_182 (by decide) ?_
    exact ss_ri hx hb hr hlocks rfl dX1_count_183 (xCount_out _ _ _ _ _ c_101)
  · skip
    have c_101 : x = 0 ∨ x = 1 ∨ x = 2 ∨ x = 3 ∨ x = 4 ∨ x = 5 ∨ x = 6 ∨ x = 7 := gx_sw8 c_101
    rcases c_101 with c_101 | c_101 | c_101 | c_101 | c_101 | c_101 | c_101 | c_101
    · subst c_101
      refine lv_tableIn (tgt := 148) (off := 47) hx hb dX1_count_101 (by decide) (by decide) rfl (by decide) ?_
      refine lv_aload_n hx hb dX1_count_148 rfl (lv_at hl 0 rfl) ?_
      refine gw_get (C := RX1) (T := TX1) (N := 21) (ci := 1) (fs := xx_fs1 ad σ.1.1) (v := .int (σ.1.1 10)) hx hb hT hH.1 0 xx_0 rfl in_X1 12 (by decide) rfl q188 rfl dX1_count_149 ?_
      exact ss_ri hx hb hr hlocks rfl dX1_count_152 rfl
    · subst c_101
      refine lv_tableIn (tgt := 153) (off := 52) hx hb dX1_count_101 (by decide) (by decide) rfl (by decide) ?_
      refine lv_aload_n hx hb dX1_count_153 rfl (lv_at hl 0 rfl) ?_
      refine gw_get (C := RX1) (T := TX1) (N := 21) (ci := 1) (fs := xx_fs1 ad σ.1.1) (v := .int (σ.1.1 11)) hx hb hT hH.1 0 xx_0 rfl in_X1 13 (by decide) rfl q189 rfl dX1_count_154 ?_
      exact ss_ri hx hb hr hlocks rfl dX1_count_157 rfl
    · subst c_101
      refine lv_tableIn (tgt := 158) (off := 57) hx hb dX1_count_101 (by decide) (by decide) rfl (by decide) ?_
      refine lv_aload_n hx hb dX1_count_158 rfl (lv_at hl 0 rfl) ?_
      refine gw_get (C := RX1) (T := TX1) (N := 21) (ci := 1) (fs := xx_fs1 ad σ.1.1) (v := .int (σ.1.1 3)) hx hb hT hH.1 0 xx_0 rfl in_X1 17 (by decide) rfl q193 rfl dX1_count_159 ?_
      exact ss_ri hx hb hr hlocks rfl dX1_count_162 rfl
    · subst c_101
      refine lv_tableIn (tgt := 163) (off := 62) hx hb dX1_count_101 (by decide) (by decide) rfl (by decide) ?_
      refine lv_aload_n hx hb dX1_count_163 rfl (lv_at hl 0 rfl) ?_
      refine gw_get (C := RX1) (T := TX1) (N := 21) (ci := 1) (fs := xx_fs1 ad σ.1.1) (v := .int (σ.1.1 4)) hx hb hT hH.1 0 xx_0 rfl in_X1 18 (by decide) rfl q194 rfl dX1_count_164 ?_
      exact ss_ri hx hb hr hlocks rfl dX1_count_167 rfl
    · subst c_101
      refine lv_tableIn (tgt := 168) (off := 67) hx hb dX1_count_101 (by decide) (by decide) rfl (by decide) ?_
      refine lv_aload_n hx hb dX1_count_168 rfl (lv_at hl 0 rfl) ?_
      refine gw_get (C := RX1) (T := TX1) (N := 21) (ci := 1) (fs := xx_fs1 ad σ.1.1) (v := .int (σ.1.1 17)) hx hb hT hH.1 0 xx_0 rfl in_X1 14 (by decide) rfl q190 rfl dX1_count_169 ?_
      exact ss_ri hx hb hr hlocks rfl dX1_count_172 rfl
    · subst c_101
      refine lv_tableIn (tgt := 173) (off := 72) hx hb dX1_count_101 (by decide) (by decide) rfl (by decide) ?_
      refine lv_iload_n hx hb dX1_count_173 rfl (lv_at hl 2 rfl) ?_
      exact ss_ri hx hb hr hlocks rfl dX1_count_174 rfl
    · subst c_101
      refine lv_tableIn (tgt := 175) (off := 74) hx hb dX1_count_101 (by decide) (by decide) rfl (by decide) ?_
      refine lv_aload_n hx hb dX1_count_175 rfl (lv_at hl 0 rfl) ?_
      refine gw_get (C := RX1) (T := TX1) (N := 21) (ci := 1) (fs := xx_fs1 ad σ.1.1) (v := .int (σ.1.1 34)) hx hb hT hH.1 0 xx_0 rfl in_X1 19 (by decide) rfl q195 rfl dX1_count_176 ?_
      exact ss_ri hx hb hr hlocks rfl dX1_count_179 rfl
    · subst c_101
      refine lv_tableIn (tgt := 180) (off := 79) hx hb dX1_count_101 (by decide) (by decide) rfl (by decide) ?_
      refine lv_iload_n hx hb dX1_count_180 rfl (lv_at hl 3 rfl) ?_
      exact ss_ri hx hb hr hlocks rfl dX1_count_181 rfl
