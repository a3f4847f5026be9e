theorem mm_ar_s (σ : mS) (k n : Nat) (v : Int32) : (mm_ar σ k n v).2 k n = v := by simp [mm_ar, va_up, upd]
theorem mm_ar_n {σ : mS} {k n j : Nat} {v : Int32} (h : j ≠ n) : (mm_ar σ k n v).2 k j = σ.2 k j := by simp [mm_ar, va_up, upd, h]
theorem mm_ar_o {σ : mS} {k k2 n : Nat} {v : Int32} (h : k2 ≠ k) : (mm_ar σ k n v).2 k2 = σ.2 k2 := by simp [mm_ar, va_up, h]
theorem pSets_at (σ : mS) (k : Nat) (f t o : Int32) {j : Nat} (h : j < 7 * k + 1 ∨ 7 * k + 6 < j) : (pSets σ k f t o).2 16 j = σ.2 16 j := by
  unfold pSets
  rw [mm_ar_n (by omega), mm_ar_n (by omega), mm_ar_n (by omega), mm_ar_n (by omega), mm_ar_n (by omega)]
theorem pAdds_at (σ : mS) (k : Nat) (ch f t o : Int32) {j : Nat} (h : j < 7 * k) : (pAdds σ k ch f t o).2 16 j = σ.2 16 j := by
  show (pSets (mm_ar σ 16 (7 * k) ch) k f t o).2 16 j = _
  rw [pSets_at _ _ _ _ _ (by omega), mm_ar_n (by omega)]
theorem nar_b {z : Int32} (h : z = 0 ∨ z = 1) : vp_nar .boolean z = z := by
  rcases h with rfl | rfl <;> rfl

set_option maxHeartbeats 4000000 in
set_option maxRecDepth 100000 in
theorem c_X4_share (l : Launch) (σ : mS) (v x : Int32) {nS : Nat} (h17 : σ.1 17 = nI nS) (hS : nS ≤ 60) : mm_Ci l yX4_share cX4_share 3 (some .int) 3 [.int v, .int x] σ (fun r u => ((¬ ∃ k, k < nS ∧ nI k = v) ∧ mm_st (mm_st σ 0 0) 0 1 = u ∧ 0 = r) ∨ ∃ k, k < nS ∧ nI k = v ∧ (((x.toInt < 0 ∨ 4 < x.toInt) ∧ mm_st (mm_st σ 0 0) 0 2 = u ∧ 0 = r) ∨ (∃ i, i < 4 ∧ nI i = x ∧ mm_st σ 0 0 = u ∧ σ.2 16 (7 * k + i) = r) ∨ (x = 4 ∧ mm_st σ 0 0 = u ∧ ((1 = r ∧ σ.1 4 < σ.2 16 (7 * k + 6)) ∨ (0 = r ∧ ¬ σ.1 4 < σ.2 16 (7 * k + 6)))))) := by
  refine mm_ofi (by decide) rfl (Nat.le_of_ble_eq_true rfl) ?_
  intro p e s m args below meth c G A ad ls X hH hl
  obtain ⟨hx, hb, hml, hT, hr, hlocks⟩ := id X
  have hl : lv_has ls 3 [(0, .ref (ad 0)), (1, .int v), (2, .int x)] := hl
  refine lv_aload_n hx hb dX4_share_0 rfl (lv_at hl 0 rfl) ?_
  refine lv_iconst (v := 0) hx hb dX4_share_1 (by decide) ?_
  refine mm_put hx hb hT hH 0 (by decide) (by decide) rfl rfl q781 rfl dX4_share_2 (fun H locs hH => ?_)
  refine lv_aload_n hx hb dX4_share_5 rfl (lv_at hl 0 rfl) ?_
  refine lv_aload_n hx hb dX4_share_6 rfl (lv_at hl 0 rfl) ?_
  refine lv_iload_n hx hb dX4_share_7 rfl (lv_at hl 1 rfl) ?_
  refine mm_cVi (n := 1) (c_X4_noShare l (mm_st σ 0 0) v (nS := nS) h17 hS) hx hb hml hT hH (lw_V q988 q990 qs23 q39 q991) (by decide +kernel) ⟨Nat.le_of_ble_eq_true rfl, Nat.le_of_ble_eq_true rfl⟩ rfl hl.1 rfl (Nat.le_of_ble_eq_true rfl) dX4_share_8 ⟨Nat.le_refl _, Nat.le_refl _⟩ (fun r_8 u_8 H locs hp_8 hH => ?_)
  obtain ⟨rfl, hp_8⟩ := hp_8
  rcases hp_8 with ⟨rfl, h_8⟩ | ⟨rfl, h_8⟩
  · skip
    refine lv_iconst (v := 1) hx hb dX4_share_11 (by decide) ?_
    refine mm_cVi (n := 2) (c_X4_throwsIf1 l (mm_st σ 0 0) 1) hx hb hml hT hH (lw_V q902 q904 qs13 q39 q905) (by decide +kernel) ⟨Nat.le_of_ble_eq_true rfl, Nat.le_of_ble_eq_true rfl⟩ rfl hl.1 rfl (Nat.le_of_ble_eq_true rfl) dX4_share_12 ⟨Nat.le_refl _, Nat.le_refl _⟩ (fun r_12 u_12 H locs hp_12 hH => ?_)
    obtain ⟨rfl, rfl⟩ := hp_12
    refine lv_if_eq (tgt := 20) hx hb dX4_share_15 (by decide) (fun c_15 => ?_) (fun c_15 => ?_)
    · skip
      exact absurd c_15 (by decide)
    · skip
      refine lv_iconst (v := 0) hx hb dX4_share_18 (by decide) ?_
      exact mm_ri hx hb hr hlocks hT hH rfl dX4_share_19 (Or.inl ⟨h_8, rfl, rfl⟩)
  · skip
    obtain ⟨k, hk, rfl⟩ := h_8
    refine lv_iconst (v := 1) hx hb dX4_share_11 (by decide) ?_
    refine mm_cVi (n := 2) (c_X4_throwsIf0 l (mm_st σ 0 0) 1) hx hb hml hT hH (lw_V q902 q904 qs13 q39 q905) (by decide +kernel) ⟨Nat.le_of_ble_eq_true rfl, Nat.le_of_ble_eq_true rfl⟩ rfl hl.1 rfl (Nat.le_of_ble_eq_true rfl) dX4_share_12 ⟨Nat.le_refl _, Nat.le_refl _⟩ (fun r_12 u_12 H locs hp_12 hH => ?_)
    obtain ⟨rfl, rfl⟩ := hp_12
    refine lv_if_eq (tgt := 20) hx hb dX4_share_15 (by decide) (fun c_15 => ?_) (fun c_15 => ?_)
    · skip
      refine lv_iload_n hx hb dX4_share_20 rfl (lv_at hl 2 rfl) ?_
      by_cases c_21 : x.toInt < 0 ∨ 4 < x.toInt
      · refine lv_tableOut (tgt := 82) hx hb dX4_share_21 c_21 (by decide) ?_
        refine lv_aload_n hx hb dX4_share_82 rfl (lv_at hl 0 rfl) ?_
        refine lv_iconst (v := 2) hx hb dX4_share_83 (by decide) ?_
        refine mm_put hx hb hT hH 0 (by decide) (by decide) rfl rfl q781 rfl dX4_share_84 (fun H locs hH => ?_)
        refine lv_iconst (v := 0) hx hb dX4_share_87 (by decide) ?_
        exact mm_ri hx hb hr hlocks hT hH rfl dX4_share_88 (Or.inr ⟨k, hk, rfl, Or.inl ⟨c_21, rfl, rfl⟩⟩)
      · skip
        have c_21 : x = 0 ∨ x = 1 ∨ x = 2 ∨ x = 3 ∨ x = 4 := gx_sw5 c_21
        rcases c_21 with c_21 | c_21 | c_21 | c_21 | c_21
        · subst c_21
          refine lv_tableIn (tgt := 56) (off := 35) hx hb dX4_share_21 (by decide) (by decide) rfl (by decide) ?_
          refine lv_aload_n hx hb dX4_share_56 rfl (lv_at hl 0 rfl) ?_
          refine mm_get (v := .ref (ad 16)) hx hb hT hH 16 (by decide) rfl q797 rfl dX4_share_57 ?_
          refine lv_bipush (v := 7) hx hb dX4_share_60 (by decide) ?_
          refine lv_iload_n hx hb dX4_share_62 rfl (lv_at hl 1 rfl) ?_
          refine lv_imul hx hb dX4_share_63 ?_
          refine lv_as (pk_mul 7 k) ?_
          refine lv_iload_n hx hb dX4_share_64 rfl (lv_at hl 2 rfl) ?_
          refine lv_iadd hx hb dX4_share_65 ?_
          refine lv_as (nI_add (7 * k) 0) ?_
          refine mm_ild (v := σ.2 16 ((7 * k) + 0)) hx hb hT hH 16 (by decide) rfl ((7 * k) + 0) rfl (show (7 * k) + 0 < 420 by omega) rfl dX4_share_66 ?_
          exact mm_ri hx hb hr hlocks hT hH rfl dX4_share_67 (Or.inr ⟨k, hk, rfl, Or.inr (Or.inl ⟨0, by decide, rfl, rfl, rfl⟩)⟩)
        · subst c_21
          refine lv_tableIn (tgt := 56) (off := 35) hx hb dX4_share_21 (by decide) (by decide) rfl (by decide) ?_
          refine lv_aload_n hx hb dX4_share_56 rfl (lv_at hl 0 rfl) ?_
          refine mm_get (v := .ref (ad 16)) hx hb hT hH 16 (by decide) rfl q797 rfl dX4_share_57 ?_
          refine lv_bipush (v := 7) hx hb dX4_share_60 (by decide) ?_
          refine lv_iload_n hx hb dX4_share_62 rfl (lv_at hl 1 rfl) ?_
          refine lv_imul hx hb dX4_share_63 ?_
          refine lv_as (pk_mul 7 k) ?_
          refine lv_iload_n hx hb dX4_share_64 rfl (lv_at hl 2 rfl) ?_
          refine lv_iadd hx hb dX4_share_65 ?_
          refine lv_as (nI_add (7 * k) 1) ?_
          refine mm_ild (v := σ.2 16 ((7 * k) + 1)) hx hb hT hH 16 (by decide) rfl ((7 * k) + 1) rfl (show (7 * k) + 1 < 420 by omega) rfl dX4_share_66 ?_
          exact mm_ri hx hb hr hlocks hT hH rfl dX4_share_67 (Or.inr ⟨k, hk, rfl, Or.inr (Or.inl ⟨1, by decide, rfl, rfl, rfl⟩)⟩)
        · subst c_21
          refine lv_tableIn (tgt := 56) (off := 35) hx hb dX4_share_21 (by decide) (by decide) rfl (by decide) ?_
          refine lv_aload_n hx hb dX4_share_56 rfl (lv_at hl 0 rfl) ?_
          refine mm_get (v := .ref (ad 16)) hx hb hT hH 16 (by decide) rfl q797 rfl dX4_share_57 ?_
          refine lv_bipush (v := 7) hx hb dX4_share_60 (by decide) ?_
          refine lv_iload_n hx hb dX4_share_62 rfl (lv_at hl 1 rfl) ?_
          refine lv_imul hx hb dX4_share_63 ?_
          refine lv_as (pk_mul 7 k) ?_
          refine lv_iload_n hx hb dX4_share_64 rfl (lv_at hl 2 rfl) ?_
          refine lv_iadd hx hb dX4_share_65 ?_
          refine lv_as (nI_add (7 * k) 2) ?_
          refine mm_ild (v := σ.2 16 ((7 * k) + 2)) hx hb hT hH 16 (by decide) rfl ((7 * k) + 2) rfl (show (7 * k) + 2 < 420 by omega) rfl dX4_share_66 ?_
          exact mm_ri hx hb hr hlocks hT hH rfl dX4_share_67 (Or.inr ⟨k, hk, rfl, Or.inr (Or.inl ⟨2, by decide, rfl, rfl, rfl⟩)⟩)
        · subst c_21
          refine lv_tableIn (tgt := 56) (off := 35) hx hb dX4_share_21 (by decide) (by decide) rfl (by decide) ?_
          refine lv_aload_n hx hb dX4_share_56 rfl (lv_at hl 0 rfl) ?_
          refine mm_get (v := .ref (ad 16)) hx hb hT hH 16 (by decide) rfl q797 rfl dX4_share_57 ?_
          refine lv_bipush (v := 7) hx hb dX4_share_60 (by decide) ?_
          refine lv_iload_n hx hb dX4_share_62 rfl (lv_at hl 1 rfl) ?_
          refine lv_imul hx hb dX4_share_63 ?_
          refine lv_as (pk_mul 7 k) ?_
          refine lv_iload_n hx hb dX4_share_64 rfl (lv_at hl 2 rfl) ?_
          refine lv_iadd hx hb dX4_share_65 ?_
          refine lv_as (nI_add (7 * k) 3) ?_
          refine mm_ild (v := σ.2 16 ((7 * k) + 3)) hx hb hT hH 16 (by decide) rfl ((7 * k) + 3) rfl (show (7 * k) + 3 < 420 by omega) rfl dX4_share_66 ?_
          exact mm_ri hx hb hr hlocks hT hH rfl dX4_share_67 (Or.inr ⟨k, hk, rfl, Or.inr (Or.inl ⟨3, by decide, rfl, rfl, rfl⟩)⟩)
        · subst c_21
          refine lv_tableIn (tgt := 68) (off := 47) hx hb dX4_share_21 (by decide) (by decide) rfl (by decide) ?_
          refine lv_aload_n hx hb dX4_share_68 rfl (lv_at hl 0 rfl) ?_
          refine lv_iload_n hx hb dX4_share_69 rfl (lv_at hl 1 rfl) ?_
          refine mm_cVi (n := 1) (c_X4_isLet l (mm_st σ 0 0) k (by omega)) hx hb hml hT hH (lw_V q992 q994 qs24 q39 q995) (by decide +kernel) ⟨Nat.le_of_ble_eq_true rfl, Nat.le_of_ble_eq_true rfl⟩ rfl hl.1 rfl (Nat.le_of_ble_eq_true rfl) dX4_share_70 ⟨Nat.le_refl _, Nat.le_refl _⟩ (fun r_70 u_70 H locs hp_70 hH => ?_)
          obtain ⟨rfl, hp_70⟩ := hp_70
          rcases hp_70 with ⟨rfl, h_70⟩ | ⟨rfl, h_70⟩
          · skip
            refine lv_if_eq (tgt := 80) hx hb dX4_share_73 (by decide) (fun c_73 => ?_) (fun c_73 => ?_)
            · skip
              exact absurd c_73 (by decide)
            · skip
              refine lv_iconst (v := 1) hx hb dX4_share_76 (by decide) ?_
              refine lv_goto (tgt := 81) hx hb dX4_share_77 (by decide) ?_
              exact mm_ri hx hb hr hlocks hT hH rfl dX4_share_81 (Or.inr ⟨k, hk, rfl, Or.inr (Or.inr ⟨rfl, rfl, Or.inl ⟨rfl, h_70⟩⟩)⟩)
          · skip
            refine lv_if_eq (tgt := 80) hx hb dX4_share_73 (by decide) (fun c_73 => ?_) (fun c_73 => ?_)
            · skip
              refine lv_iconst (v := 0) hx hb dX4_share_80 (by decide) ?_
              exact mm_ri hx hb hr hlocks hT hH rfl dX4_share_81 (Or.inr ⟨k, hk, rfl, Or.inr (Or.inr ⟨rfl, rfl, Or.inr ⟨rfl, h_70⟩⟩)⟩)
            · skip
              exact absurd c_73 (by decide)
    · skip
      exact absurd c_15 (by decide)

set_option maxHeartbeats 4000000 in
set_option maxRecDepth 100000 in
theorem c_X4_collapse (l : Launch) (σ : mS) (v z x : Int32) (hx2 : x = 0 ∨ x = 1) {nC : Nat} {nW : Nat → Nat} (h10 : σ.1 10 = nI nC) (hC : nC ≤ 8) (h5 : ∀ c, c < 8 → σ.2 5 c = nI (nW c)) (hW : ∀ c, c < 8 → nW c ≤ 20) (h6 : ∀ c, c < 8 → σ.2 6 c = 0 ∨ σ.2 6 c = 1) : mm_Ci l yX4_collapse cX4_collapse 5 (some .boolean) 4 [.int v, .int z, .int x] σ (fun r u => ((¬ ∃ k j, (k < nC ∧ j < nW k) ∧ nI k = v ∧ nI j = z) ∧ mm_st (mm_st σ 0 0) 0 1 = u ∧ 0 = r) ∨ ∃ k j, (k < nC ∧ j < nW k) ∧ nI k = v ∧ nI j = z ∧ ((σ.2 6 k = 0 ∧ mm_st (mm_st σ 0 0) 0 2 = u ∧ 0 = r) ∨ (σ.2 6 k = 1 ∧ mm_ar (mm_st σ 0 0) 15 (20 * k + j) x = u ∧ ((1 = r ∧ ¬ σ.2 15 (20 * k + j) = x) ∨ (0 = r ∧ σ.2 15 (20 * k + j) = x))))) := by
  refine mm_ofi (by decide) rfl (Nat.le_of_ble_eq_true rfl) ?_
  intro p e s m args below meth c G A ad ls X hH hl
  obtain ⟨hx, hb, hml, hT, hr, hlocks⟩ := id X
  have hl : lv_has ls 5 [(0, .ref (ad 0)), (1, .int v), (2, .int z), (3, .int x)] := hl
  refine lv_aload_n hx hb dX4_collapse_0 rfl (lv_at hl 0 rfl) ?_
  refine lv_iconst (v := 0) hx hb dX4_collapse_1 (by decide) ?_
  refine mm_put hx hb hT hH 0 (by decide) (by decide) rfl rfl q781 rfl dX4_collapse_2 (fun H locs hH => ?_)
  refine lv_aload_n hx hb dX4_collapse_5 rfl (lv_at hl 0 rfl) ?_
  refine lv_aload_n hx hb dX4_collapse_6 rfl (lv_at hl 0 rfl) ?_
  refine lv_iload_n hx hb dX4_collapse_7 rfl (lv_at hl 1 rfl) ?_
  refine lv_iload_n hx hb dX4_collapse_8 rfl (lv_at hl 2 rfl) ?_
  refine mm_cVi (n := 2) (c_X4_noWell l (mm_st σ 0 0) v z (nC := nC) (nW := nW) h10 hC h5 hW) hx hb hml hT hH (lw_V q951 q953 qs18 q39 q954) (by decide +kernel) ⟨Nat.le_of_ble_eq_true rfl, Nat.le_of_ble_eq_true rfl⟩ rfl hl.1 rfl (Nat.le_of_ble_eq_true rfl) dX4_collapse_9 ⟨Nat.le_refl _, Nat.le_refl _⟩ (fun r_9 u_9 H locs hp_9 hH => ?_)
  obtain ⟨rfl, hp_9⟩ := hp_9
  rcases hp_9 with ⟨rfl, h_9⟩ | ⟨rfl, h_9⟩
  · skip
    refine lv_iconst (v := 1) hx hb dX4_collapse_12 (by decide) ?_
    refine mm_cVi (n := 2) (c_X4_throwsIf1 l (mm_st σ 0 0) 1) hx hb hml hT hH (lw_V q902 q904 qs13 q39 q905) (by decide +kernel) ⟨Nat.le_of_ble_eq_true rfl, Nat.le_of_ble_eq_true rfl⟩ rfl hl.1 rfl (Nat.le_of_ble_eq_true rfl) dX4_collapse_13 ⟨Nat.le_refl _, Nat.le_refl _⟩ (fun r_13 u_13 H locs hp_13 hH => ?_)
    obtain ⟨rfl, rfl⟩ := hp_13
    refine lv_if_ne (tgt := 41) hx hb dX4_collapse_16 (by decide) (fun c_16 => ?_) (fun c_16 => ?_)
    · skip
      refine lv_iconst (v := 0) hx hb dX4_collapse_41 (by decide) ?_
      exact mm_ri hx hb hr hlocks hT hH rfl dX4_collapse_42 (Or.inl ⟨h_9, rfl, rfl⟩)
    · skip
      exact absurd c_16 (by decide)
  · skip
    obtain ⟨k, j, hkj, rfl, rfl⟩ := h_9
    have hWk := hW k (by omega)
    refine lv_iconst (v := 1) hx hb dX4_collapse_12 (by decide) ?_
    refine mm_cVi (n := 2) (c_X4_throwsIf0 l (mm_st σ 0 0) 1) hx hb hml hT hH (lw_V q902 q904 qs13 q39 q905) (by decide +kernel) ⟨Nat.le_of_ble_eq_true rfl, Nat.le_of_ble_eq_true rfl⟩ rfl hl.1 rfl (Nat.le_of_ble_eq_true rfl) dX4_collapse_13 ⟨Nat.le_refl _, Nat.le_refl _⟩ (fun r_13 u_13 H locs hp_13 hH => ?_)
    obtain ⟨rfl, rfl⟩ := hp_13
    refine lv_if_ne (tgt := 41) hx hb dX4_collapse_16 (by decide) (fun c_16 => ?_) (fun c_16 => ?_)
    · skip
      exact absurd c_16 (by decide)
    · skip
      refine lv_aload_n hx hb dX4_collapse_19 rfl (lv_at hl 0 rfl) ?_
      refine lv_aload_n hx hb dX4_collapse_20 rfl (lv_at hl 0 rfl) ?_
      refine mm_get (v := .ref (ad 6)) hx hb hT hH 6 (by decide) rfl q787 rfl dX4_collapse_21 ?_
      refine lv_iload_n hx hb dX4_collapse_24 rfl (lv_at hl 1 rfl) ?_
      refine mm_zld (v := σ.2 6 k) hx hb hT hH 6 (by decide) rfl k rfl (show k < 8 by omega) rfl dX4_collapse_25 ?_
      rcases h6 k (by omega) with k_25 | k_25
      · refine lv_as k_25 ?_
        refine lv_if_ne (tgt := 33) hx hb dX4_collapse_26 (by decide) (fun c_26 => ?_) (fun c_26 => ?_)
        · skip
          exact absurd c_26 (by decide)
        · skip
          refine lv_iconst (v := 1) hx hb dX4_collapse_29 (by decide) ?_
          refine lv_goto (tgt := 34) hx hb dX4_collapse_30 (by decide) ?_
          refine lv_iconst (v := 2) hx hb dX4_collapse_34 (by decide) ?_
          refine mm_cVi (n := 2) (c_X4_throwsIf1 l (mm_st σ 0 0) 2) hx hb hml hT hH (lw_V q902 q904 qs13 q39 q905) (by decide +kernel) ⟨Nat.le_of_ble_eq_true rfl, Nat.le_of_ble_eq_true rfl⟩ rfl hl.1 rfl (Nat.le_of_ble_eq_true rfl) dX4_collapse_35 ⟨Nat.le_refl _, Nat.le_refl _⟩ (fun r_35 u_35 H locs hp_35 hH => ?_)
          obtain ⟨rfl, rfl⟩ := hp_35
          refine lv_if_eq (tgt := 43) hx hb dX4_collapse_38 (by decide) (fun c_38 => ?_) (fun c_38 => ?_)
          · skip
            exact absurd c_38 (by decide)
          · skip
            refine lv_iconst (v := 0) hx hb dX4_collapse_41 (by decide) ?_
            exact mm_ri hx hb hr hlocks hT hH rfl dX4_collapse_42 (Or.inr ⟨k, j, hkj, rfl, rfl, Or.inl ⟨k_25, rfl, rfl⟩⟩)
      · refine lv_as k_25 ?_
        refine lv_if_ne (tgt := 33) hx hb dX4_collapse_26 (by decide) (fun c_26 => ?_) (fun c_26 => ?_)
        · skip
          refine lv_iconst (v := 0) hx hb dX4_collapse_33 (by decide) ?_
          refine lv_iconst (v := 2) hx hb dX4_collapse_34 (by decide) ?_
          refine mm_cVi (n := 2) (c_X4_throwsIf0 l (mm_st σ 0 0) 2) hx hb hml hT hH (lw_V q902 q904 qs13 q39 q905) (by decide +kernel) ⟨Nat.le_of_ble_eq_true rfl, Nat.le_of_ble_eq_true rfl⟩ rfl hl.1 rfl (Nat.le_of_ble_eq_true rfl) dX4_collapse_35 ⟨Nat.le_refl _, Nat.le_refl _⟩ (fun r_35 u_35 H locs hp_35 hH => ?_)
          obtain ⟨rfl, rfl⟩ := hp_35
          refine lv_if_eq (tgt := 43) hx hb dX4_collapse_38 (by decide) (fun c_38 => ?_) (fun c_38 => ?_)
          · skip
            refine lv_aload_n hx hb dX4_collapse_43 rfl (lv_at hl 0 rfl) ?_
            refine mm_get (v := .ref (ad 15)) hx hb hT hH 15 (by decide) rfl q796 rfl dX4_collapse_44 ?_
            refine lv_bipush (v := 20) hx hb dX4_collapse_47 (by decide) ?_
            refine lv_iload_n hx hb dX4_collapse_49 rfl (lv_at hl 1 rfl) ?_
            refine lv_imul hx hb dX4_collapse_50 ?_
            refine lv_as (pk_mul 20 k) ?_
            refine lv_iload_n hx hb dX4_collapse_51 rfl (lv_at hl 2 rfl) ?_
            refine lv_iadd hx hb dX4_collapse_52 ?_
            refine lv_as (nI_add (20 * k) j) ?_
            refine mm_zld (v := σ.2 15 ((20 * k) + j)) hx hb hT hH 15 (by decide) rfl ((20 * k) + j) rfl (show (20 * k) + j < 160 by omega) rfl dX4_collapse_53 ?_
            refine lv_istore (lv' := [(4, .int (σ.2 15 ((20 * k) + j))), (0, .ref (ad 0)), (1, .int (nI k)), (2, .int (nI j)), (3, .int x)]) hx hb dX4_collapse_54 hl (by decide) rfl (fun ls hl => ?_)
            refine lv_aload_n hx hb dX4_collapse_56 rfl (lv_at hl 1 rfl) ?_
            refine mm_get (v := .ref (ad 15)) hx hb hT hH 15 (by decide) rfl q796 rfl dX4_collapse_57 ?_
            refine lv_bipush (v := 20) hx hb dX4_collapse_60 (by decide) ?_
            refine lv_iload_n hx hb dX4_collapse_62 rfl (lv_at hl 2 rfl) ?_
            refine lv_imul hx hb dX4_collapse_63 ?_
            refine lv_as (pk_mul 20 k) ?_
            refine lv_iload_n hx hb dX4_collapse_64 rfl (lv_at hl 3 rfl) ?_
            refine lv_iadd hx hb dX4_collapse_65 ?_
            refine lv_as (nI_add (20 * k) j) ?_
            refine lv_iload_n hx hb dX4_collapse_66 rfl (lv_at hl 4 rfl) ?_
            refine mm_zst (z := x) hx hb hT hH 15 (by decide) rfl ((20 * k) + j) rfl (show (20 * k) + j < 160 by omega) (nar_b hx2) dX4_collapse_67 (fun H locs hH => ?_)
            refine lv_iload hx hb dX4_collapse_68 (lv_at hl 0 rfl) ?_
            refine lv_iload_n hx hb dX4_collapse_70 rfl (lv_at hl 4 rfl) ?_
            refine lv_icmp_eq (tgt := 78) hx hb dX4_collapse_71 (by decide) (fun c_71 => ?_) (fun c_71 => ?_)
            · skip
              refine lv_iconst (v := 0) hx hb dX4_collapse_78 (by decide) ?_
              exact mm_ri hx hb hr hlocks hT hH rfl dX4_collapse_79 (Or.inr ⟨k, j, hkj, rfl, rfl, Or.inr ⟨k_25, rfl, Or.inr ⟨rfl, c_71⟩⟩⟩)
            · skip
              refine lv_iconst (v := 1) hx hb dX4_collapse_74 (by decide) ?_
              refine lv_goto (tgt := 79) hx hb dX4_collapse_75 (by decide) ?_
              exact mm_ri hx hb hr hlocks hT hH rfl dX4_collapse_79 (Or.inr ⟨k, j, hkj, rfl, rfl, Or.inr ⟨k_25, rfl, Or.inl ⟨rfl, c_71⟩⟩⟩)
          · skip
            exact absurd c_38 (by decide)
        · skip
          exact absurd c_26 (by decide)

set_option maxHeartbeats 4000000 in
set_option maxRecDepth 100000 in
theorem c_X4_well (l : Launch) (σ : mS) (v x y f : Int32) {nC : Nat} {nW : Nat → Nat} (h10 : σ.1 10 = nI nC) (hC : nC ≤ 8) (h5 : ∀ c, c < 8 → σ.2 5 c = nI (nW c)) (hW : ∀ c, c < 8 → nW c ≤ 20) (h6 : ∀ c, c < 8 → σ.2 6 c = 0 ∨ σ.2 6 c = 1) : mm_Ci l yX4_well cX4_well 7 (some .int) 3 [.int v, .int x, .int y, .int f] σ (fun r u => ((¬ ∃ k, k < nC ∧ nI k = v) ∧ mm_st (mm_st σ 0 0) 0 1 = u ∧ 0 = r) ∨ ∃ k, k < nC ∧ nI k = v ∧ ((σ.2 6 k = 1 ∧ mm_st (mm_st σ 0 0) 0 2 = u ∧ 0 = r) ∨ (σ.2 6 k = 0 ∧ ((¬ ((0 ≤ x ∧ x ≤ 100) ∧ (0 ≤ y ∧ y ≤ 100) ∧ (0 ≤ f ∧ f ≤ 1000) ∧ (nW k = 0 ∨ σ.2 14 (20 * k + nW k - 1) ≤ f)) ∧ mm_st (mm_st σ 0 0) 0 3 = u ∧ 0 = r) ∨ (((0 ≤ x ∧ x ≤ 100) ∧ (0 ≤ y ∧ y ≤ 100) ∧ (0 ≤ f ∧ f ≤ 1000) ∧ (nW k = 0 ∨ σ.2 14 (20 * k + nW k - 1) ≤ f)) ∧ nW k = 20 ∧ mm_st (mm_st σ 0 0) 0 4 = u ∧ 0 = r) ∨ (((0 ≤ x ∧ x ≤ 100) ∧ (0 ≤ y ∧ y ≤ 100) ∧ (0 ≤ f ∧ f ≤ 1000) ∧ (nW k = 0 ∨ σ.2 14 (20 * k + nW k - 1) ≤ f)) ∧ nW k < 20 ∧ mm_ar (mm_ar (mm_ar (mm_ar (mm_st σ 0 0) 12 (20 * k + nW k) x) 13 (20 * k + nW k) y) 14 (20 * k + nW k) f) 5 k (nI (nW k + 1)) = u ∧ nI (nW k) = r))))) := by
  refine mm_ofi (by decide) rfl (Nat.le_of_ble_eq_true rfl) ?_
  intro p e s m args below meth c G A ad ls X hH hl
  obtain ⟨hx, hb, hml, hT, hr, hlocks⟩ := id X
  have hl : lv_has ls 7 [(0, .ref (ad 0)), (1, .int v), (2, .int x), (3, .int y), (4, .int f)] := hl
  refine lv_aload_n hx hb dX4_well_0 rfl (lv_at hl 0 rfl) ?_
  refine lv_iconst (v := 0) hx hb dX4_well_1 (by decide) ?_
  refine mm_put hx hb hT hH 0 (by decide) (by decide) rfl rfl q781 rfl dX4_well_2 (fun H locs hH => ?_)
  refine lv_aload_n hx hb dX4_well_5 rfl (lv_at hl 0 rfl) ?_
  refine lv_aload_n hx hb dX4_well_6 rfl (lv_at hl 0 rfl) ?_
  refine lv_iload_n hx hb dX4_well_7 rfl (lv_at hl 1 rfl) ?_
  refine mm_cVi (n := 1) (c_X4_noChannel l (mm_st σ 0 0) v (nC := nC) h10 hC) hx hb hml hT hH (lw_V q914 q916 qs14 q39 q917) (by decide +kernel) ⟨Nat.le_of_ble_eq_true rfl, Nat.le_of_ble_eq_true rfl⟩ rfl hl.1 rfl (Nat.le_of_ble_eq_true rfl) dX4_well_8 ⟨Nat.le_refl _, Nat.le_refl _⟩ (fun r_8 u_8 H locs hp_8 hH => ?_)
  obtain ⟨rfl, hp_8⟩ := hp_8
  rcases hp_8 with ⟨rfl, h_8⟩ | ⟨rfl, h_8⟩
  · skip
    refine lv_iconst (v := 1) hx hb dX4_well_11 (by decide) ?_
    refine mm_cVi (n := 2) (c_X4_throwsIf1 l (mm_st σ 0 0) 1) hx hb hml hT hH (lw_V q902 q904 qs13 q39 q905) (by decide +kernel) ⟨Nat.le_of_ble_eq_true rfl, Nat.le_of_ble_eq_true rfl⟩ rfl hl.1 rfl (Nat.le_of_ble_eq_true rfl) dX4_well_12 ⟨Nat.le_refl _, Nat.le_refl _⟩ (fun r_12 u_12 H locs hp_12 hH => ?_)
    obtain ⟨rfl, rfl⟩ := hp_12
    refine lv_if_ne (tgt := 32) hx hb dX4_well_15 (by decide) (fun c_15 => ?_) (fun c_15 => ?_)
    · skip
      refine lv_iconst (v := 0) hx hb dX4_well_32 (by decide) ?_
      exact mm_ri hx hb hr hlocks hT hH rfl dX4_well_33 (Or.inl ⟨h_8, rfl, rfl⟩)
    · skip
      exact absurd c_15 (by decide)
  · skip
    obtain ⟨k, hk, rfl⟩ := h_8
    have hWk := hW k (by omega)
    refine lv_iconst (v := 1) hx hb dX4_well_11 (by decide) ?_
    refine mm_cVi (n := 2) (c_X4_throwsIf0 l (mm_st σ 0 0) 1) hx hb hml hT hH (lw_V q902 q904 qs13 q39 q905) (by decide +kernel) ⟨Nat.le_of_ble_eq_true rfl, Nat.le_of_ble_eq_true rfl⟩ rfl hl.1 rfl (Nat.le_of_ble_eq_true rfl) dX4_well_12 ⟨Nat.le_refl _, Nat.le_refl _⟩ (fun r_12 u_12 H locs hp_12 hH => ?_)
    obtain ⟨rfl, rfl⟩ := hp_12
    refine lv_if_ne (tgt := 32) hx hb dX4_well_15 (by decide) (fun c_15 => ?_) (fun c_15 => ?_)
    · skip
      exact absurd c_15 (by decide)
    · skip
      refine lv_aload_n hx hb dX4_well_18 rfl (lv_at hl 0 rfl) ?_
      refine lv_aload_n hx hb dX4_well_19 rfl (lv_at hl 0 rfl) ?_
      refine mm_get (v := .ref (ad 6)) hx hb hT hH 6 (by decide) rfl q787 rfl dX4_well_20 ?_
      refine lv_iload_n hx hb dX4_well_23 rfl (lv_at hl 1 rfl) ?_
      refine mm_zld (v := σ.2 6 k) hx hb hT hH 6 (by decide) rfl k rfl (show k < 8 by omega) rfl dX4_well_24 ?_
      rcases h6 k (by omega) with k_24 | k_24
      · refine lv_as k_24 ?_
        refine lv_iconst (v := 2) hx hb dX4_well_25 (by decide) ?_
        refine mm_cVi (n := 2) (c_X4_throwsIf0 l (mm_st σ 0 0) 2) hx hb hml hT hH (lw_V q902 q904 qs13 q39 q905) (by decide +kernel) ⟨Nat.le_of_ble_eq_true rfl, Nat.le_of_ble_eq_true rfl⟩ rfl hl.1 rfl (Nat.le_of_ble_eq_true rfl) dX4_well_26 ⟨Nat.le_refl _, Nat.le_refl _⟩ (fun r_26 u_26 H locs hp_26 hH => ?_)
        obtain ⟨rfl, rfl⟩ := hp_26
        refine lv_if_eq (tgt := 34) hx hb dX4_well_29 (by decide) (fun c_29 => ?_) (fun c_29 => ?_)
        · skip
          refine lv_bipush (v := 20) hx hb dX4_well_34 (by decide) ?_
          refine lv_iload_n hx hb dX4_well_36 rfl (lv_at hl 1 rfl) ?_
          refine lv_imul hx hb dX4_well_37 ?_
          refine lv_as (pk_mul 20 k) ?_
          refine lv_aload_n hx hb dX4_well_38 rfl (lv_at hl 0 rfl) ?_
          refine mm_get (v := .ref (ad 5)) hx hb hT hH 5 (by decide) rfl q786 rfl dX4_well_39 ?_
          refine lv_iload_n hx hb dX4_well_42 rfl (lv_at hl 1 rfl) ?_
          refine mm_ild (v := σ.2 5 k) hx hb hT hH 5 (by decide) rfl k rfl (show k < 8 by omega) rfl dX4_well_43 ?_
          refine lv_as (h5 k (by omega)) ?_
          refine lv_iadd hx hb dX4_well_44 ?_
          refine lv_as (nI_add (20 * k) (nW k)) ?_
          refine lv_istore (lv' := [(5, .int (nI ((20 * k) + (nW k)))), (0, .ref (ad 0)), (1, .int (nI k)), (2, .int x), (3, .int y), (4, .int f)]) hx hb dX4_well_45 hl (by decide) rfl (fun ls hl => ?_)
          refine lv_iload_n hx hb dX4_well_47 rfl (lv_at hl 3 rfl) ?_
          refine lv_iconst (v := 0) hx hb dX4_well_48 (by decide) ?_
          refine lv_bipush (v := 100) hx hb dX4_well_49 (by decide) ?_
          refine ss_ci (n := 3) (c_X4_in l x 0 100) hx hb hml hT.1 hT.2.1 (lw_S q899 q900 q39 q901) (by decide +kernel) ⟨Nat.le_of_ble_eq_true rfl, Nat.le_of_ble_eq_true rfl⟩ rfl hl.1 rfl (Nat.le_of_ble_eq_true rfl) dX4_well_51 ⟨Nat.le_refl _, Nat.le_refl _⟩ (fun r_51 hp_51 => ?_)
          rcases hp_51 with ⟨rfl, h_51⟩ | ⟨rfl, h_51⟩
          · skip
            refine lv_if_eq (tgt := 106) hx hb dX4_well_54 (by decide) (fun c_54 => ?_) (fun c_54 => ?_)
            · skip
              exact absurd c_54 (by decide)
            · skip
              refine lv_iload_n hx hb dX4_well_57 rfl (lv_at hl 4 rfl) ?_
              refine lv_iconst (v := 0) hx hb dX4_well_58 (by decide) ?_
              refine lv_bipush (v := 100) hx hb dX4_well_59 (by decide) ?_
              refine ss_ci (n := 3) (c_X4_in l y 0 100) hx hb hml hT.1 hT.2.1 (lw_S q899 q900 q39 q901) (by decide +kernel) ⟨Nat.le_of_ble_eq_true rfl, Nat.le_of_ble_eq_true rfl⟩ rfl hl.1 rfl (Nat.le_of_ble_eq_true rfl) dX4_well_61 ⟨Nat.le_refl _, Nat.le_refl _⟩ (fun r_61 hp_61 => ?_)
              rcases hp_61 with ⟨rfl, h_61⟩ | ⟨rfl, h_61⟩
              · skip
                refine lv_if_eq (tgt := 106) hx hb dX4_well_64 (by decide) (fun c_64 => ?_) (fun c_64 => ?_)
                · skip
                  exact absurd c_64 (by decide)
                · skip
                  refine lv_iload hx hb dX4_well_67 (lv_at hl 5 rfl) ?_
                  refine lv_iconst (v := 0) hx hb dX4_well_69 (by decide) ?_
                  refine lv_sipush (v := 1000) hx hb dX4_well_70 (by decide) ?_
                  refine ss_ci (n := 3) (c_X4_in l f 0 1000) hx hb hml hT.1 hT.2.1 (lw_S q899 q900 q39 q901) (by decide +kernel) ⟨Nat.le_of_ble_eq_true rfl, Nat.le_of_ble_eq_true rfl⟩ rfl hl.1 rfl (Nat.le_of_ble_eq_true rfl) dX4_well_73 ⟨Nat.le_refl _, Nat.le_refl _⟩ (fun r_73 hp_73 => ?_)
                  rcases hp_73 with ⟨rfl, h_73⟩ | ⟨rfl, h_73⟩
                  · skip
                    refine lv_if_eq (tgt := 106) hx hb dX4_well_76 (by decide) (fun c_76 => ?_) (fun c_76 => ?_)
                    · skip
                      exact absurd c_76 (by decide)
                    · skip
                      refine lv_aload_n hx hb dX4_well_79 rfl (lv_at hl 1 rfl) ?_
                      refine mm_get (v := .ref (ad 5)) hx hb hT hH 5 (by decide) rfl q786 rfl dX4_well_80 ?_
                      refine lv_iload_n hx hb dX4_well_83 rfl (lv_at hl 2 rfl) ?_
                      refine mm_ild (v := σ.2 5 k) hx hb hT hH 5 (by decide) rfl k rfl (show k < 8 by omega) rfl dX4_well_84 ?_
                      refine lv_as (h5 k (by omega)) ?_
                      refine lv_if_eq (tgt := 102) hx hb dX4_well_85 (by decide) (fun c_85 => ?_) (fun c_85 => ?_)
                      · skip
                        have c_85 : (nW k) = 0 := (nI_eq (a := (nW k)) (b := 0) (by omega) (by omega)).mp c_85
                        refine lv_iconst (v := 1) hx hb dX4_well_102 (by decide) ?_
                        refine lv_goto (tgt := 107) hx hb dX4_well_103 (by decide) ?_
                        refine lv_istore (lv' := [(6, .int 1), (5, .int (nI ((20 * k) + (nW k)))), (0, .ref (ad 0)), (1, .int (nI k)), (2, .int x), (3, .int y), (4, .int f)]) hx hb dX4_well_107 hl (by decide) rfl (fun ls hl => ?_)
                        refine lv_aload_n hx hb dX4_well_109 rfl (lv_at hl 2 rfl) ?_
                        refine lv_iload hx hb dX4_well_110 (lv_at hl 0 rfl) ?_
                        refine lv_if_ne (tgt := 119) hx hb dX4_well_112 (by decide) (fun c_112 => ?_) (fun c_112 => ?_)
                        · skip
                          refine lv_iconst (v := 0) hx hb dX4_well_119 (by decide) ?_
                          refine lv_iconst (v := 3) hx hb dX4_well_120 (by decide) ?_
                          refine mm_cVi (n := 2) (c_X4_throwsIf0 l (mm_st σ 0 0) 3) hx hb hml hT hH (lw_V q902 q904 qs13 q39 q905) (by decide +kernel) ⟨Nat.le_of_ble_eq_true rfl, Nat.le_of_ble_eq_true rfl⟩ rfl hl.1 rfl (Nat.le_of_ble_eq_true rfl) dX4_well_121 ⟨Nat.le_refl _, Nat.le_refl _⟩ (fun r_121 u_121 H locs hp_121 hH => ?_)
                          obtain ⟨rfl, rfl⟩ := hp_121
                          refine lv_if_ne (tgt := 151) hx hb dX4_well_124 (by decide) (fun c_124 => ?_) (fun c_124 => ?_)
                          · skip
                            exact absurd c_124 (by decide)
                          · skip
                            refine lv_aload_n hx hb dX4_well_127 rfl (lv_at hl 2 rfl) ?_
                            refine lv_aload_n hx hb dX4_well_128 rfl (lv_at hl 2 rfl) ?_
                            refine mm_get (v := .ref (ad 5)) hx hb hT hH 5 (by decide) rfl q786 rfl dX4_well_129 ?_
                            refine lv_iload_n hx hb dX4_well_132 rfl (lv_at hl 3 rfl) ?_
                            refine mm_ild (v := σ.2 5 k) hx hb hT hH 5 (by decide) rfl k rfl (show k < 8 by omega) rfl dX4_well_133 ?_
                            refine lv_as (h5 k (by omega)) ?_
                            refine lv_bipush (v := 20) hx hb dX4_well_134 (by decide) ?_
                            refine lv_icmp_ne (tgt := 143) hx hb dX4_well_136 (by decide) (fun c_136 => ?_) (fun c_136 => ?_)
                            · skip
                              have c_136 : ¬ ((nW k) = 20) := fun h => c_136 ((nI_eq (a := (nW k)) (b := 20) (by omega) (by omega)).mpr h)
                              refine lv_iconst (v := 0) hx hb dX4_well_143 (by decide) ?_
                              refine lv_iconst (v := 4) hx hb dX4_well_144 (by decide) ?_
                              refine mm_cVi (n := 2) (c_X4_throwsIf0 l (mm_st σ 0 0) 4) hx hb hml hT hH (lw_V q902 q904 qs13 q39 q905) (by decide +kernel) ⟨Nat.le_of_ble_eq_true rfl, Nat.le_of_ble_eq_true rfl⟩ rfl hl.1 rfl (Nat.le_of_ble_eq_true rfl) dX4_well_145 ⟨Nat.le_refl _, Nat.le_refl _⟩ (fun r_145 u_145 H locs hp_145 hH => ?_)
                              obtain ⟨rfl, rfl⟩ := hp_145
                              refine lv_if_eq (tgt := 153) hx hb dX4_well_148 (by decide) (fun c_148 => ?_) (fun c_148 => ?_)
                              · skip
                                refine lv_aload_n hx hb dX4_well_153 rfl (lv_at hl 2 rfl) ?_
                                refine mm_get (v := .ref (ad 12)) hx hb hT hH 12 (by decide) rfl q793 rfl dX4_well_154 ?_
                                refine lv_iload hx hb dX4_well_157 (lv_at hl 1 rfl) ?_
                                refine lv_iload_n hx hb dX4_well_159 rfl (lv_at hl 4 rfl) ?_
                                refine mm_ist hx hb hT hH 12 (by decide) rfl ((20 * k) + (nW k)) rfl (show (20 * k) + (nW k) < 160 by omega) dX4_well_160 (fun H locs hH => ?_)
                                refine lv_aload_n hx hb dX4_well_161 rfl (lv_at hl 2 rfl) ?_
                                refine mm_get (v := .ref (ad 13)) hx hb hT hH 13 (by decide) rfl q794 rfl dX4_well_162 ?_
                                refine lv_iload hx hb dX4_well_165 (lv_at hl 1 rfl) ?_
                                refine lv_iload_n hx hb dX4_well_167 rfl (lv_at hl 5 rfl) ?_
                                refine mm_ist hx hb hT hH 13 (by decide) rfl ((20 * k) + (nW k)) rfl (show (20 * k) + (nW k) < 160 by omega) dX4_well_168 (fun H locs hH => ?_)
                                refine lv_aload_n hx hb dX4_well_169 rfl (lv_at hl 2 rfl) ?_
                                refine mm_get (v := .ref (ad 14)) hx hb hT hH 14 (by decide) rfl q795 rfl dX4_well_170 ?_
                                refine lv_iload hx hb dX4_well_173 (lv_at hl 1 rfl) ?_
                                refine lv_iload hx hb dX4_well_175 (lv_at hl 6 rfl) ?_
                                refine mm_ist hx hb hT hH 14 (by decide) rfl ((20 * k) + (nW k)) rfl (show (20 * k) + (nW k) < 160 by omega) dX4_well_177 (fun H locs hH => ?_)
                                refine lv_aload_n hx hb dX4_well_178 rfl (lv_at hl 2 rfl) ?_
                                refine mm_get (v := .ref (ad 5)) hx hb hT hH 5 (by decide) rfl q786 rfl dX4_well_179 ?_
                                refine lv_iload_n hx hb dX4_well_182 rfl (lv_at hl 3 rfl) ?_
                                refine lv_dup2_11 hx hb dX4_well_183 rfl rfl ?_
                                refine mm_ild (v := σ.2 5 k) hx hb hT hH 5 (by decide) rfl k rfl (show k < 8 by omega) rfl dX4_well_184 ?_
                                refine lv_as (h5 k (by omega)) ?_
                                refine lv_iconst (v := 1) hx hb dX4_well_185 (by decide) ?_
                                refine lv_iadd hx hb dX4_well_186 ?_
                                refine lv_as (nI_add (nW k) 1) ?_
                                refine mm_ist hx hb hT hH 5 (by decide) rfl k rfl (show k < 8 by omega) dX4_well_187 (fun H locs hH => ?_)
                                refine lv_aload_n hx hb dX4_well_188 rfl (lv_at hl 2 rfl) ?_
                                refine mm_get (v := .ref (ad 5)) hx hb hT hH 5 (by decide) rfl q786 rfl dX4_well_189 ?_
                                refine lv_iload_n hx hb dX4_well_192 rfl (lv_at hl 3 rfl) ?_
                                refine mm_ild (v := nI (nW k + 1)) hx hb hT hH 5 (by decide) rfl k rfl (show k < 8 by omega) (mm_ar_s _ _ _ _) dX4_well_193 ?_
                                refine lv_iconst (v := 1) hx hb dX4_well_194 (by decide) ?_
                                refine lv_isub hx hb dX4_well_195 ?_
                                refine lv_as (nI_pred (nW k)) ?_
                                exact mm_ri hx hb hr hlocks hT hH rfl dX4_well_196 (Or.inr ⟨k, hk, rfl, Or.inr ⟨k_24, Or.inr (Or.inr ⟨⟨h_51, h_61, h_73, Or.inl c_85⟩, by omega, rfl, rfl⟩)⟩⟩)
                              · skip
                                exact absurd c_148 (by decide)
                            · skip
                              have c_136 : (nW k) = 20 := (nI_eq (a := (nW k)) (b := 20) (by omega) (by omega)).mp c_136
                              refine lv_iconst (v := 1) hx hb dX4_well_139 (by decide) ?_
                              refine lv_goto (tgt := 144) hx hb dX4_well_140 (by decide) ?_
                              refine lv_iconst (v := 4) hx hb dX4_well_144 (by decide) ?_
                              refine mm_cVi (n := 2) (c_X4_throwsIf1 l (mm_st σ 0 0) 4) hx hb hml hT hH (lw_V q902 q904 qs13 q39 q905) (by decide +kernel) ⟨Nat.le_of_ble_eq_true rfl, Nat.le_of_ble_eq_true rfl⟩ rfl hl.1 rfl (Nat.le_of_ble_eq_true rfl) dX4_well_145 ⟨Nat.le_refl _, Nat.le_refl _⟩ (fun r_145 u_145 H locs hp_145 hH => ?_)
                              obtain ⟨rfl, rfl⟩ := hp_145
                              refine lv_if_eq (tgt := 153) hx hb dX4_well_148 (by decide) (fun c_148 => ?_) (fun c_148 => ?_)
                              · skip
                                exact absurd c_148 (by decide)
                              · skip
                                refine lv_iconst (v := 0) hx hb dX4_well_151 (by decide) ?_
                                exact mm_ri hx hb hr hlocks hT hH rfl dX4_well_152 (Or.inr ⟨k, hk, rfl, Or.inr ⟨k_24, Or.inr (Or.inl ⟨⟨h_51, h_61, h_73, Or.inl c_85⟩, c_136, rfl, rfl⟩)⟩⟩)
                        · skip
                          exact absurd c_112 (by decide)
                      · skip
                        have c_85 : ¬ ((nW k) = 0) := fun h => c_85 ((nI_eq (a := (nW k)) (b := 0) (by omega) (by omega)).mpr h)
                        refine lv_iload hx hb dX4_well_88 (lv_at hl 5 rfl) ?_
                        refine lv_aload_n hx hb dX4_well_90 rfl (lv_at hl 1 rfl) ?_
                        refine mm_get (v := .ref (ad 14)) hx hb hT hH 14 (by decide) rfl q795 rfl dX4_well_91 ?_
                        refine lv_iload hx hb dX4_well_94 (lv_at hl 0 rfl) ?_
                        refine lv_iconst (v := 1) hx hb dX4_well_96 (by decide) ?_
                        refine lv_isub hx hb dX4_well_97 ?_
                        refine lv_as (pk_sub (a := 20 * k + nW k) (b := 1) (by omega)) ?_
                        refine mm_ild (v := σ.2 14 (20 * k + nW k - 1)) hx hb hT hH 14 (by decide) rfl (20 * k + nW k - 1) rfl (show 20 * k + nW k - 1 < 160 by omega) rfl dX4_well_98 ?_
                        refine lv_icmp_lt (tgt := 106) hx hb dX4_well_99 (by decide) (fun c_99 => ?_) (fun c_99 => ?_)
                        · skip
                          refine lv_iconst (v := 0) hx hb dX4_well_106 (by decide) ?_
                          refine lv_istore (lv' := [(6, .int 0), (5, .int (nI ((20 * k) + (nW k)))), (0, .ref (ad 0)), (1, .int (nI k)), (2, .int x), (3, .int y), (4, .int f)]) hx hb dX4_well_107 hl (by decide) rfl (fun ls hl => ?_)
                          refine lv_aload_n hx hb dX4_well_109 rfl (lv_at hl 2 rfl) ?_
                          refine lv_iload hx hb dX4_well_110 (lv_at hl 0 rfl) ?_
                          refine lv_if_ne (tgt := 119) hx hb dX4_well_112 (by decide) (fun c_112 => ?_) (fun c_112 => ?_)
                          · skip
                            exact absurd c_112 (by decide)
                          · skip
                            refine lv_iconst (v := 1) hx hb dX4_well_115 (by decide) ?_
                            refine lv_goto (tgt := 120) hx hb dX4_well_116 (by decide) ?_
                            refine lv_iconst (v := 3) hx hb dX4_well_120 (by decide) ?_
                            refine mm_cVi (n := 2) (c_X4_throwsIf1 l (mm_st σ 0 0) 3) hx hb hml hT hH (lw_V q902 q904 qs13 q39 q905) (by decide +kernel) ⟨Nat.le_of_ble_eq_true rfl, Nat.le_of_ble_eq_true rfl⟩ rfl hl.1 rfl (Nat.le_of_ble_eq_true rfl) dX4_well_121 ⟨Nat.le_refl _, Nat.le_refl _⟩ (fun r_121 u_121 H locs hp_121 hH => ?_)
                            obtain ⟨rfl, rfl⟩ := hp_121
                            refine lv_if_ne (tgt := 151) hx hb dX4_well_124 (by decide) (fun c_124 => ?_) (fun c_124 => ?_)
                            · skip
                              refine lv_iconst (v := 0) hx hb dX4_well_151 (by decide) ?_
                              exact mm_ri hx hb hr hlocks hT hH rfl dX4_well_152 (Or.inr ⟨k, hk, rfl, Or.inr ⟨k_24, Or.inl ⟨fun g => g.2.2.2.elim c_85 (fun h => absurd h (Int32.not_le.mpr c_99)), rfl, rfl⟩⟩⟩)
                            · skip
                              exact absurd c_124 (by decide)
                        · skip
                          refine lv_iconst (v := 1) hx hb dX4_well_102 (by decide) ?_
                          refine lv_goto (tgt := 107) hx hb dX4_well_103 (by decide) ?_
                          refine lv_istore (lv' := [(6, .int 1), (5, .int (nI ((20 * k) + (nW k)))), (0, .ref (ad 0)), (1, .int (nI k)), (2, .int x), (3, .int y), (4, .int f)]) hx hb dX4_well_107 hl (by decide) rfl (fun ls hl => ?_)
                          refine lv_aload_n hx hb dX4_well_109 rfl (lv_at hl 2 rfl) ?_
                          refine lv_iload hx hb dX4_well_110 (lv_at hl 0 rfl) ?_
                          refine lv_if_ne (tgt := 119) hx hb dX4_well_112 (by decide) (fun c_112 => ?_) (fun c_112 => ?_)
                          · skip
                            refine lv_iconst (v := 0) hx hb dX4_well_119 (by decide) ?_
                            refine lv_iconst (v := 3) hx hb dX4_well_120 (by decide) ?_
                            refine mm_cVi (n := 2) (c_X4_throwsIf0 l (mm_st σ 0 0) 3) hx hb hml hT hH (lw_V q902 q904 qs13 q39 q905) (by decide +kernel) ⟨Nat.le_of_ble_eq_true rfl, Nat.le_of_ble_eq_true rfl⟩ rfl hl.1 rfl (Nat.le_of_ble_eq_true rfl) dX4_well_121 ⟨Nat.le_refl _, Nat.le_refl _⟩ (fun r_121 u_121 H locs hp_121 hH => ?_)
                            obtain ⟨rfl, rfl⟩ := hp_121
                            refine lv_if_ne (tgt := 151) hx hb dX4_well_124 (by decide) (fun c_124 => ?_) (fun c_124 => ?_)
                            · skip
                              exact absurd c_124 (by decide)
                            · skip
                              refine lv_aload_n hx hb dX4_well_127 rfl (lv_at hl 2 rfl) ?_
                              refine lv_aload_n hx hb dX4_well_128 rfl (lv_at hl 2 rfl) ?_
                              refine mm_get (v := .ref (ad 5)) hx hb hT hH 5 (by decide) rfl q786 rfl dX4_well_129 ?_
                              refine lv_iload_n hx hb dX4_well_132 rfl (lv_at hl 3 rfl) ?_
                              refine mm_ild (v := σ.2 5 k) hx hb hT hH 5 (by decide) rfl k rfl (show k < 8 by omega) rfl dX4_well_133 ?_
                              refine lv_as (h5 k (by omega)) ?_
                              refine lv_bipush (v := 20) hx hb dX4_well_134 (by decide) ?_
                              refine lv_icmp_ne (tgt := 143) hx hb dX4_well_136 (by decide) (fun c_136 => ?_) (fun c_136 => ?_)
                              · skip
                                have c_136 : ¬ ((nW k) = 20) := fun h => c_136 ((nI_eq (a := (nW k)) (b := 20) (by omega) (by omega)).mpr h)
                                refine lv_iconst (v := 0) hx hb dX4_well_143 (by decide) ?_
                                refine lv_iconst (v := 4) hx hb dX4_well_144 (by decide) ?_
                                refine mm_cVi (n := 2) (c_X4_throwsIf0 l (mm_st σ 0 0) 4) hx hb hml hT hH (lw_V q902 q904 qs13 q39 q905) (by decide +kernel) ⟨Nat.le_of_ble_eq_true rfl, Nat.le_of_ble_eq_true rfl⟩ rfl hl.1 rfl (Nat.le_of_ble_eq_true rfl) dX4_well_145 ⟨Nat.le_refl _, Nat.le_refl _⟩ (fun r_145 u_145 H locs hp_145 hH => ?_)
                                obtain ⟨rfl, rfl⟩ := hp_145
                                refine lv_if_eq (tgt := 153) hx hb dX4_well_148 (by decide) (fun c_148 => ?_) (fun c_148 => ?_)
                                · skip
                                  refine lv_aload_n hx hb dX4_well_153 rfl (lv_at hl 2 rfl) ?_
                                  refine mm_get (v := .ref (ad 12)) hx hb hT hH 12 (by decide) rfl q793 rfl dX4_well_154 ?_
                                  refine lv_iload hx hb dX4_well_157 (lv_at hl 1 rfl) ?_
                                  refine lv_iload_n hx hb dX4_well_159 rfl (lv_at hl 4 rfl) ?_
                                  refine mm_ist hx hb hT hH 12 (by decide) rfl ((20 * k) + (nW k)) rfl (show (20 * k) + (nW k) < 160 by omega) dX4_well_160 (fun H locs hH => ?_)
                                  refine lv_aload_n hx hb dX4_well_161 rfl (lv_at hl 2 rfl) ?_
                                  refine mm_get (v := .ref (ad 13)) hx hb hT hH 13 (by decide) rfl q794 rfl dX4_well_162 ?_
                                  refine lv_iload hx hb dX4_well_165 (lv_at hl 1 rfl) ?_
                                  refine lv_iload_n hx hb dX4_well_167 rfl (lv_at hl 5 rfl) ?_
                                  refine mm_ist hx hb hT hH 13 (by decide) rfl ((20 * k) + (nW k)) rfl (show (20 * k) + (nW k) < 160 by omega) dX4_well_168 (fun H locs hH => ?_)
                                  refine lv_aload_n hx hb dX4_well_169 rfl (lv_at hl 2 rfl) ?_
                                  refine mm_get (v := .ref (ad 14)) hx hb hT hH 14 (by decide) rfl q795 rfl dX4_well_170 ?_
                                  refine lv_iload hx hb dX4_well_173 (lv_at hl 1 rfl) ?_
                                  refine lv_iload hx hb dX4_well_175 (lv_at hl 6 rfl) ?_
                                  refine mm_ist hx hb hT hH 14 (by decide) rfl ((20 * k) + (nW k)) rfl (show (20 * k) + (nW k) < 160 by omega) dX4_well_177 (fun H locs hH => ?_)
                                  refine lv_aload_n hx hb dX4_well_178 rfl (lv_at hl 2 rfl) ?_
                                  refine mm_get (v := .ref (ad 5)) hx hb hT hH 5 (by decide) rfl q786 rfl dX4_well_179 ?_
                                  refine lv_iload_n hx hb dX4_well_182 rfl (lv_at hl 3 rfl) ?_
                                  refine lv_dup2_11 hx hb dX4_well_183 rfl rfl ?_
                                  refine mm_ild (v := σ.2 5 k) hx hb hT hH 5 (by decide) rfl k rfl (show k < 8 by omega) rfl dX4_well_184 ?_
                                  refine lv_as (h5 k (by omega)) ?_
                                  refine lv_iconst (v := 1) hx hb dX4_well_185 (by decide) ?_
                                  refine lv_iadd hx hb dX4_well_186 ?_
                                  refine lv_as (nI_add (nW k) 1) ?_
                                  refine mm_ist hx hb hT hH 5 (by decide) rfl k rfl (show k < 8 by omega) dX4_well_187 (fun H locs hH => ?_)
                                  refine lv_aload_n hx hb dX4_well_188 rfl (lv_at hl 2 rfl) ?_
                                  refine mm_get (v := .ref (ad 5)) hx hb hT hH 5 (by decide) rfl q786 rfl dX4_well_189 ?_
                                  refine lv_iload_n hx hb dX4_well_192 rfl (lv_at hl 3 rfl) ?_
                                  refine mm_ild (v := nI (nW k + 1)) hx hb hT hH 5 (by decide) rfl k rfl (show k < 8 by omega) (mm_ar_s _ _ _ _) dX4_well_193 ?_
                                  refine lv_iconst (v := 1) hx hb dX4_well_194 (by decide) ?_
                                  refine lv_isub hx hb dX4_well_195 ?_
                                  refine lv_as (nI_pred (nW k)) ?_
                                  exact mm_ri hx hb hr hlocks hT hH rfl dX4_well_196 (Or.inr ⟨k, hk, rfl, Or.inr ⟨k_24, Or.inr (Or.inr ⟨⟨h_51, h_61, h_73, Or.inr (in_ge c_99)⟩, by omega, rfl, rfl⟩)⟩⟩)
                                · skip
                                  exact absurd c_148 (by decide)
                              · skip
                                have c_136 : (nW k) = 20 := (nI_eq (a := (nW k)) (b := 20) (by omega) (by omega)).mp c_136
                                refine lv_iconst (v := 1) hx hb dX4_well_139 (by decide) ?_
                                refine lv_goto (tgt := 144) hx hb dX4_well_140 (by decide) ?_
                                refine lv_iconst (v := 4) hx hb dX4_well_144 (by decide) ?_
                                refine mm_cVi (n := 2) (c_X4_throwsIf1 l (mm_st σ 0 0) 4) hx hb hml hT hH (lw_V q902 q904 qs13 q39 q905) (by decide +kernel) ⟨Nat.le_of_ble_eq_true rfl, Nat.le_of_ble_eq_true rfl⟩ rfl hl.1 rfl (Nat.le_of_ble_eq_true rfl) dX4_well_145 ⟨Nat.le_refl _, Nat.le_refl _⟩ (fun r_145 u_145 H locs hp_145 hH => ?_)
                                obtain ⟨rfl, rfl⟩ := hp_145
                                refine lv_if_eq (tgt := 153) hx hb dX4_well_148 (by decide) (fun c_148 => ?_) (fun c_148 => ?_)
                                · skip
                                  exact absurd c_148 (by decide)
                                · skip
                                  refine lv_iconst (v := 0) hx hb dX4_well_151 (by decide) ?_
                                  exact mm_ri hx hb hr hlocks hT hH rfl dX4_well_152 (Or.inr ⟨k, hk, rfl, Or.inr ⟨k_24, Or.inr (Or.inl ⟨⟨h_51, h_61, h_73, Or.inr (in_ge c_99)⟩, c_136, rfl, rfl⟩)⟩⟩)
                          · skip
                            exact absurd c_112 (by decide)
                  · skip
                    refine lv_if_eq (tgt := 106) hx hb dX4_well_76 (by decide) (fun c_76 => ?_) (fun c_76 => ?_)
                    · skip
                      refine lv_iconst (v := 0) hx hb dX4_well_106 (by decide) ?_
                      refine lv_istore (lv' := [(6, .int 0), (5, .int (nI ((20 * k) + (nW k)))), (0, .ref (ad 0)), (1, .int (nI k)), (2, .int x), (3, .int y), (4, .int f)]) hx hb dX4_well_107 hl (by decide) rfl (fun ls hl => ?_)
                      refine lv_aload_n hx hb dX4_well_109 rfl (lv_at hl 2 rfl) ?_
                      refine lv_iload hx hb dX4_well_110 (lv_at hl 0 rfl) ?_
                      refine lv_if_ne (tgt := 119) hx hb dX4_well_112 (by decide) (fun c_112 => ?_) (fun c_112 => ?_)
                      · skip
                        exact absurd c_112 (by decide)
                      · skip
                        refine lv_iconst (v := 1) hx hb dX4_well_115 (by decide) ?_
                        refine lv_goto (tgt := 120) hx hb dX4_well_116 (by decide) ?_
                        refine lv_iconst (v := 3) hx hb dX4_well_120 (by decide) ?_
                        refine mm_cVi (n := 2) (c_X4_throwsIf1 l (mm_st σ 0 0) 3) hx hb hml hT hH (lw_V q902 q904 qs13 q39 q905) (by decide +kernel) ⟨Nat.le_of_ble_eq_true rfl, Nat.le_of_ble_eq_true rfl⟩ rfl hl.1 rfl (Nat.le_of_ble_eq_true rfl) dX4_well_121 ⟨Nat.le_refl _, Nat.le_refl _⟩ (fun r_121 u_121 H locs hp_121 hH => ?_)
                        obtain ⟨rfl, rfl⟩ := hp_121
                        refine lv_if_ne (tgt := 151) hx hb dX4_well_124 (by decide) (fun c_124 => ?_) (fun c_124 => ?_)
                        · skip
                          refine lv_iconst (v := 0) hx hb dX4_well_151 (by decide) ?_
                          exact mm_ri hx hb hr hlocks hT hH rfl dX4_well_152 (Or.inr ⟨k, hk, rfl, Or.inr ⟨k_24, Or.inl ⟨fun g => h_73 g.2.2.1, rfl, rfl⟩⟩⟩)
                        · skip
                          exact absurd c_124 (by decide)
                    · skip
                      exact absurd c_76 (by decide)
              · skip
                refine lv_if_eq (tgt := 106) hx hb dX4_well_64 (by decide) (fun c_64 => ?_) (fun c_64 => ?_)
                · skip
                  refine lv_iconst (v := 0) hx hb dX4_well_106 (by decide) ?_
                  refine lv_istore (lv' := [(6, .int 0), (5, .int (nI ((20 * k) + (nW k)))), (0, .ref (ad 0)), (1, .int (nI k)), (2, .int x), (3, .int y), (4, .int f)]) hx hb dX4_well_107 hl (by decide) rfl (fun ls hl => ?_)
                  refine lv_aload_n hx hb dX4_well_109 rfl (lv_at hl 2 rfl) ?_
                  refine lv_iload hx hb dX4_well_110 (lv_at hl 0 rfl) ?_
                  refine lv_if_ne (tgt := 119) hx hb dX4_well_112 (by decide) (fun c_112 => ?_) (fun c_112 => ?_)
                  · skip
                    exact absurd c_112 (by decide)
                  · skip
                    refine lv_iconst (v := 1) hx hb dX4_well_115 (by decide) ?_
                    refine lv_goto (tgt := 120) hx hb dX4_well_116 (by decide) ?_
                    refine lv_iconst (v := 3) hx hb dX4_well_120 (by decide) ?_
                    refine mm_cVi (n := 2) (c_X4_throwsIf1 l (mm_st σ 0 0) 3) hx hb hml hT hH (lw_V q902 q904 qs13 q39 q905) (by decide +kernel) ⟨Nat.le_of_ble_eq_true rfl, Nat.le_of_ble_eq_true rfl⟩ rfl hl.1 rfl (Nat.le_of_ble_eq_true rfl) dX4_well_121 ⟨Nat.le_refl _, Nat.le_refl _⟩ (fun r_121 u_121 H locs hp_121 hH => ?_)
                    obtain ⟨rfl, rfl⟩ := hp_121
                    refine lv_if_ne (tgt := 151) hx hb dX4_well_124 (by decide) (fun c_124 => ?_) (fun c_124 => ?_)
                    · skip
                      refine lv_iconst (v := 0) hx hb dX4_well_151 (by decide) ?_
                      exact mm_ri hx hb hr hlocks hT hH rfl dX4_well_152 (Or.inr ⟨k, hk, rfl, Or.inr ⟨k_24, Or.inl ⟨fun g => h_61 g.2.1, rfl, rfl⟩⟩⟩)
                    · skip
                      exact absurd c_124 (by decide)
                · skip
                  exact absurd c_64 (by decide)
          · skip
            refine lv_if_eq (tgt := 106) hx hb dX4_well_54 (by decide) (fun c_54 => ?_) (fun c_54 => ?_)
            · skip
              refine lv_iconst (v := 0) hx hb dX4_well_106 (by decide) ?_
              refine lv_istore (lv' := [(6, .int 0), (5, .int (nI ((20 * k) + (nW k)))), (0, .ref (ad 0)), (1, .int (nI k)), (2, .int x), (3, .int y), (4, .int f)]) hx hb dX4_well_107 hl (by decide) rfl (fun ls hl => ?_)
              refine lv_aload_n hx hb dX4_well_109 rfl (lv_at hl 2 rfl) ?_
              refine lv_iload hx hb dX4_well_110 (lv_at hl 0 rfl) ?_
              refine lv_if_ne (tgt := 119) hx hb dX4_well_112 (by decide) (fun c_112 => ?_) (fun c_112 => ?_)
              · skip
                exact absurd c_112 (by decide)
              · skip
                refine lv_iconst (v := 1) hx hb dX4_well_115 (by decide) ?_
                refine lv_goto (tgt := 120) hx hb dX4_well_116 (by decide) ?_
                refine lv_iconst (v := 3) hx hb dX4_well_120 (by decide) ?_
                refine mm_cVi (n := 2) (c_X4_throwsIf1 l (mm_st σ 0 0) 3) hx hb hml hT hH (lw_V q902 q904 qs13 q39 q905) (by decide +kernel) ⟨Nat.le_of_ble_eq_true rfl, Nat.le_of_ble_eq_true rfl⟩ rfl hl.1 rfl (Nat.le_of_ble_eq_true rfl) dX4_well_121 ⟨Nat.le_refl _, Nat.le_refl _⟩ (fun r_121 u_121 H locs hp_121 hH => ?_)
                obtain ⟨rfl, rfl⟩ := hp_121
                refine lv_if_ne (tgt := 151) hx hb dX4_well_124 (by decide) (fun c_124 => ?_) (fun c_124 => ?_)
                · skip
                  refine lv_iconst (v := 0) hx hb dX4_well_151 (by decide) ?_
                  exact mm_ri hx hb hr hlocks hT hH rfl dX4_well_152 (Or.inr ⟨k, hk, rfl, Or.inr ⟨k_24, Or.inl ⟨fun g => h_51 g.1, rfl, rfl⟩⟩⟩)
                · skip
                  exact absurd c_124 (by decide)
            · skip
              exact absurd c_54 (by decide)
        · skip
          exact absurd c_29 (by decide)
      · refine lv_as k_24 ?_
        refine lv_iconst (v := 2) hx hb dX4_well_25 (by decide) ?_
        refine mm_cVi (n := 2) (c_X4_throwsIf1 l (mm_st σ 0 0) 2) hx hb hml hT hH (lw_V q902 q904 qs13 q39 q905) (by decide +kernel) ⟨Nat.le_of_ble_eq_true rfl, Nat.le_of_ble_eq_true rfl⟩ rfl hl.1 rfl (Nat.le_of_ble_eq_true rfl) dX4_well_26 ⟨Nat.le_refl _, Nat.le_refl _⟩ (fun r_26 u_26 H locs hp_26 hH => ?_)
        obtain ⟨rfl, rfl⟩ := hp_26
        refine lv_if_eq (tgt := 34) hx hb dX4_well_29 (by decide) (fun c_29 => ?_) (fun c_29 => ?_)
        · skip
          exact absurd c_29 (by decide)
        · skip
          refine lv_iconst (v := 0) hx hb dX4_well_32 (by decide) ?_
          exact mm_ri hx hb hr hlocks hT hH rfl dX4_well_33 (Or.inr ⟨k, hk, rfl, Or.inl ⟨k_24, rfl, rfl⟩⟩)

def pMore (σ : mS) (k : Nat) (f t : Int32) : Nat := (if σ.2 16 (7 * k + 1) < f then 1 else 0) + (if t < σ.2 16 (7 * k + 2) then 1 else 0)
def pSell (σ : mS) (k n : Nat) (f t o : Int32) : mS :=
  if σ.2 16 (7 * k + 1) < f then (if t < σ.2 16 (7 * k + 2) then pAdds (pAdds (pSets σ k f t o) n (σ.2 16 (7 * k)) (σ.2 16 (7 * k + 1)) f (σ.2 16 (7 * k + 3))) (n + 1) (σ.2 16 (7 * k)) t (σ.2 16 (7 * k + 2)) (σ.2 16 (7 * k + 3)) else pAdds (pSets σ k f t o) n (σ.2 16 (7 * k)) (σ.2 16 (7 * k + 1)) f (σ.2 16 (7 * k + 3)))
  else (if t < σ.2 16 (7 * k + 2) then pAdds (pSets σ k f t o) n (σ.2 16 (7 * k)) t (σ.2 16 (7 * k + 2)) (σ.2 16 (7 * k + 3)) else pSets σ k f t o)

set_option maxHeartbeats 4000000 in
set_option maxRecDepth 100000 in
theorem c_X4_sell (l : Launch) (σ : mS) (v f t o : Int32) {nS : Nat} (h17 : σ.1 17 = nI nS) (hS : nS ≤ 60) : mm_Cv l yX4_sell cX4_sell 11 3 [.int v, .int f, .int t, .int o] σ (fun u => ((¬ ∃ k, k < nS ∧ nI k = v) ∧ mm_st (mm_st σ 0 0) 0 1 = u) ∨ ∃ k, k < nS ∧ nI k = v ∧ ((σ.1 4 < σ.2 16 (7 * k + 6) ∧ mm_st (mm_st σ 0 0) 0 2 = u) ∨ (¬ σ.1 4 < σ.2 16 (7 * k + 6) ∧ ((¬ ((0 ≤ o ∧ o ≤ 30) ∧ σ.2 16 (7 * k + 1) ≤ f ∧ f < t ∧ t ≤ σ.2 16 (7 * k + 2)) ∧ mm_st (mm_st σ 0 0) 0 3 = u) ∨ (((0 ≤ o ∧ o ≤ 30) ∧ σ.2 16 (7 * k + 1) ≤ f ∧ f < t ∧ t ≤ σ.2 16 (7 * k + 2)) ∧ ((60 < nS + pMore σ k f t ∧ mm_st (mm_st σ 0 0) 0 4 = u) ∨ (nS + pMore σ k f t ≤ 60 ∧ pSell (mm_st σ 0 0) k nS f t o = u))))))) := by
  refine mm_ofv (by decide) rfl (Nat.le_of_ble_eq_true rfl) ?_
  intro p e s m args below meth c G A ad ls X hH hl
  obtain ⟨hx, hb, hml, hT, hr, hlocks⟩ := id X
  have hl : lv_has ls 11 [(0, .ref (ad 0)), (1, .int v), (2, .int f), (3, .int t), (4, .int o)] := hl
  refine lv_aload_n hx hb dX4_sell_0 rfl (lv_at hl 0 rfl) ?_
  refine lv_iconst (v := 0) hx hb dX4_sell_1 (by decide) ?_
  refine mm_put hx hb hT hH 0 (by decide) (by decide) rfl rfl q781 rfl dX4_sell_2 (fun H locs hH => ?_)
  refine lv_aload_n hx hb dX4_sell_5 rfl (lv_at hl 0 rfl) ?_
  refine lv_aload_n hx hb dX4_sell_6 rfl (lv_at hl 0 rfl) ?_
  refine lv_iload_n hx hb dX4_sell_7 rfl (lv_at hl 1 rfl) ?_
  refine mm_cVi (n := 1) (c_X4_noShare l (mm_st σ 0 0) v (nS := nS) h17 hS) hx hb hml hT hH (lw_V q988 q990 qs23 q39 q991) (by decide +kernel) ⟨Nat.le_of_ble_eq_true rfl, Nat.le_of_ble_eq_true rfl⟩ rfl hl.1 rfl (Nat.le_of_ble_eq_true rfl) dX4_sell_8 ⟨Nat.le_refl _, Nat.le_refl _⟩ (fun r_8 u_8 H locs hp_8 hH => ?_)
  obtain ⟨rfl, hp_8⟩ := hp_8
  rcases hp_8 with ⟨rfl, h_8⟩ | ⟨rfl, h_8⟩
  · skip
    refine lv_iconst (v := 1) hx hb dX4_sell_11 (by decide) ?_
    refine mm_cVi (n := 2) (c_X4_throwsIf1 l (mm_st σ 0 0) 1) hx hb hml hT hH (lw_V q902 q904 qs13 q39 q905) (by decide +kernel) ⟨Nat.le_of_ble_eq_true rfl, Nat.le_of_ble_eq_true rfl⟩ rfl hl.1 rfl (Nat.le_of_ble_eq_true rfl) dX4_sell_12 ⟨Nat.le_refl _, Nat.le_refl _⟩ (fun r_12 u_12 H locs hp_12 hH => ?_)
    obtain ⟨rfl, rfl⟩ := hp_12
    refine lv_if_ne (tgt := 31) hx hb dX4_sell_15 (by decide) (fun c_15 => ?_) (fun c_15 => ?_)
    · skip
      exact mm_rv hx hb hr hlocks hT hH dX4_sell_31 (Or.inl ⟨h_8, rfl⟩)
    · skip
      exact absurd c_15 (by decide)
  · skip
    obtain ⟨k, hk, rfl⟩ := h_8
    refine lv_iconst (v := 1) hx hb dX4_sell_11 (by decide) ?_
    refine mm_cVi (n := 2) (c_X4_throwsIf0 l (mm_st σ 0 0) 1) hx hb hml hT hH (lw_V q902 q904 qs13 q39 q905) (by decide +kernel) ⟨Nat.le_of_ble_eq_true rfl, Nat.le_of_ble_eq_true rfl⟩ rfl hl.1 rfl (Nat.le_of_ble_eq_true rfl) dX4_sell_12 ⟨Nat.le_refl _, Nat.le_refl _⟩ (fun r_12 u_12 H locs hp_12 hH => ?_)
    obtain ⟨rfl, rfl⟩ := hp_12
    refine lv_if_ne (tgt := 31) hx hb dX4_sell_15 (by decide) (fun c_15 => ?_) (fun c_15 => ?_)
    · skip
      exact absurd c_15 (by decide)
    · skip
      refine lv_aload_n hx hb dX4_sell_18 rfl (lv_at hl 0 rfl) ?_
      refine lv_aload_n hx hb dX4_sell_19 rfl (lv_at hl 0 rfl) ?_
      refine lv_iload_n hx hb dX4_sell_20 rfl (lv_at hl 1 rfl) ?_
      refine mm_cVi (n := 1) (c_X4_isLet l (mm_st σ 0 0) k (by omega)) hx hb hml hT hH (lw_V q992 q994 qs24 q39 q995) (by decide +kernel) ⟨Nat.le_of_ble_eq_true rfl, Nat.le_of_ble_eq_true rfl⟩ rfl hl.1 rfl (Nat.le_of_ble_eq_true rfl) dX4_sell_21 ⟨Nat.le_refl _, Nat.le_refl _⟩ (fun r_21 u_21 H locs hp_21 hH => ?_)
      obtain ⟨rfl, hp_21⟩ := hp_21
      rcases hp_21 with ⟨rfl, h_21⟩ | ⟨rfl, h_21⟩
      · skip
        refine lv_iconst (v := 2) hx hb dX4_sell_24 (by decide) ?_
        refine mm_cVi (n := 2) (c_X4_throwsIf1 l (mm_st σ 0 0) 2) hx hb hml hT hH (lw_V q902 q904 qs13 q39 q905) (by decide +kernel) ⟨Nat.le_of_ble_eq_true rfl, Nat.le_of_ble_eq_true rfl⟩ rfl hl.1 rfl (Nat.le_of_ble_eq_true rfl) dX4_sell_25 ⟨Nat.le_refl _, Nat.le_refl _⟩ (fun r_25 u_25 H locs hp_25 hH => ?_)
        obtain ⟨rfl, rfl⟩ := hp_25
        refine lv_if_eq (tgt := 32) hx hb dX4_sell_28 (by decide) (fun c_28 => ?_) (fun c_28 => ?_)
        · skip
          exact absurd c_28 (by decide)
        · skip
          exact mm_rv hx hb hr hlocks hT hH dX4_sell_31 (Or.inr ⟨k, hk, rfl, Or.inl ⟨h_21, rfl⟩⟩)
      · skip
        refine lv_iconst (v := 2) hx hb dX4_sell_24 (by decide) ?_
        refine mm_cVi (n := 2) (c_X4_throwsIf0 l (mm_st σ 0 0) 2) hx hb hml hT hH (lw_V q902 q904 qs13 q39 q905) (by decide +kernel) ⟨Nat.le_of_ble_eq_true rfl, Nat.le_of_ble_eq_true rfl⟩ rfl hl.1 rfl (Nat.le_of_ble_eq_true rfl) dX4_sell_25 ⟨Nat.le_refl _, Nat.le_refl _⟩ (fun r_25 u_25 H locs hp_25 hH => ?_)
        obtain ⟨rfl, rfl⟩ := hp_25
        refine lv_if_eq (tgt := 32) hx hb dX4_sell_28 (by decide) (fun c_28 => ?_) (fun c_28 => ?_)
        · skip
          refine lv_bipush (v := 7) hx hb dX4_sell_32 (by decide) ?_
          refine lv_iload_n hx hb dX4_sell_34 rfl (lv_at hl 1 rfl) ?_
          refine lv_imul hx hb dX4_sell_35 ?_
          refine lv_as (pk_mul 7 k) ?_
          refine lv_istore (lv' := [(5, .int (nI (7 * k))), (0, .ref (ad 0)), (1, .int (nI k)), (2, .int f), (3, .int t), (4, .int o)]) hx hb dX4_sell_36 hl (by decide) rfl (fun ls hl => ?_)
          refine lv_aload_n hx hb dX4_sell_38 rfl (lv_at hl 1 rfl) ?_
          refine mm_get (v := .ref (ad 16)) hx hb hT hH 16 (by decide) rfl q797 rfl dX4_sell_39 ?_
          refine lv_iload hx hb dX4_sell_42 (lv_at hl 0 rfl) ?_
          refine lv_iconst (v := 1) hx hb dX4_sell_44 (by decide) ?_
          refine lv_iadd hx hb dX4_sell_45 ?_
          refine lv_as (nI_add (7 * k) 1) ?_
          refine mm_ild (v := σ.2 16 ((7 * k) + 1)) hx hb hT hH 16 (by decide) rfl ((7 * k) + 1) rfl (show (7 * k) + 1 < 420 by omega) rfl dX4_sell_46 ?_
          refine lv_istore (lv' := [(6, .int (σ.2 16 ((7 * k) + 1))), (5, .int (nI (7 * k))), (0, .ref (ad 0)), (1, .int (nI k)), (2, .int f), (3, .int t), (4, .int o)]) hx hb dX4_sell_47 hl (by decide) rfl (fun ls hl => ?_)
          refine lv_aload_n hx hb dX4_sell_49 rfl (lv_at hl 2 rfl) ?_
          refine mm_get (v := .ref (ad 16)) hx hb hT hH 16 (by decide) rfl q797 rfl dX4_sell_50 ?_
          refine lv_iload hx hb dX4_sell_53 (lv_at hl 1 rfl) ?_
          refine lv_iconst (v := 2) hx hb dX4_sell_55 (by decide) ?_
          refine lv_iadd hx hb dX4_sell_56 ?_
          refine lv_as (nI_add (7 * k) 2) ?_
          refine mm_ild (v := σ.2 16 ((7 * k) + 2)) hx hb hT hH 16 (by decide) rfl ((7 * k) + 2) rfl (show (7 * k) + 2 < 420 by omega) rfl dX4_sell_57 ?_
          refine lv_istore (lv' := [(7, .int (σ.2 16 ((7 * k) + 2))), (6, .int (σ.2 16 ((7 * k) + 1))), (5, .int (nI (7 * k))), (0, .ref (ad 0)), (1, .int (nI k)), (2, .int f), (3, .int t), (4, .int o)]) hx hb dX4_sell_58 hl (by decide) rfl (fun ls hl => ?_)
          refine lv_aload_n hx hb dX4_sell_60 rfl (lv_at hl 3 rfl) ?_
          refine mm_get (v := .ref (ad 16)) hx hb hT hH 16 (by decide) rfl q797 rfl dX4_sell_61 ?_
          refine lv_iload hx hb dX4_sell_64 (lv_at hl 2 rfl) ?_
          refine lv_iconst (v := 3) hx hb dX4_sell_66 (by decide) ?_
          refine lv_iadd hx hb dX4_sell_67 ?_
          refine lv_as (nI_add (7 * k) 3) ?_
          refine mm_ild (v := σ.2 16 ((7 * k) + 3)) hx hb hT hH 16 (by decide) rfl ((7 * k) + 3) rfl (show (7 * k) + 3 < 420 by omega) rfl dX4_sell_68 ?_
          refine lv_istore (lv' := [(8, .int (σ.2 16 ((7 * k) + 3))), (7, .int (σ.2 16 ((7 * k) + 2))), (6, .int (σ.2 16 ((7 * k) + 1))), (5, .int (nI (7 * k))), (0, .ref (ad 0)), (1, .int (nI k)), (2, .int f), (3, .int t), (4, .int o)]) hx hb dX4_sell_69 hl (by decide) rfl (fun ls hl => ?_)
          refine lv_iload hx hb dX4_sell_71 (lv_at hl 8 rfl) ?_
          refine ss_ci (n := 1) (c_X4_noOwner l o) hx hb hml hT.1 hT.2.1 (lw_S q996 q997 q39 q998) (by decide +kernel) ⟨Nat.le_of_ble_eq_true rfl, Nat.le_of_ble_eq_true rfl⟩ rfl hl.1 rfl (Nat.le_of_ble_eq_true rfl) dX4_sell_73 ⟨Nat.le_refl _, Nat.le_refl _⟩ (fun r_73 hp_73 => ?_)
          rcases hp_73 with ⟨rfl, h_73⟩ | ⟨rfl, h_73⟩
          · skip
            refine lv_if_ne (tgt := 100) hx hb dX4_sell_76 (by decide) (fun c_76 => ?_) (fun c_76 => ?_)
            · skip
              refine lv_iconst (v := 0) hx hb dX4_sell_100 (by decide) ?_
              refine lv_istore (lv' := [(9, .int 0), (8, .int (σ.2 16 ((7 * k) + 3))), (7, .int (σ.2 16 ((7 * k) + 2))), (6, .int (σ.2 16 ((7 * k) + 1))), (5, .int (nI (7 * k))), (0, .ref (ad 0)), (1, .int (nI k)), (2, .int f), (3, .int t), (4, .int o)]) hx hb dX4_sell_101 hl (by decide) rfl (fun ls hl => ?_)
              refine lv_iload_n hx hb dX4_sell_103 rfl (lv_at hl 7 rfl) ?_
              refine lv_iload hx hb dX4_sell_104 (lv_at hl 3 rfl) ?_
              refine lv_icmp_le (tgt := 113) hx hb dX4_sell_106 (by decide) (fun c_106 => ?_) (fun c_106 => ?_)
              · skip
                refine lv_iconst (v := 0) hx hb dX4_sell_113 (by decide) ?_
                refine lv_iload_n hx hb dX4_sell_114 rfl (lv_at hl 8 rfl) ?_
                refine lv_iload hx hb dX4_sell_115 (lv_at hl 2 rfl) ?_
                refine lv_icmp_ge (tgt := 124) hx hb dX4_sell_117 (by decide) (fun c_117 => ?_) (fun c_117 => ?_)
                · skip
                  refine lv_iconst (v := 0) hx hb dX4_sell_124 (by decide) ?_
                  refine lv_iadd hx hb dX4_sell_125 ?_
                  refine lv_as (nI_add 0 0) ?_
                  refine lv_istore (lv' := [(10, .int (nI (0 + 0))), (9, .int 0), (8, .int (σ.2 16 ((7 * k) + 3))), (7, .int (σ.2 16 ((7 * k) + 2))), (6, .int (σ.2 16 ((7 * k) + 1))), (5, .int (nI (7 * k))), (0, .ref (ad 0)), (1, .int (nI k)), (2, .int f), (3, .int t), (4, .int o)]) hx hb dX4_sell_126 hl (by decide) rfl (fun ls hl => ?_)
                  refine lv_aload_n hx hb dX4_sell_128 rfl (lv_at hl 6 rfl) ?_
                  refine lv_iload hx hb dX4_sell_129 (lv_at hl 1 rfl) ?_
                  refine lv_if_ne (tgt := 138) hx hb dX4_sell_131 (by decide) (fun c_131 => ?_) (fun c_131 => ?_)
                  · skip
                    exact absurd c_131 (by decide)
                  · skip
                    refine lv_iconst (v := 1) hx hb dX4_sell_134 (by decide) ?_
                    refine lv_goto (tgt := 139) hx hb dX4_sell_135 (by decide) ?_
                    refine lv_iconst (v := 3) hx hb dX4_sell_139 (by decide) ?_
                    refine mm_cVi (n := 2) (c_X4_throwsIf1 l (mm_st σ 0 0) 3) hx hb hml hT hH (lw_V q902 q904 qs13 q39 q905) (by decide +kernel) ⟨Nat.le_of_ble_eq_true rfl, Nat.le_of_ble_eq_true rfl⟩ rfl hl.1 rfl (Nat.le_of_ble_eq_true rfl) dX4_sell_140 ⟨Nat.le_refl _, Nat.le_refl _⟩ (fun r_140 u_140 H locs hp_140 hH => ?_)
                    obtain ⟨rfl, rfl⟩ := hp_140
                    refine lv_if_ne (tgt := 171) hx hb dX4_sell_143 (by decide) (fun c_143 => ?_) (fun c_143 => ?_)
                    · skip
                      exact mm_rv hx hb hr hlocks hT hH dX4_sell_171 (Or.inr ⟨k, hk, rfl, Or.inr ⟨h_21, Or.inl ⟨fun g => h_73 g.1, rfl⟩⟩⟩)
                    · skip
                      exact absurd c_143 (by decide)
                · skip
                  refine lv_iconst (v := 1) hx hb dX4_sell_120 (by decide) ?_
                  refine lv_goto (tgt := 125) hx hb dX4_sell_121 (by decide) ?_
                  refine lv_iadd hx hb dX4_sell_125 ?_
                  refine lv_as (nI_add 0 1) ?_
                  refine lv_istore (lv' := [(10, .int (nI (0 + 1))), (9, .int 0), (8, .int (σ.2 16 ((7 * k) + 3))), (7, .int (σ.2 16 ((7 * k) + 2))), (6, .int (σ.2 16 ((7 * k) + 1))), (5, .int (nI (7 * k))), (0, .ref (ad 0)), (1, .int (nI k)), (2, .int f), (3, .int t), (4, .int o)]) hx hb dX4_sell_126 hl (by decide) rfl (fun ls hl => ?_)
                  refine lv_aload_n hx hb dX4_sell_128 rfl (lv_at hl 6 rfl) ?_
                  refine lv_iload hx hb dX4_sell_129 (lv_at hl 1 rfl) ?_
                  refine lv_if_ne (tgt := 138) hx hb dX4_sell_131 (by decide) (fun c_131 => ?_) (fun c_131 => ?_)
                  · skip
                    exact absurd c_131 (by decide)
                  · skip
                    refine lv_iconst (v := 1) hx hb dX4_sell_134 (by decide) ?_
                    refine lv_goto (tgt := 139) hx hb dX4_sell_135 (by decide) ?_
                    refine lv_iconst (v := 3) hx hb dX4_sell_139 (by decide) ?_
                    refine mm_cVi (n := 2) (c_X4_throwsIf1 l (mm_st σ 0 0) 3) hx hb hml hT hH (lw_V q902 q904 qs13 q39 q905) (by decide +kernel) ⟨Nat.le_of_ble_eq_true rfl, Nat.le_of_ble_eq_true rfl⟩ rfl hl.1 rfl (Nat.le_of_ble_eq_true rfl) dX4_sell_140 ⟨Nat.le_refl _, Nat.le_refl _⟩ (fun r_140 u_140 H locs hp_140 hH => ?_)
                    obtain ⟨rfl, rfl⟩ := hp_140
                    refine lv_if_ne (tgt := 171) hx hb dX4_sell_143 (by decide) (fun c_143 => ?_) (fun c_143 => ?_)
                    · skip
                      exact mm_rv hx hb hr hlocks hT hH dX4_sell_171 (Or.inr ⟨k, hk, rfl, Or.inr ⟨h_21, Or.inl ⟨fun g => h_73 g.1, rfl⟩⟩⟩)
                    · skip
                      exact absurd c_143 (by decide)
              · skip
                refine lv_iconst (v := 1) hx hb dX4_sell_109 (by decide) ?_
                refine lv_goto (tgt := 114) hx hb dX4_sell_110 (by decide) ?_
                refine lv_iload_n hx hb dX4_sell_114 rfl (lv_at hl 8 rfl) ?_
                refine lv_iload hx hb dX4_sell_115 (lv_at hl 2 rfl) ?_
                refine lv_icmp_ge (tgt := 124) hx hb dX4_sell_117 (by decide) (fun c_117 => ?_) (fun c_117 => ?_)
                · skip
                  refine lv_iconst (v := 0) hx hb dX4_sell_124 (by decide) ?_
                  refine lv_iadd hx hb dX4_sell_125 ?_
                  refine lv_as (nI_add 1 0) ?_
                  refine lv_istore (lv' := [(10, .int (nI (1 + 0))), (9, .int 0), (8, .int (σ.2 16 ((7 * k) + 3))), (7, .int (σ.2 16 ((7 * k) + 2))), (6, .int (σ.2 16 ((7 * k) + 1))), (5, .int (nI (7 * k))), (0, .ref (ad 0)), (1, .int (nI k)), (2, .int f), (3, .int t), (4, .int o)]) hx hb dX4_sell_126 hl (by decide) rfl (fun ls hl => ?_)
                  refine lv_aload_n hx hb dX4_sell_128 rfl (lv_at hl 6 rfl) ?_
                  refine lv_iload hx hb dX4_sell_129 (lv_at hl 1 rfl) ?_
                  refine lv_if_ne (tgt := 138) hx hb dX4_sell_131 (by decide) (fun c_131 => ?_) (fun c_131 => ?_)
                  · skip
                    exact absurd c_131 (by decide)
                  · skip
                    refine lv_iconst (v := 1) hx hb dX4_sell_134 (by decide) ?_
                    refine lv_goto (tgt := 139) hx hb dX4_sell_135 (by decide) ?_
                    refine lv_iconst (v := 3) hx hb dX4_sell_139 (by decide) ?_
                    refine mm_cVi (n := 2) (c_X4_throwsIf1 l (mm_st σ 0 0) 3) hx hb hml hT hH (lw_V q902 q904 qs13 q39 q905) (by decide +kernel) ⟨Nat.le_of_ble_eq_true rfl, Nat.le_of_ble_eq_true rfl⟩ rfl hl.1 rfl (Nat.le_of_ble_eq_true rfl) dX4_sell_140 ⟨Nat.le_refl _, Nat.le_refl _⟩ (fun r_140 u_140 H locs hp_140 hH => ?_)
                    obtain ⟨rfl, rfl⟩ := hp_140
                    refine lv_if_ne (tgt := 171) hx hb dX4_sell_143 (by decide) (fun c_143 => ?_) (fun c_143 => ?_)
                    · skip
                      exact mm_rv hx hb hr hlocks hT hH dX4_sell_171 (Or.inr ⟨k, hk, rfl, Or.inr ⟨h_21, Or.inl ⟨fun g => h_73 g.1, rfl⟩⟩⟩)
                    · skip
                      exact absurd c_143 (by decide)
                · skip
                  refine lv_iconst (v := 1) hx hb dX4_sell_120 (by decide) ?_
                  refine lv_goto (tgt := 125) hx hb dX4_sell_121 (by decide) ?_
                  refine lv_iadd hx hb dX4_sell_125 ?_
                  refine lv_as (nI_add 1 1) ?_
                  refine lv_istore (lv' := [(10, .int (nI (1 + 1))), (9, .int 0), (8, .int (σ.2 16 ((7 * k) + 3))), (7, .int (σ.2 16 ((7 * k) + 2))), (6, .int (σ.2 16 ((7 * k) + 1))), (5, .int (nI (7 * k))), (0, .ref (ad 0)), (1, .int (nI k)), (2, .int f), (3, .int t), (4, .int o)]) hx hb dX4_sell_126 hl (by decide) rfl (fun ls hl => ?_)
                  refine lv_aload_n hx hb dX4_sell_128 rfl (lv_at hl 6 rfl) ?_
                  refine lv_iload hx hb dX4_sell_129 (lv_at hl 1 rfl) ?_
                  refine lv_if_ne (tgt := 138) hx hb dX4_sell_131 (by decide) (fun c_131 => ?_) (fun c_131 => ?_)
                  · skip
                    exact absurd c_131 (by decide)
                  · skip
                    refine lv_iconst (v := 1) hx hb dX4_sell_134 (by decide) ?_
                    refine lv_goto (tgt := 139) hx hb dX4_sell_135 (by decide) ?_
                    refine lv_iconst (v := 3) hx hb dX4_sell_139 (by decide) ?_
                    refine mm_cVi (n := 2) (c_X4_throwsIf1 l (mm_st σ 0 0) 3) hx hb hml hT hH (lw_V q902 q904 qs13 q39 q905) (by decide +kernel) ⟨Nat.le_of_ble_eq_true rfl, Nat.le_of_ble_eq_true rfl⟩ rfl hl.1 rfl (Nat.le_of_ble_eq_true rfl) dX4_sell_140 ⟨Nat.le_refl _, Nat.le_refl _⟩ (fun r_140 u_140 H locs hp_140 hH => ?_)
                    obtain ⟨rfl, rfl⟩ := hp_140
                    refine lv_if_ne (tgt := 171) hx hb dX4_sell_143 (by decide) (fun c_143 => ?_) (fun c_143 => ?_)
                    · skip
                      exact mm_rv hx hb hr hlocks hT hH dX4_sell_171 (Or.inr ⟨k, hk, rfl, Or.inr ⟨h_21, Or.inl ⟨fun g => h_73 g.1, rfl⟩⟩⟩)
                    · skip
                      exact absurd c_143 (by decide)
            · skip
              exact absurd c_76 (by decide)
          · skip
            refine lv_if_ne (tgt := 100) hx hb dX4_sell_76 (by decide) (fun c_76 => ?_) (fun c_76 => ?_)
            · skip
              exact absurd c_76 (by decide)
            · skip
              refine lv_iload_n hx hb dX4_sell_79 rfl (lv_at hl 6 rfl) ?_
              refine lv_iload hx hb dX4_sell_80 (lv_at hl 2 rfl) ?_
              refine lv_icmp_lt (tgt := 100) hx hb dX4_sell_82 (by decide) (fun c_82 => ?_) (fun c_82 => ?_)
              · skip
                refine lv_iconst (v := 0) hx hb dX4_sell_100 (by decide) ?_
                refine lv_istore (lv' := [(9, .int 0), (8, .int (σ.2 16 ((7 * k) + 3))), (7, .int (σ.2 16 ((7 * k) + 2))), (6, .int (σ.2 16 ((7 * k) + 1))), (5, .int (nI (7 * k))), (0, .ref (ad 0)), (1, .int (nI k)), (2, .int f), (3, .int t), (4, .int o)]) hx hb dX4_sell_101 hl (by decide) rfl (fun ls hl => ?_)
                refine lv_iload_n hx hb dX4_sell_103 rfl (lv_at hl 7 rfl) ?_
                refine lv_iload hx hb dX4_sell_104 (lv_at hl 3 rfl) ?_
                refine lv_icmp_le (tgt := 113) hx hb dX4_sell_106 (by decide) (fun c_106 => ?_) (fun c_106 => ?_)
                · skip
                  refine lv_iconst (v := 0) hx hb dX4_sell_113 (by decide) ?_
                  refine lv_iload_n hx hb dX4_sell_114 rfl (lv_at hl 8 rfl) ?_
                  refine lv_iload hx hb dX4_sell_115 (lv_at hl 2 rfl) ?_
                  refine lv_icmp_ge (tgt := 124) hx hb dX4_sell_117 (by decide) (fun c_117 => ?_) (fun c_117 => ?_)
                  · skip
                    refine lv_iconst (v := 0) hx hb dX4_sell_124 (by decide) ?_
                    refine lv_iadd hx hb dX4_sell_125 ?_
                    refine lv_as (nI_add 0 0) ?_
                    refine lv_istore (lv' := [(10, .int (nI (0 + 0))), (9, .int 0), (8, .int (σ.2 16 ((7 * k) + 3))), (7, .int (σ.2 16 ((7 * k) + 2))), (6, .int (σ.2 16 ((7 * k) + 1))), (5, .int (nI (7 * k))), (0, .ref (ad 0)), (1, .int (nI k)), (2, .int f), (3, .int t), (4, .int o)]) hx hb dX4_sell_126 hl (by decide) rfl (fun ls hl => ?_)
                    refine lv_aload_n hx hb dX4_sell_128 rfl (lv_at hl 6 rfl) ?_
                    refine lv_iload hx hb dX4_sell_129 (lv_at hl 1 rfl) ?_
                    refine lv_if_ne (tgt := 138) hx hb dX4_sell_131 (by decide) (fun c_131 => ?_) (fun c_131 => ?_)
                    · skip
                      exact absurd c_131 (by decide)
                    · skip
                      refine lv_iconst (v := 1) hx hb dX4_sell_134 (by decide) ?_
                      refine lv_goto (tgt := 139) hx hb dX4_sell_135 (by decide) ?_
                      refine lv_iconst (v := 3) hx hb dX4_sell_139 (by decide) ?_
                      refine mm_cVi (n := 2) (c_X4_throwsIf1 l (mm_st σ 0 0) 3) hx hb hml hT hH (lw_V q902 q904 qs13 q39 q905) (by decide +kernel) ⟨Nat.le_of_ble_eq_true rfl, Nat.le_of_ble_eq_true rfl⟩ rfl hl.1 rfl (Nat.le_of_ble_eq_true rfl) dX4_sell_140 ⟨Nat.le_refl _, Nat.le_refl _⟩ (fun r_140 u_140 H locs hp_140 hH => ?_)
                      obtain ⟨rfl, rfl⟩ := hp_140
                      refine lv_if_ne (tgt := 171) hx hb dX4_sell_143 (by decide) (fun c_143 => ?_) (fun c_143 => ?_)
                      · skip
                        exact mm_rv hx hb hr hlocks hT hH dX4_sell_171 (Or.inr ⟨k, hk, rfl, Or.inr ⟨h_21, Or.inl ⟨fun g => absurd g.2.1 (Int32.not_le.mpr c_82), rfl⟩⟩⟩)
                      · skip
                        exact absurd c_143 (by decide)
                  · skip
                    refine lv_iconst (v := 1) hx hb dX4_sell_120 (by decide) ?_
                    refine lv_goto (tgt := 125) hx hb dX4_sell_121 (by decide) ?_
                    refine lv_iadd hx hb dX4_sell_125 ?_
                    refine lv_as (nI_add 0 1) ?_
                    refine lv_istore (lv' := [(10, .int (nI (0 + 1))), (9, .int 0), (8, .int (σ.2 16 ((7 * k) + 3))), (7, .int (σ.2 16 ((7 * k) + 2))), (6, .int (σ.2 16 ((7 * k) + 1))), (5, .int (nI (7 * k))), (0, .ref (ad 0)), (1, .int (nI k)), (2, .int f), (3, .int t), (4, .int o)]) hx hb dX4_sell_126 hl (by decide) rfl (fun ls hl => ?_)
                    refine lv_aload_n hx hb dX4_sell_128 rfl (lv_at hl 6 rfl) ?_
                    refine lv_iload hx hb dX4_sell_129 (lv_at hl 1 rfl) ?_
                    refine lv_if_ne (tgt := 138) hx hb dX4_sell_131 (by decide) (fun c_131 => ?_) (fun c_131 => ?_)
                    · skip
                      exact absurd c_131 (by decide)
                    · skip
                      refine lv_iconst (v := 1) hx hb dX4_sell_134 (by decide) ?_
                      refine lv_goto (tgt := 139) hx hb dX4_sell_135 (by decide) ?_
                      refine lv_iconst (v := 3) hx hb dX4_sell_139 (by decide) ?_
                      refine mm_cVi (n := 2) (c_X4_throwsIf1 l (mm_st σ 0 0) 3) hx hb hml hT hH (lw_V q902 q904 qs13 q39 q905) (by decide +kernel) ⟨Nat.le_of_ble_eq_true rfl, Nat.le_of_ble_eq_true rfl⟩ rfl hl.1 rfl (Nat.le_of_ble_eq_true rfl) dX4_sell_140 ⟨Nat.le_refl _, Nat.le_refl _⟩ (fun r_140 u_140 H locs hp_140 hH => ?_)
                      obtain ⟨rfl, rfl⟩ := hp_140
                      refine lv_if_ne (tgt := 171) hx hb dX4_sell_143 (by decide) (fun c_143 => ?_) (fun c_143 => ?_)
                      · skip
                        exact mm_rv hx hb hr hlocks hT hH dX4_sell_171 (Or.inr ⟨k, hk, rfl, Or.inr ⟨h_21, Or.inl ⟨fun g => absurd g.2.1 (Int32.not_le.mpr c_82), rfl⟩⟩⟩)
                      · skip
                        exact absurd c_143 (by decide)
                · skip
                  refine lv_iconst (v := 1) hx hb dX4_sell_109 (by decide) ?_
                  refine lv_goto (tgt := 114) hx hb dX4_sell_110 (by decide) ?_
                  refine lv_iload_n hx hb dX4_sell_114 rfl (lv_at hl 8 rfl) ?_
                  refine lv_iload hx hb dX4_sell_115 (lv_at hl 2 rfl) ?_
                  refine lv_icmp_ge (tgt := 124) hx hb dX4_sell_117 (by decide) (fun c_117 => ?_) (fun c_117 => ?_)
                  · skip
                    refine lv_iconst (v := 0) hx hb dX4_sell_124 (by decide) ?_
                    refine lv_iadd hx hb dX4_sell_125 ?_
                    refine lv_as (nI_add 1 0) ?_
                    refine lv_istore (lv' := [(10, .int (nI (1 + 0))), (9, .int 0), (8, .int (σ.2 16 ((7 * k) + 3))), (7, .int (σ.2 16 ((7 * k) + 2))), (6, .int (σ.2 16 ((7 * k) + 1))), (5, .int (nI (7 * k))), (0, .ref (ad 0)), (1, .int (nI k)), (2, .int f), (3, .int t), (4, .int o)]) hx hb dX4_sell_126 hl (by decide) rfl (fun ls hl => ?_)
                    refine lv_aload_n hx hb dX4_sell_128 rfl (lv_at hl 6 rfl) ?_
                    refine lv_iload hx hb dX4_sell_129 (lv_at hl 1 rfl) ?_
                    refine lv_if_ne (tgt := 138) hx hb dX4_sell_131 (by decide) (fun c_131 => ?_) (fun c_131 => ?_)
                    · skip
                      exact absurd c_131 (by decide)
                    · skip
                      refine lv_iconst (v := 1) hx hb dX4_sell_134 (by decide) ?_
                      refine lv_goto (tgt := 139) hx hb dX4_sell_135 (by decide) ?_
                      refine lv_iconst (v := 3) hx hb dX4_sell_139 (by decide) ?_
                      refine mm_cVi (n := 2) (c_X4_throwsIf1 l (mm_st σ 0 0) 3) hx hb hml hT hH (lw_V q902 q904 qs13 q39 q905) (by decide +kernel) ⟨Nat.le_of_ble_eq_true rfl, Nat.le_of_ble_eq_true rfl⟩ rfl hl.1 rfl (Nat.le_of_ble_eq_true rfl) dX4_sell_140 ⟨Nat.le_refl _, Nat.le_refl _⟩ (fun r_140 u_140 H locs hp_140 hH => ?_)
                      obtain ⟨rfl, rfl⟩ := hp_140
                      refine lv_if_ne (tgt := 171) hx hb dX4_sell_143 (by decide) (fun c_143 => ?_) (fun c_143 => ?_)
                      · skip
                        exact mm_rv hx hb hr hlocks hT hH dX4_sell_171 (Or.inr ⟨k, hk, rfl, Or.inr ⟨h_21, Or.inl ⟨fun g => absurd g.2.1 (Int32.not_le.mpr c_82), rfl⟩⟩⟩)
                      · skip
                        exact absurd c_143 (by decide)
                  · skip
                    refine lv_iconst (v := 1) hx hb dX4_sell_120 (by decide) ?_
                    refine lv_goto (tgt := 125) hx hb dX4_sell_121 (by decide) ?_
                    refine lv_iadd hx hb dX4_sell_125 ?_
                    refine lv_as (nI_add 1 1) ?_
                    refine lv_istore (lv' := [(10, .int (nI (1 + 1))), (9, .int 0), (8, .int (σ.2 16 ((7 * k) + 3))), (7, .int (σ.2 16 ((7 * k) + 2))), (6, .int (σ.2 16 ((7 * k) + 1))), (5, .int (nI (7 * k))), (0, .ref (ad 0)), (1, .int (nI k)), (2, .int f), (3, .int t), (4, .int o)]) hx hb dX4_sell_126 hl (by decide) rfl (fun ls hl => ?_)
                    refine lv_aload_n hx hb dX4_sell_128 rfl (lv_at hl 6 rfl) ?_
                    refine lv_iload hx hb dX4_sell_129 (lv_at hl 1 rfl) ?_
                    refine lv_if_ne (tgt := 138) hx hb dX4_sell_131 (by decide) (fun c_131 => ?_) (fun c_131 => ?_)
                    · skip
                      exact absurd c_131 (by decide)
                    · skip
                      refine lv_iconst (v := 1) hx hb dX4_sell_134 (by decide) ?_
                      refine lv_goto (tgt := 139) hx hb dX4_sell_135 (by decide) ?_
                      refine lv_iconst (v := 3) hx hb dX4_sell_139 (by decide) ?_
                      refine mm_cVi (n := 2) (c_X4_throwsIf1 l (mm_st σ 0 0) 3) hx hb hml hT hH (lw_V q902 q904 qs13 q39 q905) (by decide +kernel) ⟨Nat.le_of_ble_eq_true rfl, Nat.le_of_ble_eq_true rfl⟩ rfl hl.1 rfl (Nat.le_of_ble_eq_true rfl) dX4_sell_140 ⟨Nat.le_refl _, Nat.le_refl _⟩ (fun r_140 u_140 H locs hp_140 hH => ?_)
                      obtain ⟨rfl, rfl⟩ := hp_140
                      refine lv_if_ne (tgt := 171) hx hb dX4_sell_143 (by decide) (fun c_143 => ?_) (fun c_143 => ?_)
                      · skip
                        exact mm_rv hx hb hr hlocks hT hH dX4_sell_171 (Or.inr ⟨k, hk, rfl, Or.inr ⟨h_21, Or.inl ⟨fun g => absurd g.2.1 (Int32.not_le.mpr c_82), rfl⟩⟩⟩)
                      · skip
                        exact absurd c_143 (by decide)
              · skip
                refine lv_iload_n hx hb dX4_sell_85 rfl (lv_at hl 6 rfl) ?_
                refine lv_iload_n hx hb dX4_sell_86 rfl (lv_at hl 7 rfl) ?_
                refine lv_icmp_ge (tgt := 100) hx hb dX4_sell_87 (by decide) (fun c_87 => ?_) (fun c_87 => ?_)
                · skip
                  refine lv_iconst (v := 0) hx hb dX4_sell_100 (by decide) ?_
                  refine lv_istore (lv' := [(9, .int 0), (8, .int (σ.2 16 ((7 * k) + 3))), (7, .int (σ.2 16 ((7 * k) + 2))), (6, .int (σ.2 16 ((7 * k) + 1))), (5, .int (nI (7 * k))), (0, .ref (ad 0)), (1, .int (nI k)), (2, .int f), (3, .int t), (4, .int o)]) hx hb dX4_sell_101 hl (by decide) rfl (fun ls hl => ?_)
                  refine lv_iload_n hx hb dX4_sell_103 rfl (lv_at hl 7 rfl) ?_
                  refine lv_iload hx hb dX4_sell_104 (lv_at hl 3 rfl) ?_
                  refine lv_icmp_le (tgt := 113) hx hb dX4_sell_106 (by decide) (fun c_106 => ?_) (fun c_106 => ?_)
                  · skip
                    refine lv_iconst (v := 0) hx hb dX4_sell_113 (by decide) ?_
                    refine lv_iload_n hx hb dX4_sell_114 rfl (lv_at hl 8 rfl) ?_
                    refine lv_iload hx hb dX4_sell_115 (lv_at hl 2 rfl) ?_
                    refine lv_icmp_ge (tgt := 124) hx hb dX4_sell_117 (by decide) (fun c_117 => ?_) (fun c_117 => ?_)
                    · skip
                      refine lv_iconst (v := 0) hx hb dX4_sell_124 (by decide) ?_
                      refine lv_iadd hx hb dX4_sell_125 ?_
                      refine lv_as (nI_add 0 0) ?_
                      refine lv_istore (lv' := [(10, .int (nI (0 + 0))), (9, .int 0), (8, .int (σ.2 16 ((7 * k) + 3))), (7, .int (σ.2 16 ((7 * k) + 2))), (6, .int (σ.2 16 ((7 * k) + 1))), (5, .int (nI (7 * k))), (0, .ref (ad 0)), (1, .int (nI k)), (2, .int f), (3, .int t), (4, .int o)]) hx hb dX4_sell_126 hl (by decide) rfl (fun ls hl => ?_)
                      refine lv_aload_n hx hb dX4_sell_128 rfl (lv_at hl 6 rfl) ?_
                      refine lv_iload hx hb dX4_sell_129 (lv_at hl 1 rfl) ?_
                      refine lv_if_ne (tgt := 138) hx hb dX4_sell_131 (by decide) (fun c_131 => ?_) (fun c_131 => ?_)
                      · skip
                        exact absurd c_131 (by decide)
                      · skip
                        refine lv_iconst (v := 1) hx hb dX4_sell_134 (by decide) ?_
                        refine lv_goto (tgt := 139) hx hb dX4_sell_135 (by decide) ?_
                        refine lv_iconst (v := 3) hx hb dX4_sell_139 (by decide) ?_
                        refine mm_cVi (n := 2) (c_X4_throwsIf1 l (mm_st σ 0 0) 3) hx hb hml hT hH (lw_V q902 q904 qs13 q39 q905) (by decide +kernel) ⟨Nat.le_of_ble_eq_true rfl, Nat.le_of_ble_eq_true rfl⟩ rfl hl.1 rfl (Nat.le_of_ble_eq_true rfl) dX4_sell_140 ⟨Nat.le_refl _, Nat.le_refl _⟩ (fun r_140 u_140 H locs hp_140 hH => ?_)
                        obtain ⟨rfl, rfl⟩ := hp_140
                        refine lv_if_ne (tgt := 171) hx hb dX4_sell_143 (by decide) (fun c_143 => ?_) (fun c_143 => ?_)
                        · skip
                          exact mm_rv hx hb hr hlocks hT hH dX4_sell_171 (Or.inr ⟨k, hk, rfl, Or.inr ⟨h_21, Or.inl ⟨fun g => absurd g.2.2.1 (Int32.not_lt.mpr c_87), rfl⟩⟩⟩)
                        · skip
                          exact absurd c_143 (by decide)
                    · skip
                      refine lv_iconst (v := 1) hx hb dX4_sell_120 (by decide) ?_
                      refine lv_goto (tgt := 125) hx hb dX4_sell_121 (by decide) ?_
                      refine lv_iadd hx hb dX4_sell_125 ?_
                      refine lv_as (nI_add 0 1) ?_
                      refine lv_istore (lv' := [(10, .int (nI (0 + 1))), (9, .int 0), (8, .int (σ.2 16 ((7 * k) + 3))), (7, .int (σ.2 16 ((7 * k) + 2))), (6, .int (σ.2 16 ((7 * k) + 1))), (5, .int (nI (7 * k))), (0, .ref (ad 0)), (1, .int (nI k)), (2, .int f), (3, .int t), (4, .int o)]) hx hb dX4_sell_126 hl (by decide) rfl (fun ls hl => ?_)
                      refine lv_aload_n hx hb dX4_sell_128 rfl (lv_at hl 6 rfl) ?_
                      refine lv_iload hx hb dX4_sell_129 (lv_at hl 1 rfl) ?_
                      refine lv_if_ne (tgt := 138) hx hb dX4_sell_131 (by decide) (fun c_131 => ?_) (fun c_131 => ?_)
                      · skip
                        exact absurd c_131 (by decide)
                      · skip
                        refine lv_iconst (v := 1) hx hb dX4_sell_134 (by decide) ?_
                        refine lv_goto (tgt := 139) hx hb dX4_sell_135 (by decide) ?_
                        refine lv_iconst (v := 3) hx hb dX4_sell_139 (by decide) ?_
                        refine mm_cVi (n := 2) (c_X4_throwsIf1 l (mm_st σ 0 0) 3) hx hb hml hT hH (lw_V q902 q904 qs13 q39 q905) (by decide +kernel) ⟨Nat.le_of_ble_eq_true rfl, Nat.le_of_ble_eq_true rfl⟩ rfl hl.1 rfl (Nat.le_of_ble_eq_true rfl) dX4_sell_140 ⟨Nat.le_refl _, Nat.le_refl _⟩ (fun r_140 u_140 H locs hp_140 hH => ?_)
                        obtain ⟨rfl, rfl⟩ := hp_140
                        refine lv_if_ne (tgt := 171) hx hb dX4_sell_143 (by decide) (fun c_143 => ?_) (fun c_143 => ?_)
                        · skip
                          exact mm_rv hx hb hr hlocks hT hH dX4_sell_171 (Or.inr ⟨k, hk, rfl, Or.inr ⟨h_21, Or.inl ⟨fun g => absurd g.2.2.1 (Int32.not_lt.mpr c_87), rfl⟩⟩⟩)
                        · skip
                          exact absurd c_143 (by decide)
                  · skip
                    refine lv_iconst (v := 1) hx hb dX4_sell_109 (by decide) ?_
                    refine lv_goto (tgt := 114) hx hb dX4_sell_110 (by decide) ?_
                    refine lv_iload_n hx hb dX4_sell_114 rfl (lv_at hl 8 rfl) ?_
                    refine lv_iload hx hb dX4_sell_115 (lv_at hl 2 rfl) ?_
                    refine lv_icmp_ge (tgt := 124) hx hb dX4_sell_117 (by decide) (fun c_117 => ?_) (fun c_117 => ?_)
                    · skip
                      refine lv_iconst (v := 0) hx hb dX4_sell_124 (by decide) ?_
                      refine lv_iadd hx hb dX4_sell_125 ?_
                      refine lv_as (nI_add 1 0) ?_
                      refine lv_istore (lv' := [(10, .int (nI (1 + 0))), (9, .int 0), (8, .int (σ.2 16 ((7 * k) + 3))), (7, .int (σ.2 16 ((7 * k) + 2))), (6, .int (σ.2 16 ((7 * k) + 1))), (5, .int (nI (7 * k))), (0, .ref (ad 0)), (1, .int (nI k)), (2, .int f), (3, .int t), (4, .int o)]) hx hb dX4_sell_126 hl (by decide) rfl (fun ls hl => ?_)
                      refine lv_aload_n hx hb dX4_sell_128 rfl (lv_at hl 6 rfl) ?_
                      refine lv_iload hx hb dX4_sell_129 (lv_at hl 1 rfl) ?_
                      refine lv_if_ne (tgt := 138) hx hb dX4_sell_131 (by decide) (fun c_131 => ?_) (fun c_131 => ?_)
                      · skip
                        exact absurd c_131 (by decide)
                      · skip
                        refine lv_iconst (v := 1) hx hb dX4_sell_134 (by decide) ?_
                        refine lv_goto (tgt := 139) hx hb dX4_sell_135 (by decide) ?_
                        refine lv_iconst (v := 3) hx hb dX4_sell_139 (by decide) ?_
                        refine mm_cVi (n := 2) (c_X4_throwsIf1 l (mm_st σ 0 0) 3) hx hb hml hT hH (lw_V q902 q904 qs13 q39 q905) (by decide +kernel) ⟨Nat.le_of_ble_eq_true rfl, Nat.le_of_ble_eq_true rfl⟩ rfl hl.1 rfl (Nat.le_of_ble_eq_true rfl) dX4_sell_140 ⟨Nat.le_refl _, Nat.le_refl _⟩ (fun r_140 u_140 H locs hp_140 hH => ?_)
                        obtain ⟨rfl, rfl⟩ := hp_140
                        refine lv_if_ne (tgt := 171) hx hb dX4_sell_143 (by decide) (fun c_143 => ?_) (fun c_143 => ?_)
                        · skip
                          exact mm_rv hx hb hr hlocks hT hH dX4_sell_171 (Or.inr ⟨k, hk, rfl, Or.inr ⟨h_21, Or.inl ⟨fun g => absurd g.2.2.1 (Int32.not_lt.mpr c_87), rfl⟩⟩⟩)
                        · skip
                          exact absurd c_143 (by decide)
                    · skip
                      refine lv_iconst (v := 1) hx hb dX4_sell_120 (by decide) ?_
                      refine lv_goto (tgt := 125) hx hb dX4_sell_121 (by decide) ?_
                      refine lv_iadd hx hb dX4_sell_125 ?_
                      refine lv_as (nI_add 1 1) ?_
                      refine lv_istore (lv' := [(10, .int (nI (1 + 1))), (9, .int 0), (8, .int (σ.2 16 ((7 * k) + 3))), (7, .int (σ.2 16 ((7 * k) + 2))), (6, .int (σ.2 16 ((7 * k) + 1))), (5, .int (nI (7 * k))), (0, .ref (ad 0)), (1, .int (nI k)), (2, .int f), (3, .int t), (4, .int o)]) hx hb dX4_sell_126 hl (by decide) rfl (fun ls hl => ?_)
                      refine lv_aload_n hx hb dX4_sell_128 rfl (lv_at hl 6 rfl) ?_
                      refine lv_iload hx hb dX4_sell_129 (lv_at hl 1 rfl) ?_
                      refine lv_if_ne (tgt := 138) hx hb dX4_sell_131 (by decide) (fun c_131 => ?_) (fun c_131 => ?_)
                      · skip
                        exact absurd c_131 (by decide)
                      · skip
                        refine lv_iconst (v := 1) hx hb dX4_sell_134 (by decide) ?_
                        refine lv_goto (tgt := 139) hx hb dX4_sell_135 (by decide) ?_
                        refine lv_iconst (v := 3) hx hb dX4_sell_139 (by decide) ?_
                        refine mm_cVi (n := 2) (c_X4_throwsIf1 l (mm_st σ 0 0) 3) hx hb hml hT hH (lw_V q902 q904 qs13 q39 q905) (by decide +kernel) ⟨Nat.le_of_ble_eq_true rfl, Nat.le_of_ble_eq_true rfl⟩ rfl hl.1 rfl (Nat.le_of_ble_eq_true rfl) dX4_sell_140 ⟨Nat.le_refl _, Nat.le_refl _⟩ (fun r_140 u_140 H locs hp_140 hH => ?_)
                        obtain ⟨rfl, rfl⟩ := hp_140
                        refine lv_if_ne (tgt := 171) hx hb dX4_sell_143 (by decide) (fun c_143 => ?_) (fun c_143 => ?_)
                        · skip
                          exact mm_rv hx hb hr hlocks hT hH dX4_sell_171 (Or.inr ⟨k, hk, rfl, Or.inr ⟨h_21, Or.inl ⟨fun g => absurd g.2.2.1 (Int32.not_lt.mpr c_87), rfl⟩⟩⟩)
                        · skip
                          exact absurd c_143 (by decide)
                · skip
                  refine lv_iload_n hx hb dX4_sell_90 rfl (lv_at hl 7 rfl) ?_
                  refine lv_iload hx hb dX4_sell_91 (lv_at hl 1 rfl) ?_
                  refine lv_icmp_gt (tgt := 100) hx hb dX4_sell_93 (by decide) (fun c_93 => ?_) (fun c_93 => ?_)
                  · skip
                    refine lv_iconst (v := 0) hx hb dX4_sell_100 (by decide) ?_
                    refine lv_istore (lv' := [(9, .int 0), (8, .int (σ.2 16 ((7 * k) + 3))), (7, .int (σ.2 16 ((7 * k) + 2))), (6, .int (σ.2 16 ((7 * k) + 1))), (5, .int (nI (7 * k))), (0, .ref (ad 0)), (1, .int (nI k)), (2, .int f), (3, .int t), (4, .int o)]) hx hb dX4_sell_101 hl (by decide) rfl (fun ls hl => ?_)
                    refine lv_iload_n hx hb dX4_sell_103 rfl (lv_at hl 7 rfl) ?_
                    refine lv_iload hx hb dX4_sell_104 (lv_at hl 3 rfl) ?_
                    refine lv_icmp_le (tgt := 113) hx hb dX4_sell_106 (by decide) (fun c_106 => ?_) (fun c_106 => ?_)
                    · skip
                      refine lv_iconst (v := 0) hx hb dX4_sell_113 (by decide) ?_
                      refine lv_iload_n hx hb dX4_sell_114 rfl (lv_at hl 8 rfl) ?_
                      refine lv_iload hx hb dX4_sell_115 (lv_at hl 2 rfl) ?_
                      refine lv_icmp_ge (tgt := 124) hx hb dX4_sell_117 (by decide) (fun c_117 => ?_) (fun c_117 => ?_)
                      · skip
                        refine lv_iconst (v := 0) hx hb dX4_sell_124 (by decide) ?_
                        refine lv_iadd hx hb dX4_sell_125 ?_
                        refine lv_as (nI_add 0 0) ?_
                        refine lv_istore (lv' := [(10, .int (nI (0 + 0))), (9, .int 0), (8, .int (σ.2 16 ((7 * k) + 3))), (7, .int (σ.2 16 ((7 * k) + 2))), (6, .int (σ.2 16 ((7 * k) + 1))), (5, .int (nI (7 * k))), (0, .ref (ad 0)), (1, .int (nI k)), (2, .int f), (3, .int t), (4, .int o)]) hx hb dX4_sell_126 hl (by decide) rfl (fun ls hl => ?_)
                        refine lv_aload_n hx hb dX4_sell_128 rfl (lv_at hl 6 rfl) ?_
                        refine lv_iload hx hb dX4_sell_129 (lv_at hl 1 rfl) ?_
                        refine lv_if_ne (tgt := 138) hx hb dX4_sell_131 (by decide) (fun c_131 => ?_) (fun c_131 => ?_)
                        · skip
                          exact absurd c_131 (by decide)
                        · skip
                          refine lv_iconst (v := 1) hx hb dX4_sell_134 (by decide) ?_
                          refine lv_goto (tgt := 139) hx hb dX4_sell_135 (by decide) ?_
                          refine lv_iconst (v := 3) hx hb dX4_sell_139 (by decide) ?_
                          refine mm_cVi (n := 2) (c_X4_throwsIf1 l (mm_st σ 0 0) 3) hx hb hml hT hH (lw_V q902 q904 qs13 q39 q905) (by decide +kernel) ⟨Nat.le_of_ble_eq_true rfl, Nat.le_of_ble_eq_true rfl⟩ rfl hl.1 rfl (Nat.le_of_ble_eq_true rfl) dX4_sell_140 ⟨Nat.le_refl _, Nat.le_refl _⟩ (fun r_140 u_140 H locs hp_140 hH => ?_)
                          obtain ⟨rfl, rfl⟩ := hp_140
                          refine lv_if_ne (tgt := 171) hx hb dX4_sell_143 (by decide) (fun c_143 => ?_) (fun c_143 => ?_)
                          · skip
                            exact mm_rv hx hb hr hlocks hT hH dX4_sell_171 (Or.inr ⟨k, hk, rfl, Or.inr ⟨h_21, Or.inl ⟨fun g => absurd g.2.2.2 (Int32.not_le.mpr c_93), rfl⟩⟩⟩)
                          · skip
                            exact absurd c_143 (by decide)
                      · skip
                        refine lv_iconst (v := 1) hx hb dX4_sell_120 (by decide) ?_
                        refine lv_goto (tgt := 125) hx hb dX4_sell_121 (by decide) ?_
                        refine lv_iadd hx hb dX4_sell_125 ?_
                        refine lv_as (nI_add 0 1) ?_
                        refine lv_istore (lv' := [(10, .int (nI (0 + 1))), (9, .int 0), (8, .int (σ.2 16 ((7 * k) + 3))), (7, .int (σ.2 16 ((7 * k) + 2))), (6, .int (σ.2 16 ((7 * k) + 1))), (5, .int (nI (7 * k))), (0, .ref (ad 0)), (1, .int (nI k)), (2, .int f), (3, .int t), (4, .int o)]) hx hb dX4_sell_126 hl (by decide) rfl (fun ls hl => ?_)
                        refine lv_aload_n hx hb dX4_sell_128 rfl (lv_at hl 6 rfl) ?_
                        refine lv_iload hx hb dX4_sell_129 (lv_at hl 1 rfl) ?_
                        refine lv_if_ne (tgt := 138) hx hb dX4_sell_131 (by decide) (fun c_131 => ?_) (fun c_131 => ?_)
                        · skip
                          exact absurd c_131 (by decide)
                        · skip
                          refine lv_iconst (v := 1) hx hb dX4_sell_134 (by decide) ?_
                          refine lv_goto (tgt := 139) hx hb dX4_sell_135 (by decide) ?_
                          refine lv_iconst (v := 3) hx hb dX4_sell_139 (by decide) ?_
                          refine mm_cVi (n := 2) (c_X4_throwsIf1 l (mm_st σ 0 0) 3) hx hb hml hT hH (lw_V q902 q904 qs13 q39 q905) (by decide +kernel) ⟨Nat.le_of_ble_eq_true rfl, Nat.le_of_ble_eq_true rfl⟩ rfl hl.1 rfl (Nat.le_of_ble_eq_true rfl) dX4_sell_140 ⟨Nat.le_refl _, Nat.le_refl _⟩ (fun r_140 u_140 H locs hp_140 hH => ?_)
                          obtain ⟨rfl, rfl⟩ := hp_140
                          refine lv_if_ne (tgt := 171) hx hb dX4_sell_143 (by decide) (fun c_143 => ?_) (fun c_143 => ?_)
                          · skip
                            exact mm_rv hx hb hr hlocks hT hH dX4_sell_171 (Or.inr ⟨k, hk, rfl, Or.inr ⟨h_21, Or.inl ⟨fun g => absurd g.2.2.2 (Int32.not_le.mpr c_93), rfl⟩⟩⟩)
                          · skip
                            exact absurd c_143 (by decide)
                    · skip
                      refine lv_iconst (v := 1) hx hb dX4_sell_109 (by decide) ?_
                      refine lv_goto (tgt := 114) hx hb dX4_sell_110 (by decide) ?_
                      refine lv_iload_n hx hb dX4_sell_114 rfl (lv_at hl 8 rfl) ?_
                      refine lv_iload hx hb dX4_sell_115 (lv_at hl 2 rfl) ?_
                      refine lv_icmp_ge (tgt := 124) hx hb dX4_sell_117 (by decide) (fun c_117 => ?_) (fun c_117 => ?_)
                      · skip
                        refine lv_iconst (v := 0) hx hb dX4_sell_124 (by decide) ?_
                        refine lv_iadd hx hb dX4_sell_125 ?_
                        refine lv_as (nI_add 1 0) ?_
                        refine lv_istore (lv' := [(10, .int (nI (1 + 0))), (9, .int 0), (8, .int (σ.2 16 ((7 * k) + 3))), (7, .int (σ.2 16 ((7 * k) + 2))), (6, .int (σ.2 16 ((7 * k) + 1))), (5, .int (nI (7 * k))), (0, .ref (ad 0)), (1, .int (nI k)), (2, .int f), (3, .int t), (4, .int o)]) hx hb dX4_sell_126 hl (by decide) rfl (fun ls hl => ?_)
                        refine lv_aload_n hx hb dX4_sell_128 rfl (lv_at hl 6 rfl) ?_
                        refine lv_iload hx hb dX4_sell_129 (lv_at hl 1 rfl) ?_
                        refine lv_if_ne (tgt := 138) hx hb dX4_sell_131 (by decide) (fun c_131 => ?_) (fun c_131 => ?_)
                        · skip
                          exact absurd c_131 (by decide)
                        · skip
                          refine lv_iconst (v := 1) hx hb dX4_sell_134 (by decide) ?_
                          refine lv_goto (tgt := 139) hx hb dX4_sell_135 (by decide) ?_
                          refine lv_iconst (v := 3) hx hb dX4_sell_139 (by decide) ?_
                          refine mm_cVi (n := 2) (c_X4_throwsIf1 l (mm_st σ 0 0) 3) hx hb hml hT hH (lw_V q902 q904 qs13 q39 q905) (by decide +kernel) ⟨Nat.le_of_ble_eq_true rfl, Nat.le_of_ble_eq_true rfl⟩ rfl hl.1 rfl (Nat.le_of_ble_eq_true rfl) dX4_sell_140 ⟨Nat.le_refl _, Nat.le_refl _⟩ (fun r_140 u_140 H locs hp_140 hH => ?_)
                          obtain ⟨rfl, rfl⟩ := hp_140
                          refine lv_if_ne (tgt := 171) hx hb dX4_sell_143 (by decide) (fun c_143 => ?_) (fun c_143 => ?_)
                          · skip
                            exact mm_rv hx hb hr hlocks hT hH dX4_sell_171 (Or.inr ⟨k, hk, rfl, Or.inr ⟨h_21, Or.inl ⟨fun g => absurd g.2.2.2 (Int32.not_le.mpr c_93), rfl⟩⟩⟩)
                          · skip
                            exact absurd c_143 (by decide)
                      · skip
                        refine lv_iconst (v := 1) hx hb dX4_sell_120 (by decide) ?_
                        refine lv_goto (tgt := 125) hx hb dX4_sell_121 (by decide) ?_
                        refine lv_iadd hx hb dX4_sell_125 ?_
                        refine lv_as (nI_add 1 1) ?_
                        refine lv_istore (lv' := [(10, .int (nI (1 + 1))), (9, .int 0), (8, .int (σ.2 16 ((7 * k) + 3))), (7, .int (σ.2 16 ((7 * k) + 2))), (6, .int (σ.2 16 ((7 * k) + 1))), (5, .int (nI (7 * k))), (0, .ref (ad 0)), (1, .int (nI k)), (2, .int f), (3, .int t), (4, .int o)]) hx hb dX4_sell_126 hl (by decide) rfl (fun ls hl => ?_)
                        refine lv_aload_n hx hb dX4_sell_128 rfl (lv_at hl 6 rfl) ?_
                        refine lv_iload hx hb dX4_sell_129 (lv_at hl 1 rfl) ?_
                        refine lv_if_ne (tgt := 138) hx hb dX4_sell_131 (by decide) (fun c_131 => ?_) (fun c_131 => ?_)
                        · skip
                          exact absurd c_131 (by decide)
                        · skip
                          refine lv_iconst (v := 1) hx hb dX4_sell_134 (by decide) ?_
                          refine lv_goto (tgt := 139) hx hb dX4_sell_135 (by decide) ?_
                          refine lv_iconst (v := 3) hx hb dX4_sell_139 (by decide) ?_
                          refine mm_cVi (n := 2) (c_X4_throwsIf1 l (mm_st σ 0 0) 3) hx hb hml hT hH (lw_V q902 q904 qs13 q39 q905) (by decide +kernel) ⟨Nat.le_of_ble_eq_true rfl, Nat.le_of_ble_eq_true rfl⟩ rfl hl.1 rfl (Nat.le_of_ble_eq_true rfl) dX4_sell_140 ⟨Nat.le_refl _, Nat.le_refl _⟩ (fun r_140 u_140 H locs hp_140 hH => ?_)
                          obtain ⟨rfl, rfl⟩ := hp_140
                          refine lv_if_ne (tgt := 171) hx hb dX4_sell_143 (by decide) (fun c_143 => ?_) (fun c_143 => ?_)
                          · skip
                            exact mm_rv hx hb hr hlocks hT hH dX4_sell_171 (Or.inr ⟨k, hk, rfl, Or.inr ⟨h_21, Or.inl ⟨fun g => absurd g.2.2.2 (Int32.not_le.mpr c_93), rfl⟩⟩⟩)
                          · skip
                            exact absurd c_143 (by decide)
                  · skip
                    refine lv_iconst (v := 1) hx hb dX4_sell_96 (by decide) ?_
                    refine lv_goto (tgt := 101) hx hb dX4_sell_97 (by decide) ?_
                    refine lv_istore (lv' := [(9, .int 1), (8, .int (σ.2 16 ((7 * k) + 3))), (7, .int (σ.2 16 ((7 * k) + 2))), (6, .int (σ.2 16 ((7 * k) + 1))), (5, .int (nI (7 * k))), (0, .ref (ad 0)), (1, .int (nI k)), (2, .int f), (3, .int t), (4, .int o)]) hx hb dX4_sell_101 hl (by decide) rfl (fun ls hl => ?_)
                    refine lv_iload_n hx hb dX4_sell_103 rfl (lv_at hl 7 rfl) ?_
                    refine lv_iload hx hb dX4_sell_104 (lv_at hl 3 rfl) ?_
                    refine lv_icmp_le (tgt := 113) hx hb dX4_sell_106 (by decide) (fun c_106 => ?_) (fun c_106 => ?_)
                    · skip
                      refine lv_iconst (v := 0) hx hb dX4_sell_113 (by decide) ?_
                      refine lv_iload_n hx hb dX4_sell_114 rfl (lv_at hl 8 rfl) ?_
                      refine lv_iload hx hb dX4_sell_115 (lv_at hl 2 rfl) ?_
                      refine lv_icmp_ge (tgt := 124) hx hb dX4_sell_117 (by decide) (fun c_117 => ?_) (fun c_117 => ?_)
                      · skip
                        refine lv_iconst (v := 0) hx hb dX4_sell_124 (by decide) ?_
                        refine lv_iadd hx hb dX4_sell_125 ?_
                        refine lv_as (nI_add 0 0) ?_
                        refine lv_istore (lv' := [(10, .int (nI (0 + 0))), (9, .int 1), (8, .int (σ.2 16 ((7 * k) + 3))), (7, .int (σ.2 16 ((7 * k) + 2))), (6, .int (σ.2 16 ((7 * k) + 1))), (5, .int (nI (7 * k))), (0, .ref (ad 0)), (1, .int (nI k)), (2, .int f), (3, .int t), (4, .int o)]) hx hb dX4_sell_126 hl (by decide) rfl (fun ls hl => ?_)
                        refine lv_aload_n hx hb dX4_sell_128 rfl (lv_at hl 6 rfl) ?_
                        refine lv_iload hx hb dX4_sell_129 (lv_at hl 1 rfl) ?_
                        refine lv_if_ne (tgt := 138) hx hb dX4_sell_131 (by decide) (fun c_131 => ?_) (fun c_131 => ?_)
                        · skip
                          refine lv_iconst (v := 0) hx hb dX4_sell_138 (by decide) ?_
                          refine lv_iconst (v := 3) hx hb dX4_sell_139 (by decide) ?_
                          refine mm_cVi (n := 2) (c_X4_throwsIf0 l (mm_st σ 0 0) 3) hx hb hml hT hH (lw_V q902 q904 qs13 q39 q905) (by decide +kernel) ⟨Nat.le_of_ble_eq_true rfl, Nat.le_of_ble_eq_true rfl⟩ rfl hl.1 rfl (Nat.le_of_ble_eq_true rfl) dX4_sell_140 ⟨Nat.le_refl _, Nat.le_refl _⟩ (fun r_140 u_140 H locs hp_140 hH => ?_)
                          obtain ⟨rfl, rfl⟩ := hp_140
                          refine lv_if_ne (tgt := 171) hx hb dX4_sell_143 (by decide) (fun c_143 => ?_) (fun c_143 => ?_)
                          · skip
                            exact absurd c_143 (by decide)
                          · skip
                            refine lv_aload_n hx hb dX4_sell_146 rfl (lv_at hl 6 rfl) ?_
                            refine lv_aload_n hx hb dX4_sell_147 rfl (lv_at hl 6 rfl) ?_
                            refine mm_get (v := .int (σ.1 17)) hx hb hT hH 17 (by decide) rfl q798 rfl dX4_sell_148 ?_
                            refine lv_as h17 ?_
                            refine lv_iload hx hb dX4_sell_151 (lv_at hl 0 rfl) ?_
                            refine lv_iadd hx hb dX4_sell_153 ?_
                            refine lv_as (nI_add nS (0 + 0)) ?_
                            refine lv_bipush (v := 60) hx hb dX4_sell_154 (by decide) ?_
                            refine lv_icmp_le (tgt := 163) hx hb dX4_sell_156 (by decide) (fun c_156 => ?_) (fun c_156 => ?_)
                            · skip
                              have c_156 : (nS + (0 + 0)) ≤ 60 := (nI_leI (a := (nS + (0 + 0))) (b := 60) (by omega) (by omega)).mp c_156
                              refine lv_iconst (v := 0) hx hb dX4_sell_163 (by decide) ?_
                              refine lv_iconst (v := 4) hx hb dX4_sell_164 (by decide) ?_
                              refine mm_cVi (n := 2) (c_X4_throwsIf0 l (mm_st σ 0 0) 4) hx hb hml hT hH (lw_V q902 q904 qs13 q39 q905) (by decide +kernel) ⟨Nat.le_of_ble_eq_true rfl, Nat.le_of_ble_eq_true rfl⟩ rfl hl.1 rfl (Nat.le_of_ble_eq_true rfl) dX4_sell_165 ⟨Nat.le_refl _, Nat.le_refl _⟩ (fun r_165 u_165 H locs hp_165 hH => ?_)
                              obtain ⟨rfl, rfl⟩ := hp_165
                              refine lv_if_eq (tgt := 172) hx hb dX4_sell_168 (by decide) (fun c_168 => ?_) (fun c_168 => ?_)
                              · skip
                                refine lv_aload_n hx hb dX4_sell_172 rfl (lv_at hl 6 rfl) ?_
                                refine lv_iload_n hx hb dX4_sell_173 rfl (lv_at hl 7 rfl) ?_
                                refine lv_iload_n hx hb dX4_sell_174 rfl (lv_at hl 8 rfl) ?_
                                refine lv_iload_n hx hb dX4_sell_175 rfl (lv_at hl 9 rfl) ?_
                                refine lv_iload hx hb dX4_sell_176 (lv_at hl 10 rfl) ?_
                                refine mm_cVv (n := 4) (c_X4_sets l (mm_st σ 0 0) k (by omega) f t o) hx hb hml hT hH (lw_V q939 q941 qs17 q39 q942) (by decide +kernel) ⟨Nat.le_of_ble_eq_true rfl, Nat.le_of_ble_eq_true rfl⟩ rfl hl.1 rfl (Nat.le_of_ble_eq_true rfl) dX4_sell_178 ⟨Nat.le_refl _, Nat.le_refl _⟩ (fun u_178 H locs hp_178 hH => ?_)
                                obtain rfl := hp_178
                                refine lv_iload_n hx hb dX4_sell_181 rfl (lv_at hl 8 rfl) ?_
                                refine lv_iload hx hb dX4_sell_182 (lv_at hl 4 rfl) ?_
                                refine lv_icmp_le (tgt := 203) hx hb dX4_sell_184 (by decide) (fun c_184 => ?_) (fun c_184 => ?_)
                                · skip
                                  refine lv_iload_n hx hb dX4_sell_203 rfl (lv_at hl 9 rfl) ?_
                                  refine lv_iload hx hb dX4_sell_204 (lv_at hl 3 rfl) ?_
                                  refine lv_icmp_ge (tgt := 225) hx hb dX4_sell_206 (by decide) (fun c_206 => ?_) (fun c_206 => ?_)
                                  · skip
                                    exact mm_rv hx hb hr hlocks hT hH dX4_sell_225 (Or.inr ⟨k, hk, rfl, Or.inr ⟨h_21, Or.inr ⟨⟨h_73, in_ge c_82, in_lt c_87, in_ge c_93⟩, Or.inr ⟨by rw [pMore, if_neg (Int32.not_lt.mpr c_106), if_neg (Int32.not_lt.mpr c_117)]; omega, by rw [pSell]; simp only [show (mm_st σ 0 0).2 = σ.2 from rfl]; rw [if_neg (Int32.not_lt.mpr c_106), if_neg (Int32.not_lt.mpr c_117)]⟩⟩⟩⟩)
                                  · skip
                                    exact absurd c_117 c_206
                                · skip
                                  exact absurd c_106 c_184
                              · skip
                                exact absurd c_168 (by decide)
                            · skip
                              have c_156 : ¬ ((nS + (0 + 0)) ≤ 60) := fun h => c_156 ((nI_leI (a := (nS + (0 + 0))) (b := 60) (by omega) (by omega)).mpr h)
                              refine lv_iconst (v := 1) hx hb dX4_sell_159 (by decide) ?_
                              refine lv_goto (tgt := 164) hx hb dX4_sell_160 (by decide) ?_
                              refine lv_iconst (v := 4) hx hb dX4_sell_164 (by decide) ?_
                              refine mm_cVi (n := 2) (c_X4_throwsIf1 l (mm_st σ 0 0) 4) hx hb hml hT hH (lw_V q902 q904 qs13 q39 q905) (by decide +kernel) ⟨Nat.le_of_ble_eq_true rfl, Nat.le_of_ble_eq_true rfl⟩ rfl hl.1 rfl (Nat.le_of_ble_eq_true rfl) dX4_sell_165 ⟨Nat.le_refl _, Nat.le_refl _⟩ (fun r_165 u_165 H locs hp_165 hH => ?_)
                              obtain ⟨rfl, rfl⟩ := hp_165
                              refine lv_if_eq (tgt := 172) hx hb dX4_sell_168 (by decide) (fun c_168 => ?_) (fun c_168 => ?_)
                              · skip
                                exact absurd c_168 (by decide)
                              · skip
                                exact mm_rv hx hb hr hlocks hT hH dX4_sell_171 (Or.inr ⟨k, hk, rfl, Or.inr ⟨h_21, Or.inr ⟨⟨h_73, in_ge c_82, in_lt c_87, in_ge c_93⟩, Or.inl ⟨by rw [pMore, if_neg (Int32.not_lt.mpr c_106), if_neg (Int32.not_lt.mpr c_117)]; omega, rfl⟩⟩⟩⟩)
                        · skip
                          exact absurd c_131 (by decide)
                      · skip
                        refine lv_iconst (v := 1) hx hb dX4_sell_120 (by decide) ?_
                        refine lv_goto (tgt := 125) hx hb dX4_sell_121 (by decide) ?_
                        refine lv_iadd hx hb dX4_sell_125 ?_
                        refine lv_as (nI_add 0 1) ?_
                        refine lv_istore (lv' := [(10, .int (nI (0 + 1))), (9, .int 1), (8, .int (σ.2 16 ((7 * k) + 3))), (7, .int (σ.2 16 ((7 * k) + 2))), (6, .int (σ.2 16 ((7 * k) + 1))), (5, .int (nI (7 * k))), (0, .ref (ad 0)), (1, .int (nI k)), (2, .int f), (3, .int t), (4, .int o)]) hx hb dX4_sell_126 hl (by decide) rfl (fun ls hl => ?_)
                        refine lv_aload_n hx hb dX4_sell_128 rfl (lv_at hl 6 rfl) ?_
                        refine lv_iload hx hb dX4_sell_129 (lv_at hl 1 rfl) ?_
                        refine lv_if_ne (tgt := 138) hx hb dX4_sell_131 (by decide) (fun c_131 => ?_) (fun c_131 => ?_)
                        · skip
                          refine lv_iconst (v := 0) hx hb dX4_sell_138 (by decide) ?_
                          refine lv_iconst (v := 3) hx hb dX4_sell_139 (by decide) ?_
                          refine mm_cVi (n := 2) (c_X4_throwsIf0 l (mm_st σ 0 0) 3) hx hb hml hT hH (lw_V q902 q904 qs13 q39 q905) (by decide +kernel) ⟨Nat.le_of_ble_eq_true rfl, Nat.le_of_ble_eq_true rfl⟩ rfl hl.1 rfl (Nat.le_of_ble_eq_true rfl) dX4_sell_140 ⟨Nat.le_refl _, Nat.le_refl _⟩ (fun r_140 u_140 H locs hp_140 hH => ?_)
                          obtain ⟨rfl, rfl⟩ := hp_140
                          refine lv_if_ne (tgt := 171) hx hb dX4_sell_143 (by decide) (fun c_143 => ?_) (fun c_143 => ?_)
                          · skip
                            exact absurd c_143 (by decide)
                          · skip
                            refine lv_aload_n hx hb dX4_sell_146 rfl (lv_at hl 6 rfl) ?_
                            refine lv_aload_n hx hb dX4_sell_147 rfl (lv_at hl 6 rfl) ?_
                            refine mm_get (v := .int (σ.1 17)) hx hb hT hH 17 (by decide) rfl q798 rfl dX4_sell_148 ?_
                            refine lv_as h17 ?_
                            refine lv_iload hx hb dX4_sell_151 (lv_at hl 0 rfl) ?_
                            refine lv_iadd hx hb dX4_sell_153 ?_
                            refine lv_as (nI_add nS (0 + 1)) ?_
                            refine lv_bipush (v := 60) hx hb dX4_sell_154 (by decide) ?_
                            refine lv_icmp_le (tgt := 163) hx hb dX4_sell_156 (by decide) (fun c_156 => ?_) (fun c_156 => ?_)
                            · skip
                              have c_156 : (nS + (0 + 1)) ≤ 60 := (nI_leI (a := (nS + (0 + 1))) (b := 60) (by omega) (by omega)).mp c_156
                              refine lv_iconst (v := 0) hx hb dX4_sell_163 (by decide) ?_
                              refine lv_iconst (v := 4) hx hb dX4_sell_164 (by decide) ?_
                              refine mm_cVi (n := 2) (c_X4_throwsIf0 l (mm_st σ 0 0) 4) hx hb hml hT hH (lw_V q902 q904 qs13 q39 q905) (by decide +kernel) ⟨Nat.le_of_ble_eq_true rfl, Nat.le_of_ble_eq_true rfl⟩ rfl hl.1 rfl (Nat.le_of_ble_eq_true rfl) dX4_sell_165 ⟨Nat.le_refl _, Nat.le_refl _⟩ (fun r_165 u_165 H locs hp_165 hH => ?_)
                              obtain ⟨rfl, rfl⟩ := hp_165
                              refine lv_if_eq (tgt := 172) hx hb dX4_sell_168 (by decide) (fun c_168 => ?_) (fun c_168 => ?_)
                              · skip
                                refine lv_aload_n hx hb dX4_sell_172 rfl (lv_at hl 6 rfl) ?_
                                refine lv_iload_n hx hb dX4_sell_173 rfl (lv_at hl 7 rfl) ?_
                                refine lv_iload_n hx hb dX4_sell_174 rfl (lv_at hl 8 rfl) ?_
                                refine lv_iload_n hx hb dX4_sell_175 rfl (lv_at hl 9 rfl) ?_
                                refine lv_iload hx hb dX4_sell_176 (lv_at hl 10 rfl) ?_
                                refine mm_cVv (n := 4) (c_X4_sets l (mm_st σ 0 0) k (by omega) f t o) hx hb hml hT hH (lw_V q939 q941 qs17 q39 q942) (by decide +kernel) ⟨Nat.le_of_ble_eq_true rfl, Nat.le_of_ble_eq_true rfl⟩ rfl hl.1 rfl (Nat.le_of_ble_eq_true rfl) dX4_sell_178 ⟨Nat.le_refl _, Nat.le_refl _⟩ (fun u_178 H locs hp_178 hH => ?_)
                                obtain rfl := hp_178
                                refine lv_iload_n hx hb dX4_sell_181 rfl (lv_at hl 8 rfl) ?_
                                refine lv_iload hx hb dX4_sell_182 (lv_at hl 4 rfl) ?_
                                refine lv_icmp_le (tgt := 203) hx hb dX4_sell_184 (by decide) (fun c_184 => ?_) (fun c_184 => ?_)
                                · skip
                                  refine lv_iload_n hx hb dX4_sell_203 rfl (lv_at hl 9 rfl) ?_
                                  refine lv_iload hx hb dX4_sell_204 (lv_at hl 3 rfl) ?_
                                  refine lv_icmp_ge (tgt := 225) hx hb dX4_sell_206 (by decide) (fun c_206 => ?_) (fun c_206 => ?_)
                                  · skip
                                    exact absurd c_206 c_117
                                  · skip
                                    refine lv_aload_n hx hb dX4_sell_209 rfl (lv_at hl 6 rfl) ?_
                                    refine lv_aload_n hx hb dX4_sell_210 rfl (lv_at hl 6 rfl) ?_
                                    refine mm_get (v := .ref (ad 16)) hx hb hT hH 16 (by decide) rfl q797 rfl dX4_sell_211 ?_
                                    refine lv_iload hx hb dX4_sell_214 (lv_at hl 5 rfl) ?_
                                    refine mm_ild (v := σ.2 16 (7 * k)) hx hb hT hH 16 (by decide) rfl (7 * k) rfl (show 7 * k < 420 by omega) (pSets_at _ _ _ _ _ (by omega)) dX4_sell_216 ?_
                                    refine lv_iload_n hx hb dX4_sell_217 rfl (lv_at hl 9 rfl) ?_
                                    refine lv_iload hx hb dX4_sell_218 (lv_at hl 3 rfl) ?_
                                    refine lv_iload hx hb dX4_sell_220 (lv_at hl 2 rfl) ?_
                                    refine mm_cVv (n := 4) (c_X4_adds l (pSets (mm_st σ 0 0) k f t o) (nS := nS) h17 (by omega) (σ.2 16 (7 * k)) t (σ.2 16 ((7 * k) + 2)) (σ.2 16 ((7 * k) + 3))) hx hb hml hT hH (lw_V q935 q937 qs16 q39 q938) (by decide +kernel) ⟨Nat.le_of_ble_eq_true rfl, Nat.le_of_ble_eq_true rfl⟩ rfl hl.1 rfl (Nat.le_of_ble_eq_true rfl) dX4_sell_222 ⟨Nat.le_refl _, Nat.le_refl _⟩ (fun u_222 H locs hp_222 hH => ?_)
                                    obtain rfl := hp_222
                                    exact mm_rv hx hb hr hlocks hT hH dX4_sell_225 (Or.inr ⟨k, hk, rfl, Or.inr ⟨h_21, Or.inr ⟨⟨h_73, in_ge c_82, in_lt c_87, in_ge c_93⟩, Or.inr ⟨by rw [pMore, if_neg (Int32.not_lt.mpr c_106), if_pos (in_lt c_117)]; omega, by rw [pSell]; simp only [show (mm_st σ 0 0).2 = σ.2 from rfl]; rw [if_neg (Int32.not_lt.mpr c_106), if_pos (in_lt c_117)]⟩⟩⟩⟩)
                                · skip
                                  exact absurd c_106 c_184
                              · skip
                                exact absurd c_168 (by decide)
                            · skip
                              have c_156 : ¬ ((nS + (0 + 1)) ≤ 60) := fun h => c_156 ((nI_leI (a := (nS + (0 + 1))) (b := 60) (by omega) (by omega)).mpr h)
                              refine lv_iconst (v := 1) hx hb dX4_sell_159 (by decide) ?_
                              refine lv_goto (tgt := 164) hx hb dX4_sell_160 (by decide) ?_
                              refine lv_iconst (v := 4) hx hb dX4_sell_164 (by decide) ?_
                              refine mm_cVi (n := 2) (c_X4_throwsIf1 l (mm_st σ 0 0) 4) hx hb hml hT hH (lw_V q902 q904 qs13 q39 q905) (by decide +kernel) ⟨Nat.le_of_ble_eq_true rfl, Nat.le_of_ble_eq_true rfl⟩ rfl hl.1 rfl (Nat.le_of_ble_eq_true rfl) dX4_sell_165 ⟨Nat.le_refl _, Nat.le_refl _⟩ (fun r_165 u_165 H locs hp_165 hH => ?_)
                              obtain ⟨rfl, rfl⟩ := hp_165
                              refine lv_if_eq (tgt := 172) hx hb dX4_sell_168 (by decide) (fun c_168 => ?_) (fun c_168 => ?_)
                              · skip
                                exact absurd c_168 (by decide)
                              · skip
                                exact mm_rv hx hb hr hlocks hT hH dX4_sell_171 (Or.inr ⟨k, hk, rfl, Or.inr ⟨h_21, Or.inr ⟨⟨h_73, in_ge c_82, in_lt c_87, in_ge c_93⟩, Or.inl ⟨by rw [pMore, if_neg (Int32.not_lt.mpr c_106), if_pos (in_lt c_117)]; omega, rfl⟩⟩⟩⟩)
                        · skip
                          exact absurd c_131 (by decide)
                    · skip
                      refine lv_iconst (v := 1) hx hb dX4_sell_109 (by decide) ?_
                      refine lv_goto (tgt := 114) hx hb dX4_sell_110 (by decide) ?_
                      refine lv_iload_n hx hb dX4_sell_114 rfl (lv_at hl 8 rfl) ?_
                      refine lv_iload hx hb dX4_sell_115 (lv_at hl 2 rfl) ?_
                      refine lv_icmp_ge (tgt := 124) hx hb dX4_sell_117 (by decide) (fun c_117 => ?_) (fun c_117 => ?_)
                      · skip
                        refine lv_iconst (v := 0) hx hb dX4_sell_124 (by decide) ?_
                        refine lv_iadd hx hb dX4_sell_125 ?_
                        refine lv_as (nI_add 1 0) ?_
                        refine lv_istore (lv' := [(10, .int (nI (1 + 0))), (9, .int 1), (8, .int (σ.2 16 ((7 * k) + 3))), (7, .int (σ.2 16 ((7 * k) + 2))), (6, .int (σ.2 16 ((7 * k) + 1))), (5, .int (nI (7 * k))), (0, .ref (ad 0)), (1, .int (nI k)), (2, .int f), (3, .int t), (4, .int o)]) hx hb dX4_sell_126 hl (by decide) rfl (fun ls hl => ?_)
                        refine lv_aload_n hx hb dX4_sell_128 rfl (lv_at hl 6 rfl) ?_
                        refine lv_iload hx hb dX4_sell_129 (lv_at hl 1 rfl) ?_
                        refine lv_if_ne (tgt := 138) hx hb dX4_sell_131 (by decide) (fun c_131 => ?_) (fun c_131 => ?_)
                        · skip
                          refine lv_iconst (v := 0) hx hb dX4_sell_138 (by decide) ?_
                          refine lv_iconst (v := 3) hx hb dX4_sell_139 (by decide) ?_
                          refine mm_cVi (n := 2) (c_X4_throwsIf0 l (mm_st σ 0 0) 3) hx hb hml hT hH (lw_V q902 q904 qs13 q39 q905) (by decide +kernel) ⟨Nat.le_of_ble_eq_true rfl, Nat.le_of_ble_eq_true rfl⟩ rfl hl.1 rfl (Nat.le_of_ble_eq_true rfl) dX4_sell_140 ⟨Nat.le_refl _, Nat.le_refl _⟩ (fun r_140 u_140 H locs hp_140 hH => ?_)
                          obtain ⟨rfl, rfl⟩ := hp_140
                          refine lv_if_ne (tgt := 171) hx hb dX4_sell_143 (by decide) (fun c_143 => ?_) (fun c_143 => ?_)
                          · skip
                            exact absurd c_143 (by decide)
                          · skip
                            refine lv_aload_n hx hb dX4_sell_146 rfl (lv_at hl 6 rfl) ?_
                            refine lv_aload_n hx hb dX4_sell_147 rfl (lv_at hl 6 rfl) ?_
                            refine mm_get (v := .int (σ.1 17)) hx hb hT hH 17 (by decide) rfl q798 rfl dX4_sell_148 ?_
                            refine lv_as h17 ?_
                            refine lv_iload hx hb dX4_sell_151 (lv_at hl 0 rfl) ?_
                            refine lv_iadd hx hb dX4_sell_153 ?_
                            refine lv_as (nI_add nS (1 + 0)) ?_
                            refine lv_bipush (v := 60) hx hb dX4_sell_154 (by decide) ?_
                            refine lv_icmp_le (tgt := 163) hx hb dX4_sell_156 (by decide) (fun c_156 => ?_) (fun c_156 => ?_)
                            · skip
                              have c_156 : (nS + (1 + 0)) ≤ 60 := (nI_leI (a := (nS + (1 + 0))) (b := 60) (by omega) (by omega)).mp c_156
                              refine lv_iconst (v := 0) hx hb dX4_sell_163 (by decide) ?_
                              refine lv_iconst (v := 4) hx hb dX4_sell_164 (by decide) ?_
                              refine mm_cVi (n := 2) (c_X4_throwsIf0 l (mm_st σ 0 0) 4) hx hb hml hT hH (lw_V q902 q904 qs13 q39 q905) (by decide +kernel) ⟨Nat.le_of_ble_eq_true rfl, Nat.le_of_ble_eq_true rfl⟩ rfl hl.1 rfl (Nat.le_of_ble_eq_true rfl) dX4_sell_165 ⟨Nat.le_refl _, Nat.le_refl _⟩ (fun r_165 u_165 H locs hp_165 hH => ?_)
                              obtain ⟨rfl, rfl⟩ := hp_165
                              refine lv_if_eq (tgt := 172) hx hb dX4_sell_168 (by decide) (fun c_168 => ?_) (fun c_168 => ?_)
                              · skip
                                refine lv_aload_n hx hb dX4_sell_172 rfl (lv_at hl 6 rfl) ?_
                                refine lv_iload_n hx hb dX4_sell_173 rfl (lv_at hl 7 rfl) ?_
                                refine lv_iload_n hx hb dX4_sell_174 rfl (lv_at hl 8 rfl) ?_
                                refine lv_iload_n hx hb dX4_sell_175 rfl (lv_at hl 9 rfl) ?_
                                refine lv_iload hx hb dX4_sell_176 (lv_at hl 10 rfl) ?_
                                refine mm_cVv (n := 4) (c_X4_sets l (mm_st σ 0 0) k (by omega) f t o) hx hb hml hT hH (lw_V q939 q941 qs17 q39 q942) (by decide +kernel) ⟨Nat.le_of_ble_eq_true rfl, Nat.le_of_ble_eq_true rfl⟩ rfl hl.1 rfl (Nat.le_of_ble_eq_true rfl) dX4_sell_178 ⟨Nat.le_refl _, Nat.le_refl _⟩ (fun u_178 H locs hp_178 hH => ?_)
                                obtain rfl := hp_178
                                refine lv_iload_n hx hb dX4_sell_181 rfl (lv_at hl 8 rfl) ?_
                                refine lv_iload hx hb dX4_sell_182 (lv_at hl 4 rfl) ?_
                                refine lv_icmp_le (tgt := 203) hx hb dX4_sell_184 (by decide) (fun c_184 => ?_) (fun c_184 => ?_)
                                · skip
                                  exact absurd c_184 c_106
                                · skip
                                  refine lv_aload_n hx hb dX4_sell_187 rfl (lv_at hl 6 rfl) ?_
                                  refine lv_aload_n hx hb dX4_sell_188 rfl (lv_at hl 6 rfl) ?_
                                  refine mm_get (v := .ref (ad 16)) hx hb hT hH 16 (by decide) rfl q797 rfl dX4_sell_189 ?_
                                  refine lv_iload hx hb dX4_sell_192 (lv_at hl 5 rfl) ?_
                                  refine mm_ild (v := σ.2 16 (7 * k)) hx hb hT hH 16 (by decide) rfl (7 * k) rfl (show 7 * k < 420 by omega) (pSets_at _ _ _ _ _ (by omega)) dX4_sell_194 ?_
                                  refine lv_iload hx hb dX4_sell_195 (lv_at hl 4 rfl) ?_
                                  refine lv_iload_n hx hb dX4_sell_197 rfl (lv_at hl 8 rfl) ?_
                                  refine lv_iload hx hb dX4_sell_198 (lv_at hl 2 rfl) ?_
                                  refine mm_cVv (n := 4) (c_X4_adds l (pSets (mm_st σ 0 0) k f t o) (nS := nS) h17 (by omega) (σ.2 16 (7 * k)) (σ.2 16 ((7 * k) + 1)) f (σ.2 16 ((7 * k) + 3))) hx hb hml hT hH (lw_V q935 q937 qs16 q39 q938) (by decide +kernel) ⟨Nat.le_of_ble_eq_true rfl, Nat.le_of_ble_eq_true rfl⟩ rfl hl.1 rfl (Nat.le_of_ble_eq_true rfl) dX4_sell_200 ⟨Nat.le_refl _, Nat.le_refl _⟩ (fun u_200 H locs hp_200 hH => ?_)
                                  obtain rfl := hp_200
                                  refine lv_iload_n hx hb dX4_sell_203 rfl (lv_at hl 9 rfl) ?_
                                  refine lv_iload hx hb dX4_sell_204 (lv_at hl 3 rfl) ?_
                                  refine lv_icmp_ge (tgt := 225) hx hb dX4_sell_206 (by decide) (fun c_206 => ?_) (fun c_206 => ?_)
                                  · skip
                                    exact mm_rv hx hb hr hlocks hT hH dX4_sell_225 (Or.inr ⟨k, hk, rfl, Or.inr ⟨h_21, Or.inr ⟨⟨h_73, in_ge c_82, in_lt c_87, in_ge c_93⟩, Or.inr ⟨by rw [pMore, if_pos (in_lt c_106), if_neg (Int32.not_lt.mpr c_117)]; omega, by rw [pSell]; simp only [show (mm_st σ 0 0).2 = σ.2 from rfl]; rw [if_pos (in_lt c_106), if_neg (Int32.not_lt.mpr c_117)]⟩⟩⟩⟩)
                                  · skip
                                    exact absurd c_117 c_206
                              · skip
                                exact absurd c_168 (by decide)
                            · skip
                              have c_156 : ¬ ((nS + (1 + 0)) ≤ 60) := fun h => c_156 ((nI_leI (a := (nS + (1 + 0))) (b := 60) (by omega) (by omega)).mpr h)
                              refine lv_iconst (v := 1) hx hb dX4_sell_159 (by decide) ?_
                              refine lv_goto (tgt := 164) hx hb dX4_sell_160 (by decide) ?_
                              refine lv_iconst (v := 4) hx hb dX4_sell_164 (by decide) ?_
                              refine mm_cVi (n := 2) (c_X4_throwsIf1 l (mm_st σ 0 0) 4) hx hb hml hT hH (lw_V q902 q904 qs13 q39 q905) (by decide +kernel) ⟨Nat.le_of_ble_eq_true rfl, Nat.le_of_ble_eq_true rfl⟩ rfl hl.1 rfl (Nat.le_of_ble_eq_true rfl) dX4_sell_165 ⟨Nat.le_refl _, Nat.le_refl _⟩ (fun r_165 u_165 H locs hp_165 hH => ?_)
                              obtain ⟨rfl, rfl⟩ := hp_165
                              refine lv_if_eq (tgt := 172) hx hb dX4_sell_168 (by decide) (fun c_168 => ?_) (fun c_168 => ?_)
                              · skip
                                exact absurd c_168 (by decide)
                              · skip
                                exact mm_rv hx hb hr hlocks hT hH dX4_sell_171 (Or.inr ⟨k, hk, rfl, Or.inr ⟨h_21, Or.inr ⟨⟨h_73, in_ge c_82, in_lt c_87, in_ge c_93⟩, Or.inl ⟨by rw [pMore, if_pos (in_lt c_106), if_neg (Int32.not_lt.mpr c_117)]; omega, rfl⟩⟩⟩⟩)
                        · skip
                          exact absurd c_131 (by decide)
                      · skip
                        refine lv_iconst (v := 1) hx hb dX4_sell_120 (by decide) ?_
                        refine lv_goto (tgt := 125) hx hb dX4_sell_121 (by decide) ?_
                        refine lv_iadd hx hb dX4_sell_125 ?_
                        refine lv_as (nI_add 1 1) ?_
                        refine lv_istore (lv' := [(10, .int (nI (1 + 1))), (9, .int 1), (8, .int (σ.2 16 ((7 * k) + 3))), (7, .int (σ.2 16 ((7 * k) + 2))), (6, .int (σ.2 16 ((7 * k) + 1))), (5, .int (nI (7 * k))), (0, .ref (ad 0)), (1, .int (nI k)), (2, .int f), (3, .int t), (4, .int o)]) hx hb dX4_sell_126 hl (by decide) rfl (fun ls hl => ?_)
                        refine lv_aload_n hx hb dX4_sell_128 rfl (lv_at hl 6 rfl) ?_
                        refine lv_iload hx hb dX4_sell_129 (lv_at hl 1 rfl) ?_
                        refine lv_if_ne (tgt := 138) hx hb dX4_sell_131 (by decide) (fun c_131 => ?_) (fun c_131 => ?_)
                        · skip
                          refine lv_iconst (v := 0) hx hb dX4_sell_138 (by decide) ?_
                          refine lv_iconst (v := 3) hx hb dX4_sell_139 (by decide) ?_
                          refine mm_cVi (n := 2) (c_X4_throwsIf0 l (mm_st σ 0 0) 3) hx hb hml hT hH (lw_V q902 q904 qs13 q39 q905) (by decide +kernel) ⟨Nat.le_of_ble_eq_true rfl, Nat.le_of_ble_eq_true rfl⟩ rfl hl.1 rfl (Nat.le_of_ble_eq_true rfl) dX4_sell_140 ⟨Nat.le_refl _, Nat.le_refl _⟩ (fun r_140 u_140 H locs hp_140 hH => ?_)
                          obtain ⟨rfl, rfl⟩ := hp_140
                          refine lv_if_ne (tgt := 171) hx hb dX4_sell_143 (by decide) (fun c_143 => ?_) (fun c_143 => ?_)
                          · skip
                            exact absurd c_143 (by decide)
                          · skip
                            refine lv_aload_n hx hb dX4_sell_146 rfl (lv_at hl 6 rfl) ?_
                            refine lv_aload_n hx hb dX4_sell_147 rfl (lv_at hl 6 rfl) ?_
                            refine mm_get (v := .int (σ.1 17)) hx hb hT hH 17 (by decide) rfl q798 rfl dX4_sell_148 ?_
                            refine lv_as h17 ?_
                            refine lv_iload hx hb dX4_sell_151 (lv_at hl 0 rfl) ?_
                            refine lv_iadd hx hb dX4_sell_153 ?_
                            refine lv_as (nI_add nS (1 + 1)) ?_
                            refine lv_bipush (v := 60) hx hb dX4_sell_154 (by decide) ?_
                            refine lv_icmp_le (tgt := 163) hx hb dX4_sell_156 (by decide) (fun c_156 => ?_) (fun c_156 => ?_)
                            · skip
                              have c_156 : (nS + (1 + 1)) ≤ 60 := (nI_leI (a := (nS + (1 + 1))) (b := 60) (by omega) (by omega)).mp c_156
                              refine lv_iconst (v := 0) hx hb dX4_sell_163 (by decide) ?_
                              refine lv_iconst (v := 4) hx hb dX4_sell_164 (by decide) ?_
                              refine mm_cVi (n := 2) (c_X4_throwsIf0 l (mm_st σ 0 0) 4) hx hb hml hT hH (lw_V q902 q904 qs13 q39 q905) (by decide +kernel) ⟨Nat.le_of_ble_eq_true rfl, Nat.le_of_ble_eq_true rfl⟩ rfl hl.1 rfl (Nat.le_of_ble_eq_true rfl) dX4_sell_165 ⟨Nat.le_refl _, Nat.le_refl _⟩ (fun r_165 u_165 H locs hp_165 hH => ?_)
                              obtain ⟨rfl, rfl⟩ := hp_165
                              refine lv_if_eq (tgt := 172) hx hb dX4_sell_168 (by decide) (fun c_168 => ?_) (fun c_168 => ?_)
                              · skip
                                refine lv_aload_n hx hb dX4_sell_172 rfl (lv_at hl 6 rfl) ?_
                                refine lv_iload_n hx hb dX4_sell_173 rfl (lv_at hl 7 rfl) ?_
                                refine lv_iload_n hx hb dX4_sell_174 rfl (lv_at hl 8 rfl) ?_
                                refine lv_iload_n hx hb dX4_sell_175 rfl (lv_at hl 9 rfl) ?_
                                refine lv_iload hx hb dX4_sell_176 (lv_at hl 10 rfl) ?_
                                refine mm_cVv (n := 4) (c_X4_sets l (mm_st σ 0 0) k (by omega) f t o) hx hb hml hT hH (lw_V q939 q941 qs17 q39 q942) (by decide +kernel) ⟨Nat.le_of_ble_eq_true rfl, Nat.le_of_ble_eq_true rfl⟩ rfl hl.1 rfl (Nat.le_of_ble_eq_true rfl) dX4_sell_178 ⟨Nat.le_refl _, Nat.le_refl _⟩ (fun u_178 H locs hp_178 hH => ?_)
                                obtain rfl := hp_178
                                refine lv_iload_n hx hb dX4_sell_181 rfl (lv_at hl 8 rfl) ?_
                                refine lv_iload hx hb dX4_sell_182 (lv_at hl 4 rfl) ?_
                                refine lv_icmp_le (tgt := 203) hx hb dX4_sell_184 (by decide) (fun c_184 => ?_) (fun c_184 => ?_)
                                · skip
                                  exact absurd c_184 c_106
                                · skip
                                  refine lv_aload_n hx hb dX4_sell_187 rfl (lv_at hl 6 rfl) ?_
                                  refine lv_aload_n hx hb dX4_sell_188 rfl (lv_at hl 6 rfl) ?_
                                  refine mm_get (v := .ref (ad 16)) hx hb hT hH 16 (by decide) rfl q797 rfl dX4_sell_189 ?_
                                  refine lv_iload hx hb dX4_sell_192 (lv_at hl 5 rfl) ?_
                                  refine mm_ild (v := σ.2 16 (7 * k)) hx hb hT hH 16 (by decide) rfl (7 * k) rfl (show 7 * k < 420 by omega) (pSets_at _ _ _ _ _ (by omega)) dX4_sell_194 ?_
                                  refine lv_iload hx hb dX4_sell_195 (lv_at hl 4 rfl) ?_
                                  refine lv_iload_n hx hb dX4_sell_197 rfl (lv_at hl 8 rfl) ?_
                                  refine lv_iload hx hb dX4_sell_198 (lv_at hl 2 rfl) ?_
                                  refine mm_cVv (n := 4) (c_X4_adds l (pSets (mm_st σ 0 0) k f t o) (nS := nS) h17 (by omega) (σ.2 16 (7 * k)) (σ.2 16 ((7 * k) + 1)) f (σ.2 16 ((7 * k) + 3))) hx hb hml hT hH (lw_V q935 q937 qs16 q39 q938) (by decide +kernel) ⟨Nat.le_of_ble_eq_true rfl, Nat.le_of_ble_eq_true rfl⟩ rfl hl.1 rfl (Nat.le_of_ble_eq_true rfl) dX4_sell_200 ⟨Nat.le_refl _, Nat.le_refl _⟩ (fun u_200 H locs hp_200 hH => ?_)
                                  obtain rfl := hp_200
                                  refine lv_iload_n hx hb dX4_sell_203 rfl (lv_at hl 9 rfl) ?_
                                  refine lv_iload hx hb dX4_sell_204 (lv_at hl 3 rfl) ?_
                                  refine lv_icmp_ge (tgt := 225) hx hb dX4_sell_206 (by decide) (fun c_206 => ?_) (fun c_206 => ?_)
                                  · skip
                                    exact absurd c_206 c_117
                                  · skip
                                    refine lv_aload_n hx hb dX4_sell_209 rfl (lv_at hl 6 rfl) ?_
                                    refine lv_aload_n hx hb dX4_sell_210 rfl (lv_at hl 6 rfl) ?_
                                    refine mm_get (v := .ref (ad 16)) hx hb hT hH 16 (by decide) rfl q797 rfl dX4_sell_211 ?_
                                    refine lv_iload hx hb dX4_sell_214 (lv_at hl 5 rfl) ?_
                                    refine mm_ild (v := σ.2 16 (7 * k)) hx hb hT hH 16 (by decide) rfl (7 * k) rfl (show 7 * k < 420 by omega) ((pAdds_at _ _ _ _ _ _ (by omega)).trans (pSets_at _ _ _ _ _ (by omega))) dX4_sell_216 ?_
                                    refine lv_iload_n hx hb dX4_sell_217 rfl (lv_at hl 9 rfl) ?_
                                    refine lv_iload hx hb dX4_sell_218 (lv_at hl 3 rfl) ?_
                                    refine lv_iload hx hb dX4_sell_220 (lv_at hl 2 rfl) ?_
                                    refine mm_cVv (n := 4) (c_X4_adds l (pAdds (pSets (mm_st σ 0 0) k f t o) nS (σ.2 16 (7 * k)) (σ.2 16 ((7 * k) + 1)) f (σ.2 16 ((7 * k) + 3))) (nS := (nS + 1)) rfl (by omega) (σ.2 16 (7 * k)) t (σ.2 16 ((7 * k) + 2)) (σ.2 16 ((7 * k) + 3))) hx hb hml hT hH (lw_V q935 q937 qs16 q39 q938) (by decide +kernel) ⟨Nat.le_of_ble_eq_true rfl, Nat.le_of_ble_eq_true rfl⟩ rfl hl.1 rfl (Nat.le_of_ble_eq_true rfl) dX4_sell_222 ⟨Nat.le_refl _, Nat.le_refl _⟩ (fun u_222 H locs hp_222 hH => ?_)
                                    obtain rfl := hp_222
                                    exact mm_rv hx hb hr hlocks hT hH dX4_sell_225 (Or.inr ⟨k, hk, rfl, Or.inr ⟨h_21, Or.inr ⟨⟨h_73, in_ge c_82, in_lt c_87, in_ge c_93⟩, Or.inr ⟨by rw [pMore, if_pos (in_lt c_106), if_pos (in_lt c_117)]; omega, by rw [pSell]; simp only [show (mm_st σ 0 0).2 = σ.2 from rfl]; rw [if_pos (in_lt c_106), if_pos (in_lt c_117)]⟩⟩⟩⟩)
                              · skip
                                exact absurd c_168 (by decide)
                            · skip
                              have c_156 : ¬ ((nS + (1 + 1)) ≤ 60) := fun h => c_156 ((nI_leI (a := (nS + (1 + 1))) (b := 60) (by omega) (by omega)).mpr h)
                              refine lv_iconst (v := 1) hx hb dX4_sell_159 (by decide) ?_
                              refine lv_goto (tgt := 164) hx hb dX4_sell_160 (by decide) ?_
                              refine lv_iconst (v := 4) hx hb dX4_sell_164 (by decide) ?_
                              refine mm_cVi (n := 2) (c_X4_throwsIf1 l (mm_st σ 0 0) 4) hx hb hml hT hH (lw_V q902 q904 qs13 q39 q905) (by decide +kernel) ⟨Nat.le_of_ble_eq_true rfl, Nat.le_of_ble_eq_true rfl⟩ rfl hl.1 rfl (Nat.le_of_ble_eq_true rfl) dX4_sell_165 ⟨Nat.le_refl _, Nat.le_refl _⟩ (fun r_165 u_165 H locs hp_165 hH => ?_)
                              obtain ⟨rfl, rfl⟩ := hp_165
                              refine lv_if_eq (tgt := 172) hx hb dX4_sell_168 (by decide) (fun c_168 => ?_) (fun c_168 => ?_)
                              · skip
                                exact absurd c_168 (by decide)
                              · skip
                                exact mm_rv hx hb hr hlocks hT hH dX4_sell_171 (Or.inr ⟨k, hk, rfl, Or.inr ⟨h_21, Or.inr ⟨⟨h_73, in_ge c_82, in_lt c_87, in_ge c_93⟩, Or.inl ⟨by rw [pMore, if_pos (in_lt c_106), if_pos (in_lt c_117)]; omega, rfl⟩⟩⟩⟩)
                        · skip
                          exact absurd c_131 (by decide)
        · skip
          exact absurd c_28 (by decide)
