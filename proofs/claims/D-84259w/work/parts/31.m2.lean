set_option maxHeartbeats 4000000 in
set_option maxRecDepth 100000 in
theorem c_X4_noChannel (l : Launch) (σ : mS) (v : Int32) {nC : Nat} (h10 : σ.1 10 = nI nC) (hC : nC ≤ 8) : mm_Ci l yX4_noChannel cX4_noChannel 2 (some .boolean) 2 [.int v] σ (fun r u => σ = u ∧ ((1 = r ∧ ¬ ∃ k, k < nC ∧ nI k = v) ∨ (0 = r ∧ ∃ k, k < nC ∧ nI k = v))) := by
  refine mm_ofi (by decide) rfl (Nat.le_of_ble_eq_true rfl) ?_
  intro p e s m args below meth c G A ad ls X hH hl
  obtain ⟨hx, hb, hml, hT, hr, hlocks⟩ := id X
  have hl : lv_has ls 2 [(0, .ref (ad 0)), (1, .int v)] := hl
  refine lv_iload_n hx hb dX4_noChannel_0 rfl (lv_at hl 1 rfl) ?_
  refine lv_iconst (v := 0) hx hb dX4_noChannel_1 (by decide) ?_
  refine lv_aload_n hx hb dX4_noChannel_2 rfl (lv_at hl 0 rfl) ?_
  refine mm_get (v := .int (σ.1 10)) hx hb hT hH 10 (by decide) rfl q791 rfl dX4_noChannel_3 ?_
  refine lv_as h10 ?_
  refine lv_iconst (v := 1) hx hb dX4_noChannel_6 (by decide) ?_
  refine lv_isub hx hb dX4_noChannel_7 ?_
  refine ss_ci (n := 3) (c_X4_in l v 0 ((nI nC) - 1)) hx hb hml hT.1 hT.2.1 (lw_S q899 q900 q39 q901) (by decide +kernel) ⟨Nat.le_of_ble_eq_true rfl, Nat.le_of_ble_eq_true rfl⟩ rfl hl.1 rfl (Nat.le_of_ble_eq_true rfl) dX4_noChannel_8 ⟨Nat.le_refl _, Nat.le_refl _⟩ (fun r_8 hp_8 => ?_)
  rcases hp_8 with ⟨rfl, h_8⟩ | ⟨rfl, h_8⟩
  · skip
    refine lv_if_ne (tgt := 18) hx hb dX4_noChannel_11 (by decide) (fun c_11 => ?_) (fun c_11 => ?_)
    · skip
      refine lv_iconst (v := 0) hx hb dX4_noChannel_18 (by decide) ?_
      exact mm_ri hx hb hr hlocks hT hH rfl dX4_noChannel_19 (⟨rfl, Or.inr ⟨rfl, (in_rg (by omega) v).mp h_8⟩⟩)
    · skip
      exact absurd c_11 (by decide)
  · skip
    refine lv_if_ne (tgt := 18) hx hb dX4_noChannel_11 (by decide) (fun c_11 => ?_) (fun c_11 => ?_)
    · skip
      exact absurd c_11 (by decide)
    · skip
      refine lv_iconst (v := 1) hx hb dX4_noChannel_14 (by decide) ?_
      refine lv_goto (tgt := 19) hx hb dX4_noChannel_15 (by decide) ?_
      exact mm_ri hx hb hr hlocks hT hH rfl dX4_noChannel_19 (⟨rfl, Or.inl ⟨rfl, fun h => h_8 ((in_rg (by omega) v).mpr h)⟩⟩)

set_option maxHeartbeats 4000000 in
set_option maxRecDepth 100000 in
theorem c_X4_noShare (l : Launch) (σ : mS) (v : Int32) {nS : Nat} (h17 : σ.1 17 = nI nS) (hS : nS ≤ 60) : mm_Ci l yX4_noShare cX4_noShare 2 (some .boolean) 2 [.int v] σ (fun r u => σ = u ∧ ((1 = r ∧ ¬ ∃ k, k < nS ∧ nI k = v) ∨ (0 = r ∧ ∃ k, k < nS ∧ nI k = v))) := by
  refine mm_ofi (by decide) rfl (Nat.le_of_ble_eq_true rfl) ?_
  intro p e s m args below meth c G A ad ls X hH hl
  obtain ⟨hx, hb, hml, hT, hr, hlocks⟩ := id X
  have hl : lv_has ls 2 [(0, .ref (ad 0)), (1, .int v)] := hl
  refine lv_iload_n hx hb dX4_noShare_0 rfl (lv_at hl 1 rfl) ?_
  refine lv_iconst (v := 0) hx hb dX4_noShare_1 (by decide) ?_
  refine lv_aload_n hx hb dX4_noShare_2 rfl (lv_at hl 0 rfl) ?_
  refine mm_get (v := .int (σ.1 17)) hx hb hT hH 17 (by decide) rfl q798 rfl dX4_noShare_3 ?_
  refine lv_as h17 ?_
  refine lv_iconst (v := 1) hx hb dX4_noShare_6 (by decide) ?_
  refine lv_isub hx hb dX4_noShare_7 ?_
  refine ss_ci (n := 3) (c_X4_in l v 0 ((nI nS) - 1)) hx hb hml hT.1 hT.2.1 (lw_S q899 q900 q39 q901) (by decide +kernel) ⟨Nat.le_of_ble_eq_true rfl, Nat.le_of_ble_eq_true rfl⟩ rfl hl.1 rfl (Nat.le_of_ble_eq_true rfl) dX4_noShare_8 ⟨Nat.le_refl _, Nat.le_refl _⟩ (fun r_8 hp_8 => ?_)
  rcases hp_8 with ⟨rfl, h_8⟩ | ⟨rfl, h_8⟩
  · skip
    refine lv_if_ne (tgt := 18) hx hb dX4_noShare_11 (by decide) (fun c_11 => ?_) (fun c_11 => ?_)
    · skip
      refine lv_iconst (v := 0) hx hb dX4_noShare_18 (by decide) ?_
      exact mm_ri hx hb hr hlocks hT hH rfl dX4_noShare_19 (⟨rfl, Or.inr ⟨rfl, (in_rg (by omega) v).mp h_8⟩⟩)
    · skip
      exact absurd c_11 (by decide)
  · skip
    refine lv_if_ne (tgt := 18) hx hb dX4_noShare_11 (by decide) (fun c_11 => ?_) (fun c_11 => ?_)
    · skip
      exact absurd c_11 (by decide)
    · skip
      refine lv_iconst (v := 1) hx hb dX4_noShare_14 (by decide) ?_
      refine lv_goto (tgt := 19) hx hb dX4_noShare_15 (by decide) ?_
      exact mm_ri hx hb hr hlocks hT hH rfl dX4_noShare_19 (⟨rfl, Or.inl ⟨rfl, fun h => h_8 ((in_rg (by omega) v).mpr h)⟩⟩)

set_option maxHeartbeats 4000000 in
set_option maxRecDepth 100000 in
theorem c_X4_noWell (l : Launch) (σ : mS) (v z : Int32) {nC : Nat} {nW : Nat → Nat} (h10 : σ.1 10 = nI nC) (hC : nC ≤ 8) (h5 : ∀ c, c < 8 → σ.2 5 c = nI (nW c)) (hW : ∀ c, c < 8 → nW c ≤ 20) : mm_Ci l yX4_noWell cX4_noWell 3 (some .boolean) 3 [.int v, .int z] σ (fun r u => σ = u ∧ ((1 = r ∧ ¬ ∃ k j, (k < nC ∧ j < nW k) ∧ nI k = v ∧ nI j = z) ∨ (0 = r ∧ ∃ k j, (k < nC ∧ j < nW k) ∧ nI k = v ∧ nI j = z))) := by
  refine mm_ofi (by decide) rfl (Nat.le_of_ble_eq_true rfl) ?_
  intro p e s m args below meth c G A ad ls X hH hl
  obtain ⟨hx, hb, hml, hT, hr, hlocks⟩ := id X
  have hl : lv_has ls 3 [(0, .ref (ad 0)), (1, .int v), (2, .int z)] := hl
  refine lv_aload_n hx hb dX4_noWell_0 rfl (lv_at hl 0 rfl) ?_
  refine lv_iload_n hx hb dX4_noWell_1 rfl (lv_at hl 1 rfl) ?_
  refine mm_cVi (n := 1) (c_X4_noChannel l σ v (nC := nC) h10 hC) hx hb hml hT hH (lw_V q914 q916 qs14 q39 q917) (by decide +kernel) ⟨Nat.le_of_ble_eq_true rfl, Nat.le_of_ble_eq_true rfl⟩ rfl hl.1 rfl (Nat.le_of_ble_eq_true rfl) dX4_noWell_2 ⟨Nat.le_refl _, Nat.le_refl _⟩ (fun r_2 u_2 H locs hp_2 hH => ?_)
  obtain ⟨rfl, hp_2⟩ := hp_2
  rcases hp_2 with ⟨rfl, h_2⟩ | ⟨rfl, h_2⟩
  · skip
    refine lv_if_ne (tgt := 24) hx hb dX4_noWell_5 (by decide) (fun c_5 => ?_) (fun c_5 => ?_)
    · skip
      refine lv_iconst (v := 1) hx hb dX4_noWell_24 (by decide) ?_
      refine lv_goto (tgt := 29) hx hb dX4_noWell_25 (by decide) ?_
      exact mm_ri hx hb hr hlocks hT hH rfl dX4_noWell_29 (⟨rfl, Or.inl ⟨rfl, fun ⟨k, j, h1, h2, h3⟩ => h_2 ⟨k, h1.1, h2⟩⟩⟩)
    · skip
      exact absurd c_5 (by decide)
  · skip
    obtain ⟨k, hk, rfl⟩ := h_2
    refine lv_if_ne (tgt := 24) hx hb dX4_noWell_5 (by decide) (fun c_5 => ?_) (fun c_5 => ?_)
    · skip
      exact absurd c_5 (by decide)
    · skip
      refine lv_iload_n hx hb dX4_noWell_8 rfl (lv_at hl 2 rfl) ?_
      refine lv_iconst (v := 0) hx hb dX4_noWell_9 (by decide) ?_
      refine lv_aload_n hx hb dX4_noWell_10 rfl (lv_at hl 0 rfl) ?_
      refine mm_get (v := .ref (ad 5)) hx hb hT hH 5 (by decide) rfl q786 rfl dX4_noWell_11 ?_
      refine lv_iload_n hx hb dX4_noWell_14 rfl (lv_at hl 1 rfl) ?_
      refine mm_ild (v := σ.2 5 k) hx hb hT hH 5 (by decide) rfl k rfl (show k < 8 by omega) rfl dX4_noWell_15 ?_
      refine lv_as (h5 k (by omega)) ?_
      refine lv_iconst (v := 1) hx hb dX4_noWell_16 (by decide) ?_
      refine lv_isub hx hb dX4_noWell_17 ?_
      refine ss_ci (n := 3) (c_X4_in l z 0 ((nI (nW k)) - 1)) hx hb hml hT.1 hT.2.1 (lw_S q899 q900 q39 q901) (by decide +kernel) ⟨Nat.le_of_ble_eq_true rfl, Nat.le_of_ble_eq_true rfl⟩ rfl hl.1 rfl (Nat.le_of_ble_eq_true rfl) dX4_noWell_18 ⟨Nat.le_refl _, Nat.le_refl _⟩ (fun r_18 hp_18 => ?_)
      rcases hp_18 with ⟨rfl, h_18⟩ | ⟨rfl, h_18⟩
      · skip
        refine lv_if_ne (tgt := 28) hx hb dX4_noWell_21 (by decide) (fun c_21 => ?_) (fun c_21 => ?_)
        · skip
          refine lv_iconst (v := 0) hx hb dX4_noWell_28 (by decide) ?_
          exact mm_ri hx hb hr hlocks hT hH rfl dX4_noWell_29 (⟨rfl, Or.inr ⟨rfl, let ⟨j, hj, ej⟩ := (in_rg (by have := hW k (by omega); omega) z).mp h_18; ⟨k, j, ⟨hk, hj⟩, rfl, ej⟩⟩⟩)
        · skip
          exact absurd c_21 (by decide)
      · skip
        refine lv_if_ne (tgt := 28) hx hb dX4_noWell_21 (by decide) (fun c_21 => ?_) (fun c_21 => ?_)
        · skip
          exact absurd c_21 (by decide)
        · skip
          refine lv_iconst (v := 1) hx hb dX4_noWell_24 (by decide) ?_
          refine lv_goto (tgt := 29) hx hb dX4_noWell_25 (by decide) ?_
          exact mm_ri hx hb hr hlocks hT hH rfl dX4_noWell_29 (⟨rfl, Or.inl ⟨rfl, fun ⟨k2, j, h1, h2, h3⟩ => h_18 ((in_rg (by have := hW k (by omega); omega) z).mpr ⟨j, (by rw [(nI_eq (by omega) (by omega)).mp h2] at h1; exact h1.2), h3⟩)⟩⟩)

set_option maxHeartbeats 4000000 in
set_option maxRecDepth 100000 in
theorem c_X4_isLet (l : Launch) (σ : mS) (k : Nat) (hk : k < 60) : mm_Ci l yX4_isLet cX4_isLet 2 (some .boolean) 1 [.int (nI k)] σ (fun r u => σ = u ∧ ((1 = r ∧ σ.1 4 < σ.2 16 (7 * k + 6)) ∨ (0 = r ∧ ¬ σ.1 4 < σ.2 16 (7 * k + 6)))) := by
  refine mm_ofi (by decide) rfl (Nat.le_of_ble_eq_true rfl) ?_
  intro p e s m args below meth c G A ad ls X hH hl
  obtain ⟨hx, hb, hml, hT, hr, hlocks⟩ := id X
  have hl : lv_has ls 2 [(0, .ref (ad 0)), (1, .int (nI k))] := hl
  refine lv_aload_n hx hb dX4_isLet_0 rfl (lv_at hl 0 rfl) ?_
  refine mm_get (v := .ref (ad 16)) hx hb hT hH 16 (by decide) rfl q797 rfl dX4_isLet_1 ?_
  refine lv_bipush (v := 7) hx hb dX4_isLet_4 (by decide) ?_
  refine lv_iload_n hx hb dX4_isLet_6 rfl (lv_at hl 1 rfl) ?_
  refine lv_imul hx hb dX4_isLet_7 ?_
  refine lv_as (pk_mul 7 k) ?_
  refine lv_bipush (v := 6) hx hb dX4_isLet_8 (by decide) ?_
  refine lv_iadd hx hb dX4_isLet_10 ?_
  refine lv_as (nI_add (7 * k) 6) ?_
  refine mm_ild (v := σ.2 16 ((7 * k) + 6)) hx hb hT hH 16 (by decide) rfl ((7 * k) + 6) rfl (show (7 * k) + 6 < 420 by omega) rfl dX4_isLet_11 ?_
  refine lv_aload_n hx hb dX4_isLet_12 rfl (lv_at hl 0 rfl) ?_
  refine mm_get (v := .int (σ.1 4)) hx hb hT hH 4 (by decide) rfl q785 rfl dX4_isLet_13 ?_
  refine lv_icmp_le (tgt := 23) hx hb dX4_isLet_16 (by decide) (fun c_16 => ?_) (fun c_16 => ?_)
  · skip
    refine lv_iconst (v := 0) hx hb dX4_isLet_23 (by decide) ?_
    exact mm_ri hx hb hr hlocks hT hH rfl dX4_isLet_24 (⟨rfl, Or.inr ⟨rfl, Int32.not_lt.mpr c_16⟩⟩)
  · skip
    refine lv_iconst (v := 1) hx hb dX4_isLet_19 (by decide) ?_
    refine lv_goto (tgt := 24) hx hb dX4_isLet_20 (by decide) ?_
    exact mm_ri hx hb hr hlocks hT hH rfl dX4_isLet_24 (⟨rfl, Or.inl ⟨rfl, in_lt c_16⟩⟩)

set_option maxHeartbeats 4000000 in
set_option maxRecDepth 100000 in
theorem c_X4_ground (l : Launch) (σ : mS) (h z : Int32) : mm_Cv l yX4_ground cX4_ground 3 2 [.int h, .int z] σ (fun u => (((0 ≤ h ∧ h ≤ 2000) ∧ (0 ≤ z ∧ z ≤ 20)) ∧ mm_st (mm_st (mm_st σ 0 0) 1 h) 2 z = u) ∨ (¬ ((0 ≤ h ∧ h ≤ 2000) ∧ (0 ≤ z ∧ z ≤ 20)) ∧ mm_st (mm_st σ 0 0) 0 1 = u)) := by
  refine mm_ofv (by decide) rfl (Nat.le_of_ble_eq_true rfl) ?_
  intro p e s m args below meth c G A ad ls X hH hl
  obtain ⟨hx, hb, hml, hT, hr, hlocks⟩ := id X
  have hl : lv_has ls 3 [(0, .ref (ad 0)), (1, .int h), (2, .int z)] := hl
  refine lv_aload_n hx hb dX4_ground_0 rfl (lv_at hl 0 rfl) ?_
  refine lv_iconst (v := 0) hx hb dX4_ground_1 (by decide) ?_
  refine mm_put hx hb hT hH 0 (by decide) (by decide) rfl rfl q781 rfl dX4_ground_2 (fun H locs hH => ?_)
  refine lv_aload_n hx hb dX4_ground_5 rfl (lv_at hl 0 rfl) ?_
  refine lv_iload_n hx hb dX4_ground_6 rfl (lv_at hl 1 rfl) ?_
  refine lv_iconst (v := 0) hx hb dX4_ground_7 (by decide) ?_
  refine lv_sipush (v := 2000) hx hb dX4_ground_8 (by decide) ?_
  refine ss_ci (n := 3) (c_X4_in l h 0 2000) hx hb hml hT.1 hT.2.1 (lw_S q899 q900 q39 q901) (by decide +kernel) ⟨Nat.le_of_ble_eq_true rfl, Nat.le_of_ble_eq_true rfl⟩ rfl hl.1 rfl (Nat.le_of_ble_eq_true rfl) dX4_ground_11 ⟨Nat.le_refl _, Nat.le_refl _⟩ (fun r_11 hp_11 => ?_)
  rcases hp_11 with ⟨rfl, h_11⟩ | ⟨rfl, h_11⟩
  · skip
    refine lv_if_eq (tgt := 27) hx hb dX4_ground_14 (by decide) (fun c_14 => ?_) (fun c_14 => ?_)
    · skip
      exact absurd c_14 (by decide)
    · skip
      refine lv_iload_n hx hb dX4_ground_17 rfl (lv_at hl 2 rfl) ?_
      refine lv_iconst (v := 0) hx hb dX4_ground_18 (by decide) ?_
      refine lv_bipush (v := 20) hx hb dX4_ground_19 (by decide) ?_
      refine ss_ci (n := 3) (c_X4_in l z 0 20) hx hb hml hT.1 hT.2.1 (lw_S q899 q900 q39 q901) (by decide +kernel) ⟨Nat.le_of_ble_eq_true rfl, Nat.le_of_ble_eq_true rfl⟩ rfl hl.1 rfl (Nat.le_of_ble_eq_true rfl) dX4_ground_21 ⟨Nat.le_refl _, Nat.le_refl _⟩ (fun r_21 hp_21 => ?_)
      rcases hp_21 with ⟨rfl, h_21⟩ | ⟨rfl, h_21⟩
      · skip
        refine lv_if_ne (tgt := 31) hx hb dX4_ground_24 (by decide) (fun c_24 => ?_) (fun c_24 => ?_)
        · skip
          refine lv_iconst (v := 0) hx hb dX4_ground_31 (by decide) ?_
          refine lv_iconst (v := 1) hx hb dX4_ground_32 (by decide) ?_
          refine mm_cVi (n := 2) (c_X4_throwsIf0 l (mm_st σ 0 0) 1) hx hb hml hT hH (lw_V q902 q904 qs13 q39 q905) (by decide +kernel) ⟨Nat.le_of_ble_eq_true rfl, Nat.le_of_ble_eq_true rfl⟩ rfl hl.1 rfl (Nat.le_of_ble_eq_true rfl) dX4_ground_33 ⟨Nat.le_refl _, Nat.le_refl _⟩ (fun r_33 u_33 H locs hp_33 hH => ?_)
          obtain ⟨rfl, rfl⟩ := hp_33
          refine lv_if_eq (tgt := 40) hx hb dX4_ground_36 (by decide) (fun c_36 => ?_) (fun c_36 => ?_)
          · skip
            refine lv_aload_n hx hb dX4_ground_40 rfl (lv_at hl 0 rfl) ?_
            refine lv_iload_n hx hb dX4_ground_41 rfl (lv_at hl 1 rfl) ?_
            refine mm_put hx hb hT hH 1 (by decide) (by decide) rfl rfl q782 rfl dX4_ground_42 (fun H locs hH => ?_)
            refine lv_aload_n hx hb dX4_ground_45 rfl (lv_at hl 0 rfl) ?_
            refine lv_iload_n hx hb dX4_ground_46 rfl (lv_at hl 2 rfl) ?_
            refine mm_put hx hb hT hH 2 (by decide) (by decide) rfl rfl q783 rfl dX4_ground_47 (fun H locs hH => ?_)
            exact mm_rv hx hb hr hlocks hT hH dX4_ground_50 (Or.inl ⟨⟨h_11, h_21⟩, rfl⟩)
          · skip
            exact absurd c_36 (by decide)
        · skip
          exact absurd c_24 (by decide)
      · skip
        refine lv_if_ne (tgt := 31) hx hb dX4_ground_24 (by decide) (fun c_24 => ?_) (fun c_24 => ?_)
        · skip
          exact absurd c_24 (by decide)
        · skip
          refine lv_iconst (v := 1) hx hb dX4_ground_27 (by decide) ?_
          refine lv_goto (tgt := 32) hx hb dX4_ground_28 (by decide) ?_
          refine lv_iconst (v := 1) hx hb dX4_ground_32 (by decide) ?_
          refine mm_cVi (n := 2) (c_X4_throwsIf1 l (mm_st σ 0 0) 1) hx hb hml hT hH (lw_V q902 q904 qs13 q39 q905) (by decide +kernel) ⟨Nat.le_of_ble_eq_true rfl, Nat.le_of_ble_eq_true rfl⟩ rfl hl.1 rfl (Nat.le_of_ble_eq_true rfl) dX4_ground_33 ⟨Nat.le_refl _, Nat.le_refl _⟩ (fun r_33 u_33 H locs hp_33 hH => ?_)
          obtain ⟨rfl, rfl⟩ := hp_33
          refine lv_if_eq (tgt := 40) hx hb dX4_ground_36 (by decide) (fun c_36 => ?_) (fun c_36 => ?_)
          · skip
            exact absurd c_36 (by decide)
          · skip
            exact mm_rv hx hb hr hlocks hT hH dX4_ground_39 (Or.inr ⟨fun g => h_21 g.2, rfl⟩)
  · skip
    refine lv_if_eq (tgt := 27) hx hb dX4_ground_14 (by decide) (fun c_14 => ?_) (fun c_14 => ?_)
    · skip
      refine lv_iconst (v := 1) hx hb dX4_ground_27 (by decide) ?_
      refine lv_goto (tgt := 32) hx hb dX4_ground_28 (by decide) ?_
      refine lv_iconst (v := 1) hx hb dX4_ground_32 (by decide) ?_
      refine mm_cVi (n := 2) (c_X4_throwsIf1 l (mm_st σ 0 0) 1) hx hb hml hT hH (lw_V q902 q904 qs13 q39 q905) (by decide +kernel) ⟨Nat.le_of_ble_eq_true rfl, Nat.le_of_ble_eq_true rfl⟩ rfl hl.1 rfl (Nat.le_of_ble_eq_true rfl) dX4_ground_33 ⟨Nat.le_refl _, Nat.le_refl _⟩ (fun r_33 u_33 H locs hp_33 hH => ?_)
      obtain ⟨rfl, rfl⟩ := hp_33
      refine lv_if_eq (tgt := 40) hx hb dX4_ground_36 (by decide) (fun c_36 => ?_) (fun c_36 => ?_)
      · skip
        exact absurd c_36 (by decide)
      · skip
        exact mm_rv hx hb hr hlocks hT hH dX4_ground_39 (Or.inr ⟨fun g => h_11 g.1, rfl⟩)
    · skip
      exact absurd c_14 (by decide)

set_option maxHeartbeats 4000000 in
set_option maxRecDepth 100000 in
theorem c_X4_channel (l : Launch) (σ : mS) {nC : Nat} (h10 : σ.1 10 = nI nC) (hC : nC ≤ 8) : mm_Ci l yX4_channel cX4_channel 1 (some .int) 2 [] σ (fun r u => (nC < 8 ∧ mm_st (mm_st σ 0 0) 10 (nI (nC + 1)) = u ∧ nI nC = r) ∨ (nC = 8 ∧ mm_st (mm_st σ 0 0) 0 1 = u ∧ 0 = r)) := by
  refine mm_ofi (by decide) rfl (Nat.le_of_ble_eq_true rfl) ?_
  intro p e s m args below meth c G A ad ls X hH hl
  obtain ⟨hx, hb, hml, hT, hr, hlocks⟩ := id X
  have hl : lv_has ls 1 [(0, .ref (ad 0))] := hl
  refine lv_aload_n hx hb dX4_channel_0 rfl (lv_at hl 0 rfl) ?_
  refine lv_iconst (v := 0) hx hb dX4_channel_1 (by decide) ?_
  refine mm_put hx hb hT hH 0 (by decide) (by decide) rfl rfl q781 rfl dX4_channel_2 (fun H locs hH => ?_)
  refine lv_aload_n hx hb dX4_channel_5 rfl (lv_at hl 0 rfl) ?_
  refine lv_aload_n hx hb dX4_channel_6 rfl (lv_at hl 0 rfl) ?_
  refine mm_get (v := .int (σ.1 10)) hx hb hT hH 10 (by decide) rfl q791 rfl dX4_channel_7 ?_
  refine lv_as h10 ?_
  refine lv_bipush (v := 8) hx hb dX4_channel_10 (by decide) ?_
  refine lv_icmp_ne (tgt := 19) hx hb dX4_channel_12 (by decide) (fun c_12 => ?_) (fun c_12 => ?_)
  · skip
    have c_12 : ¬ (nC = 8) := fun h => c_12 ((nI_eq (a := nC) (b := 8) (by omega) (by omega)).mpr h)
    refine lv_iconst (v := 0) hx hb dX4_channel_19 (by decide) ?_
    refine lv_iconst (v := 1) hx hb dX4_channel_20 (by decide) ?_
    refine mm_cVi (n := 2) (c_X4_throwsIf0 l (mm_st σ 0 0) 1) hx hb hml hT hH (lw_V q902 q904 qs13 q39 q905) (by decide +kernel) ⟨Nat.le_of_ble_eq_true rfl, Nat.le_of_ble_eq_true rfl⟩ rfl hl.1 rfl (Nat.le_of_ble_eq_true rfl) dX4_channel_21 ⟨Nat.le_refl _, Nat.le_refl _⟩ (fun r_21 u_21 H locs hp_21 hH => ?_)
    obtain ⟨rfl, rfl⟩ := hp_21
    refine lv_if_eq (tgt := 29) hx hb dX4_channel_24 (by decide) (fun c_24 => ?_) (fun c_24 => ?_)
    · skip
      refine lv_aload_n hx hb dX4_channel_29 rfl (lv_at hl 0 rfl) ?_
      refine lv_dup hx hb dX4_channel_30 rfl ?_
      refine mm_get (v := .int (σ.1 10)) hx hb hT hH 10 (by decide) rfl q791 rfl dX4_channel_31 ?_
      refine lv_as h10 ?_
      refine lv_iconst (v := 1) hx hb dX4_channel_34 (by decide) ?_
      refine lv_iadd hx hb dX4_channel_35 ?_
      refine lv_as (nI_add nC 1) ?_
      refine mm_put hx hb hT hH 10 (by decide) (by decide) rfl rfl q791 rfl dX4_channel_36 (fun H locs hH => ?_)
      refine lv_aload_n hx hb dX4_channel_39 rfl (lv_at hl 0 rfl) ?_
      refine mm_get (v := .int (nI (nC + 1))) hx hb hT hH 10 (by decide) rfl q791 rfl dX4_channel_40 ?_
      refine lv_iconst (v := 1) hx hb dX4_channel_43 (by decide) ?_
      refine lv_isub hx hb dX4_channel_44 ?_
      refine lv_as (nI_pred nC) ?_
      exact mm_ri hx hb hr hlocks hT hH rfl dX4_channel_45 (Or.inl ⟨by omega, rfl, rfl⟩)
    · skip
      exact absurd c_24 (by decide)
  · skip
    have c_12 : nC = 8 := (nI_eq (a := nC) (b := 8) (by omega) (by omega)).mp c_12
    refine lv_iconst (v := 1) hx hb dX4_channel_15 (by decide) ?_
    refine lv_goto (tgt := 20) hx hb dX4_channel_16 (by decide) ?_
    refine lv_iconst (v := 1) hx hb dX4_channel_20 (by decide) ?_
    refine mm_cVi (n := 2) (c_X4_throwsIf1 l (mm_st σ 0 0) 1) hx hb hml hT hH (lw_V q902 q904 qs13 q39 q905) (by decide +kernel) ⟨Nat.le_of_ble_eq_true rfl, Nat.le_of_ble_eq_true rfl⟩ rfl hl.1 rfl (Nat.le_of_ble_eq_true rfl) dX4_channel_21 ⟨Nat.le_refl _, Nat.le_refl _⟩ (fun r_21 u_21 H locs hp_21 hH => ?_)
    obtain ⟨rfl, rfl⟩ := hp_21
    refine lv_if_eq (tgt := 29) hx hb dX4_channel_24 (by decide) (fun c_24 => ?_) (fun c_24 => ?_)
    · skip
      exact absurd c_24 (by decide)
    · skip
      refine lv_iconst (v := 0) hx hb dX4_channel_27 (by decide) ?_
      exact mm_ri hx hb hr hlocks hT hH rfl dX4_channel_28 (Or.inr ⟨c_12, rfl, rfl⟩)

set_option maxHeartbeats 4000000 in
set_option maxRecDepth 100000 in
theorem c_X4_years (l : Launch) (σ : mS) (n : Int32) : mm_Ci l yX4_years cX4_years 2 (some .int) 2 [.int n] σ (fun r u => ((0 ≤ n ∧ n ≤ 100) ∧ mm_st (mm_st σ 0 0) 3 (σ.1 3 + n) = u ∧ σ.1 3 + n = r) ∨ (¬ (0 ≤ n ∧ n ≤ 100) ∧ mm_st (mm_st σ 0 0) 0 1 = u ∧ 0 = r)) := by
  refine mm_ofi (by decide) rfl (Nat.le_of_ble_eq_true rfl) ?_
  intro p e s m args below meth c G A ad ls X hH hl
  obtain ⟨hx, hb, hml, hT, hr, hlocks⟩ := id X
  have hl : lv_has ls 2 [(0, .ref (ad 0)), (1, .int n)] := hl
  refine lv_aload_n hx hb dX4_years_0 rfl (lv_at hl 0 rfl) ?_
  refine lv_iconst (v := 0) hx hb dX4_years_1 (by decide) ?_
  refine mm_put hx hb hT hH 0 (by decide) (by decide) rfl rfl q781 rfl dX4_years_2 (fun H locs hH => ?_)
  refine lv_aload_n hx hb dX4_years_5 rfl (lv_at hl 0 rfl) ?_
  refine lv_iload_n hx hb dX4_years_6 rfl (lv_at hl 1 rfl) ?_
  refine lv_iconst (v := 0) hx hb dX4_years_7 (by decide) ?_
  refine lv_bipush (v := 100) hx hb dX4_years_8 (by decide) ?_
  refine ss_ci (n := 3) (c_X4_in l n 0 100) hx hb hml hT.1 hT.2.1 (lw_S q899 q900 q39 q901) (by decide +kernel) ⟨Nat.le_of_ble_eq_true rfl, Nat.le_of_ble_eq_true rfl⟩ rfl hl.1 rfl (Nat.le_of_ble_eq_true rfl) dX4_years_10 ⟨Nat.le_refl _, Nat.le_refl _⟩ (fun r_10 hp_10 => ?_)
  rcases hp_10 with ⟨rfl, h_10⟩ | ⟨rfl, h_10⟩
  · skip
    refine lv_if_ne (tgt := 20) hx hb dX4_years_13 (by decide) (fun c_13 => ?_) (fun c_13 => ?_)
    · skip
      refine lv_iconst (v := 0) hx hb dX4_years_20 (by decide) ?_
      refine lv_iconst (v := 1) hx hb dX4_years_21 (by decide) ?_
      refine mm_cVi (n := 2) (c_X4_throwsIf0 l (mm_st σ 0 0) 1) hx hb hml hT hH (lw_V q902 q904 qs13 q39 q905) (by decide +kernel) ⟨Nat.le_of_ble_eq_true rfl, Nat.le_of_ble_eq_true rfl⟩ rfl hl.1 rfl (Nat.le_of_ble_eq_true rfl) dX4_years_22 ⟨Nat.le_refl _, Nat.le_refl _⟩ (fun r_22 u_22 H locs hp_22 hH => ?_)
      obtain ⟨rfl, rfl⟩ := hp_22
      refine lv_if_eq (tgt := 30) hx hb dX4_years_25 (by decide) (fun c_25 => ?_) (fun c_25 => ?_)
      · skip
        refine lv_aload_n hx hb dX4_years_30 rfl (lv_at hl 0 rfl) ?_
        refine lv_dup hx hb dX4_years_31 rfl ?_
        refine mm_get (v := .int (σ.1 3)) hx hb hT hH 3 (by decide) rfl q784 rfl dX4_years_32 ?_
        refine lv_iload_n hx hb dX4_years_35 rfl (lv_at hl 1 rfl) ?_
        refine lv_iadd hx hb dX4_years_36 ?_
        refine mm_put hx hb hT hH 3 (by decide) (by decide) rfl rfl q784 rfl dX4_years_37 (fun H locs hH => ?_)
        refine lv_aload_n hx hb dX4_years_40 rfl (lv_at hl 0 rfl) ?_
        refine mm_get (v := .int ((σ.1 3) + n)) hx hb hT hH 3 (by decide) rfl q784 rfl dX4_years_41 ?_
        exact mm_ri hx hb hr hlocks hT hH rfl dX4_years_44 (Or.inl ⟨h_10, rfl, rfl⟩)
      · skip
        exact absurd c_25 (by decide)
    · skip
      exact absurd c_13 (by decide)
  · skip
    refine lv_if_ne (tgt := 20) hx hb dX4_years_13 (by decide) (fun c_13 => ?_) (fun c_13 => ?_)
    · skip
      exact absurd c_13 (by decide)
    · skip
      refine lv_iconst (v := 1) hx hb dX4_years_16 (by decide) ?_
      refine lv_goto (tgt := 21) hx hb dX4_years_17 (by decide) ?_
      refine lv_iconst (v := 1) hx hb dX4_years_21 (by decide) ?_
      refine mm_cVi (n := 2) (c_X4_throwsIf1 l (mm_st σ 0 0) 1) hx hb hml hT hH (lw_V q902 q904 qs13 q39 q905) (by decide +kernel) ⟨Nat.le_of_ble_eq_true rfl, Nat.le_of_ble_eq_true rfl⟩ rfl hl.1 rfl (Nat.le_of_ble_eq_true rfl) dX4_years_22 ⟨Nat.le_refl _, Nat.le_refl _⟩ (fun r_22 u_22 H locs hp_22 hH => ?_)
      obtain ⟨rfl, rfl⟩ := hp_22
      refine lv_if_eq (tgt := 30) hx hb dX4_years_25 (by decide) (fun c_25 => ?_) (fun c_25 => ?_)
      · skip
        exact absurd c_25 (by decide)
      · skip
        refine lv_iconst (v := 0) hx hb dX4_years_28 (by decide) ?_
        exact mm_ri hx hb hr hlocks hT hH rfl dX4_years_29 (Or.inr ⟨h_10, rfl, rfl⟩)

set_option maxHeartbeats 4000000 in
set_option maxRecDepth 100000 in
theorem c_X4_minutes (l : Launch) (σ : mS) (n : Int32) : mm_Ci l yX4_minutes cX4_minutes 2 (some .int) 2 [.int n] σ (fun r u => ((0 ≤ n ∧ n ≤ 100000) ∧ mm_st (mm_st σ 0 0) 4 (σ.1 4 + n) = u ∧ σ.1 4 + n = r) ∨ (¬ (0 ≤ n ∧ n ≤ 100000) ∧ mm_st (mm_st σ 0 0) 0 1 = u ∧ 0 = r)) := by
  refine mm_ofi (by decide) rfl (Nat.le_of_ble_eq_true rfl) ?_
  intro p e s m args below meth c G A ad ls X hH hl
  obtain ⟨hx, hb, hml, hT, hr, hlocks⟩ := id X
  have hl : lv_has ls 2 [(0, .ref (ad 0)), (1, .int n)] := hl
  refine lv_aload_n hx hb dX4_minutes_0 rfl (lv_at hl 0 rfl) ?_
  refine lv_iconst (v := 0) hx hb dX4_minutes_1 (by decide) ?_
  refine mm_put hx hb hT hH 0 (by decide) (by decide) rfl rfl q781 rfl dX4_minutes_2 (fun H locs hH => ?_)
  refine lv_aload_n hx hb dX4_minutes_5 rfl (lv_at hl 0 rfl) ?_
  refine lv_iload_n hx hb dX4_minutes_6 rfl (lv_at hl 1 rfl) ?_
  refine lv_iconst (v := 0) hx hb dX4_minutes_7 (by decide) ?_
  refine lv_ldc (v := 100000) hx hb hT.1 (hT.2.1 _ q1012) dX4_minutes_8 ?_
  refine ss_ci (n := 3) (c_X4_in l n 0 100000) hx hb hml hT.1 hT.2.1 (lw_S q899 q900 q39 q901) (by decide +kernel) ⟨Nat.le_of_ble_eq_true rfl, Nat.le_of_ble_eq_true rfl⟩ rfl hl.1 rfl (Nat.le_of_ble_eq_true rfl) dX4_minutes_10 ⟨Nat.le_refl _, Nat.le_refl _⟩ (fun r_10 hp_10 => ?_)
  rcases hp_10 with ⟨rfl, h_10⟩ | ⟨rfl, h_10⟩
  · skip
    refine lv_if_ne (tgt := 20) hx hb dX4_minutes_13 (by decide) (fun c_13 => ?_) (fun c_13 => ?_)
    · skip
      refine lv_iconst (v := 0) hx hb dX4_minutes_20 (by decide) ?_
      refine lv_iconst (v := 1) hx hb dX4_minutes_21 (by decide) ?_
      refine mm_cVi (n := 2) (c_X4_throwsIf0 l (mm_st σ 0 0) 1) hx hb hml hT hH (lw_V q902 q904 qs13 q39 q905) (by decide +kernel) ⟨Nat.le_of_ble_eq_true rfl, Nat.le_of_ble_eq_true rfl⟩ rfl hl.1 rfl (Nat.le_of_ble_eq_true rfl) dX4_minutes_22 ⟨Nat.le_refl _, Nat.le_refl _⟩ (fun r_22 u_22 H locs hp_22 hH => ?_)
      obtain ⟨rfl, rfl⟩ := hp_22
      refine lv_if_eq (tgt := 30) hx hb dX4_minutes_25 (by decide) (fun c_25 => ?_) (fun c_25 => ?_)
      · skip
        refine lv_aload_n hx hb dX4_minutes_30 rfl (lv_at hl 0 rfl) ?_
        refine lv_dup hx hb dX4_minutes_31 rfl ?_
        refine mm_get (v := .int (σ.1 4)) hx hb hT hH 4 (by decide) rfl q785 rfl dX4_minutes_32 ?_
        refine lv_iload_n hx hb dX4_minutes_35 rfl (lv_at hl 1 rfl) ?_
        refine lv_iadd hx hb dX4_minutes_36 ?_
        refine mm_put hx hb hT hH 4 (by decide) (by decide) rfl rfl q785 rfl dX4_minutes_37 (fun H locs hH => ?_)
        refine lv_aload_n hx hb dX4_minutes_40 rfl (lv_at hl 0 rfl) ?_
        refine mm_get (v := .int ((σ.1 4) + n)) hx hb hT hH 4 (by decide) rfl q785 rfl dX4_minutes_41 ?_
        exact mm_ri hx hb hr hlocks hT hH rfl dX4_minutes_44 (Or.inl ⟨h_10, rfl, rfl⟩)
      · skip
        exact absurd c_25 (by decide)
    · skip
      exact absurd c_13 (by decide)
  · skip
    refine lv_if_ne (tgt := 20) hx hb dX4_minutes_13 (by decide) (fun c_13 => ?_) (fun c_13 => ?_)
    · skip
      exact absurd c_13 (by decide)
    · skip
      refine lv_iconst (v := 1) hx hb dX4_minutes_16 (by decide) ?_
      refine lv_goto (tgt := 21) hx hb dX4_minutes_17 (by decide) ?_
      refine lv_iconst (v := 1) hx hb dX4_minutes_21 (by decide) ?_
      refine mm_cVi (n := 2) (c_X4_throwsIf1 l (mm_st σ 0 0) 1) hx hb hml hT hH (lw_V q902 q904 qs13 q39 q905) (by decide +kernel) ⟨Nat.le_of_ble_eq_true rfl, Nat.le_of_ble_eq_true rfl⟩ rfl hl.1 rfl (Nat.le_of_ble_eq_true rfl) dX4_minutes_22 ⟨Nat.le_refl _, Nat.le_refl _⟩ (fun r_22 u_22 H locs hp_22 hH => ?_)
      obtain ⟨rfl, rfl⟩ := hp_22
      refine lv_if_eq (tgt := 30) hx hb dX4_minutes_25 (by decide) (fun c_25 => ?_) (fun c_25 => ?_)
      · skip
        exact absurd c_25 (by decide)
      · skip
        refine lv_iconst (v := 0) hx hb dX4_minutes_28 (by decide) ?_
        exact mm_ri hx hb hr hlocks hT hH rfl dX4_minutes_29 (Or.inr ⟨h_10, rfl, rfl⟩)

set_option maxHeartbeats 4000000 in
set_option maxRecDepth 100000 in
theorem c_X4_end (l : Launch) (σ : mS) (n : Int32) : mm_Ci l yX4_end cX4_end 2 (some .boolean) 1 [.int n] σ (fun r u => ((0 ≤ n ∧ n ≤ σ.1 24) ∧ mm_st (mm_st σ 0 0) 24 n = u ∧ 1 = r) ∨ (¬ (0 ≤ n ∧ n ≤ σ.1 24) ∧ mm_st σ 0 0 = u ∧ 0 = r)) := by
  refine mm_ofi (by decide) rfl (Nat.le_of_ble_eq_true rfl) ?_
  intro p e s m args below meth c G A ad ls X hH hl
  obtain ⟨hx, hb, hml, hT, hr, hlocks⟩ := id X
  have hl : lv_has ls 2 [(0, .ref (ad 0)), (1, .int n)] := hl
  refine lv_aload_n hx hb dX4_end_0 rfl (lv_at hl 0 rfl) ?_
  refine lv_iconst (v := 0) hx hb dX4_end_1 (by decide) ?_
  refine mm_put hx hb hT hH 0 (by decide) (by decide) rfl rfl q781 rfl dX4_end_2 (fun H locs hH => ?_)
  refine lv_iload_n hx hb dX4_end_5 rfl (lv_at hl 1 rfl) ?_
  refine lv_if_lt (tgt := 17) hx hb dX4_end_6 (by decide) (fun c_6 => ?_) (fun c_6 => ?_)
  · skip
    refine lv_iconst (v := 0) hx hb dX4_end_17 (by decide) ?_
    exact mm_ri hx hb hr hlocks hT hH rfl dX4_end_18 (Or.inr ⟨fun g => absurd g.1 (Int32.not_le.mpr c_6), rfl, rfl⟩)
  · skip
    refine lv_iload_n hx hb dX4_end_9 rfl (lv_at hl 1 rfl) ?_
    refine lv_aload_n hx hb dX4_end_10 rfl (lv_at hl 0 rfl) ?_
    refine mm_get (v := .int (σ.1 24)) hx hb hT hH 24 (by decide) rfl q805 rfl dX4_end_11 ?_
    refine lv_icmp_le (tgt := 19) hx hb dX4_end_14 (by decide) (fun c_14 => ?_) (fun c_14 => ?_)
    · skip
      refine lv_aload_n hx hb dX4_end_19 rfl (lv_at hl 0 rfl) ?_
      refine lv_iload_n hx hb dX4_end_20 rfl (lv_at hl 1 rfl) ?_
      refine mm_put hx hb hT hH 24 (by decide) (by decide) rfl rfl q805 rfl dX4_end_21 (fun H locs hH => ?_)
      refine lv_iconst (v := 1) hx hb dX4_end_24 (by decide) ?_
      exact mm_ri hx hb hr hlocks hT hH rfl dX4_end_25 (Or.inl ⟨⟨in_ge c_6, c_14⟩, rfl, rfl⟩)
    · skip
      refine lv_iconst (v := 0) hx hb dX4_end_17 (by decide) ?_
      exact mm_ri hx hb hr hlocks hT hH rfl dX4_end_18 (Or.inr ⟨fun g => c_14 g.2, rfl, rfl⟩)

set_option maxHeartbeats 4000000 in
set_option maxRecDepth 100000 in
theorem c_X4_fault (l : Launch) (σ : mS) : mm_Ci l yX4_fault cX4_fault 1 (some .int) 1 [] σ (fun r u => mm_st σ 0 0 = u ∧ σ.1 28 = r) := by
  refine mm_ofi (by decide) rfl (Nat.le_of_ble_eq_true rfl) ?_
  intro p e s m args below meth c G A ad ls X hH hl
  obtain ⟨hx, hb, hml, hT, hr, hlocks⟩ := id X
  have hl : lv_has ls 1 [(0, .ref (ad 0))] := hl
  refine lv_aload_n hx hb dX4_fault_0 rfl (lv_at hl 0 rfl) ?_
  refine lv_iconst (v := 0) hx hb dX4_fault_1 (by decide) ?_
  refine mm_put hx hb hT hH 0 (by decide) (by decide) rfl rfl q781 rfl dX4_fault_2 (fun H locs hH => ?_)
  refine lv_aload_n hx hb dX4_fault_5 rfl (lv_at hl 0 rfl) ?_
  refine mm_get (v := .int (σ.1 28)) hx hb hT hH 28 (by decide) rfl q809 rfl dX4_fault_6 ?_
  exact mm_ri hx hb hr hlocks hT hH rfl dX4_fault_9 (⟨rfl, rfl⟩)

set_option maxHeartbeats 4000000 in
set_option maxRecDepth 100000 in
theorem c_X4_says (l : Launch) (σ : mS) (v : Int32) : mm_Ci l yX4_says cX4_says 2 (some .int) 2 [.int v] σ (fun r u => (∃ k, k < 4 ∧ nI k = v ∧ mm_st σ 0 0 = u ∧ σ.2 21 k = r) ∨ ((¬ ∃ k, k < 4 ∧ nI k = v) ∧ mm_st (mm_st σ 0 0) 0 1 = u ∧ 0 = r)) := by
  refine mm_ofi (by decide) rfl (Nat.le_of_ble_eq_true rfl) ?_
  intro p e s m args below meth c G A ad ls X hH hl
  obtain ⟨hx, hb, hml, hT, hr, hlocks⟩ := id X
  have hl : lv_has ls 2 [(0, .ref (ad 0)), (1, .int v)] := hl
  refine lv_aload_n hx hb dX4_says_0 rfl (lv_at hl 0 rfl) ?_
  refine lv_iconst (v := 0) hx hb dX4_says_1 (by decide) ?_
  refine mm_put hx hb hT hH 0 (by decide) (by decide) rfl rfl q781 rfl dX4_says_2 (fun H locs hH => ?_)
  refine lv_aload_n hx hb dX4_says_5 rfl (lv_at hl 0 rfl) ?_
  refine lv_iload_n hx hb dX4_says_6 rfl (lv_at hl 1 rfl) ?_
  refine lv_iconst (v := 0) hx hb dX4_says_7 (by decide) ?_
  refine lv_iconst (v := 3) hx hb dX4_says_8 (by decide) ?_
  refine ss_ci (n := 3) (c_X4_in l v 0 3) hx hb hml hT.1 hT.2.1 (lw_S q899 q900 q39 q901) (by decide +kernel) ⟨Nat.le_of_ble_eq_true rfl, Nat.le_of_ble_eq_true rfl⟩ rfl hl.1 rfl (Nat.le_of_ble_eq_true rfl) dX4_says_9 ⟨Nat.le_refl _, Nat.le_refl _⟩ (fun r_9 hp_9 => ?_)
  rcases hp_9 with ⟨rfl, h_9⟩ | ⟨rfl, h_9⟩
  · skip
    obtain ⟨k, hk, rfl⟩ := (in_rg (n := 4) (by decide) v).mp h_9
    refine lv_if_ne (tgt := 19) hx hb dX4_says_12 (by decide) (fun c_12 => ?_) (fun c_12 => ?_)
    · skip
      refine lv_iconst (v := 0) hx hb dX4_says_19 (by decide) ?_
      refine lv_iconst (v := 1) hx hb dX4_says_20 (by decide) ?_
      refine mm_cVi (n := 2) (c_X4_throwsIf0 l (mm_st σ 0 0) 1) hx hb hml hT hH (lw_V q902 q904 qs13 q39 q905) (by decide +kernel) ⟨Nat.le_of_ble_eq_true rfl, Nat.le_of_ble_eq_true rfl⟩ rfl hl.1 rfl (Nat.le_of_ble_eq_true rfl) dX4_says_21 ⟨Nat.le_refl _, Nat.le_refl _⟩ (fun r_21 u_21 H locs hp_21 hH => ?_)
      obtain ⟨rfl, rfl⟩ := hp_21
      refine lv_if_eq (tgt := 31) hx hb dX4_says_24 (by decide) (fun c_24 => ?_) (fun c_24 => ?_)
      · skip
        refine lv_aload_n hx hb dX4_says_31 rfl (lv_at hl 0 rfl) ?_
        refine mm_get (v := .ref (ad 21)) hx hb hT hH 21 (by decide) rfl q802 rfl dX4_says_32 ?_
        refine lv_iload_n hx hb dX4_says_35 rfl (lv_at hl 1 rfl) ?_
        refine mm_ild (v := σ.2 21 k) hx hb hT hH 21 (by decide) rfl k rfl (show k < 4 by omega) rfl dX4_says_36 ?_
        exact mm_ri hx hb hr hlocks hT hH rfl dX4_says_37 (Or.inl ⟨k, hk, rfl, rfl, rfl⟩)
      · skip
        exact absurd c_24 (by decide)
    · skip
      exact absurd c_12 (by decide)
  · skip
    refine lv_if_ne (tgt := 19) hx hb dX4_says_12 (by decide) (fun c_12 => ?_) (fun c_12 => ?_)
    · skip
      exact absurd c_12 (by decide)
    · skip
      refine lv_iconst (v := 1) hx hb dX4_says_15 (by decide) ?_
      refine lv_goto (tgt := 20) hx hb dX4_says_16 (by decide) ?_
      refine lv_iconst (v := 1) hx hb dX4_says_20 (by decide) ?_
      refine mm_cVi (n := 2) (c_X4_throwsIf1 l (mm_st σ 0 0) 1) hx hb hml hT hH (lw_V q902 q904 qs13 q39 q905) (by decide +kernel) ⟨Nat.le_of_ble_eq_true rfl, Nat.le_of_ble_eq_true rfl⟩ rfl hl.1 rfl (Nat.le_of_ble_eq_true rfl) dX4_says_21 ⟨Nat.le_refl _, Nat.le_refl _⟩ (fun r_21 u_21 H locs hp_21 hH => ?_)
      obtain ⟨rfl, rfl⟩ := hp_21
      refine lv_if_eq (tgt := 31) hx hb dX4_says_24 (by decide) (fun c_24 => ?_) (fun c_24 => ?_)
      · skip
        exact absurd c_24 (by decide)
      · skip
        refine lv_iconst (v := 0) hx hb dX4_says_27 (by decide) ?_
        refine lv_goto (tgt := 37) hx hb dX4_says_28 (by decide) ?_
        exact mm_ri hx hb hr hlocks hT hH rfl dX4_says_37 (Or.inr ⟨fun g => h_9 ((in_rg (n := 4) (by decide) v).mpr g), rfl, rfl⟩)

set_option maxHeartbeats 4000000 in
set_option maxRecDepth 100000 in
theorem c_X4_field (l : Launch) (σ : mS) (a b z : Int32) {nF : Nat} (h34 : σ.1 34 = nI nF) (hF : nF ≤ 9) : mm_Ci l yX4_field cX4_field 4 (some .int) 2 [.int a, .int b, .int z] σ (fun r u => (((1 ≤ a ∧ a ≤ 1000) ∧ (0 ≤ b ∧ b ≤ 10000) ∧ (0 ≤ z ∧ z ≤ 100)) ∧ nF < 9 ∧ mm_st (mm_ar (mm_ar (mm_ar (mm_st σ 0 0) 31 nF a) 32 nF b) 33 nF z) 34 (nI (nF + 1)) = u ∧ nI (nF + 1) = r) ∨ (((1 ≤ a ∧ a ≤ 1000) ∧ (0 ≤ b ∧ b ≤ 10000) ∧ (0 ≤ z ∧ z ≤ 100)) ∧ nF = 9 ∧ mm_st σ 0 0 = u ∧ (-1) = r) ∨ (¬ ((1 ≤ a ∧ a ≤ 1000) ∧ (0 ≤ b ∧ b ≤ 10000) ∧ (0 ≤ z ∧ z ≤ 100)) ∧ mm_st (mm_st σ 0 0) 0 1 = u ∧ 0 = r)) := by
  refine mm_ofi (by decide) rfl (Nat.le_of_ble_eq_true rfl) ?_
  intro p e s m args below meth c G A ad ls X hH hl
  obtain ⟨hx, hb, hml, hT, hr, hlocks⟩ := id X
  have hl : lv_has ls 4 [(0, .ref (ad 0)), (1, .int a), (2, .int b), (3, .int z)] := hl
  refine lv_aload_n hx hb dX4_field_0 rfl (lv_at hl 0 rfl) ?_
  refine lv_iconst (v := 0) hx hb dX4_field_1 (by decide) ?_
  refine mm_put hx hb hT hH 0 (by decide) (by decide) rfl rfl q781 rfl dX4_field_2 (fun H locs hH => ?_)
  refine lv_aload_n hx hb dX4_field_5 rfl (lv_at hl 0 rfl) ?_
  refine lv_iload_n hx hb dX4_field_6 rfl (lv_at hl 1 rfl) ?_
  refine lv_iconst (v := 1) hx hb dX4_field_7 (by decide) ?_
  refine lv_sipush (v := 1000) hx hb dX4_field_8 (by decide) ?_
  refine ss_ci (n := 3) (c_X4_in l a 1 1000) hx hb hml hT.1 hT.2.1 (lw_S q899 q900 q39 q901) (by decide +kernel) ⟨Nat.le_of_ble_eq_true rfl, Nat.le_of_ble_eq_true rfl⟩ rfl hl.1 rfl (Nat.le_of_ble_eq_true rfl) dX4_field_11 ⟨Nat.le_refl _, Nat.le_refl _⟩ (fun r_11 hp_11 => ?_)
  rcases hp_11 with ⟨rfl, h_11⟩ | ⟨rfl, h_11⟩
  · skip
    refine lv_if_eq (tgt := 38) hx hb dX4_field_14 (by decide) (fun c_14 => ?_) (fun c_14 => ?_)
    · skip
      exact absurd c_14 (by decide)
    · skip
      refine lv_iload_n hx hb dX4_field_17 rfl (lv_at hl 2 rfl) ?_
      refine lv_iconst (v := 0) hx hb dX4_field_18 (by decide) ?_
      refine lv_sipush (v := 10000) hx hb dX4_field_19 (by decide) ?_
      refine ss_ci (n := 3) (c_X4_in l b 0 10000) hx hb hml hT.1 hT.2.1 (lw_S q899 q900 q39 q901) (by decide +kernel) ⟨Nat.le_of_ble_eq_true rfl, Nat.le_of_ble_eq_true rfl⟩ rfl hl.1 rfl (Nat.le_of_ble_eq_true rfl) dX4_field_22 ⟨Nat.le_refl _, Nat.le_refl _⟩ (fun r_22 hp_22 => ?_)
      rcases hp_22 with ⟨rfl, h_22⟩ | ⟨rfl, h_22⟩
      · skip
        refine lv_if_eq (tgt := 38) hx hb dX4_field_25 (by decide) (fun c_25 => ?_) (fun c_25 => ?_)
        · skip
          exact absurd c_25 (by decide)
        · skip
          refine lv_iload_n hx hb dX4_field_28 rfl (lv_at hl 3 rfl) ?_
          refine lv_iconst (v := 0) hx hb dX4_field_29 (by decide) ?_
          refine lv_bipush (v := 100) hx hb dX4_field_30 (by decide) ?_
          refine ss_ci (n := 3) (c_X4_in l z 0 100) hx hb hml hT.1 hT.2.1 (lw_S q899 q900 q39 q901) (by decide +kernel) ⟨Nat.le_of_ble_eq_true rfl, Nat.le_of_ble_eq_true rfl⟩ rfl hl.1 rfl (Nat.le_of_ble_eq_true rfl) dX4_field_32 ⟨Nat.le_refl _, Nat.le_refl _⟩ (fun r_32 hp_32 => ?_)
          rcases hp_32 with ⟨rfl, h_32⟩ | ⟨rfl, h_32⟩
          · skip
            refine lv_if_ne (tgt := 42) hx hb dX4_field_35 (by decide) (fun c_35 => ?_) (fun c_35 => ?_)
            · skip
              refine lv_iconst (v := 0) hx hb dX4_field_42 (by decide) ?_
              refine lv_iconst (v := 1) hx hb dX4_field_43 (by decide) ?_
              refine mm_cVi (n := 2) (c_X4_throwsIf0 l (mm_st σ 0 0) 1) hx hb hml hT hH (lw_V q902 q904 qs13 q39 q905) (by decide +kernel) ⟨Nat.le_of_ble_eq_true rfl, Nat.le_of_ble_eq_true rfl⟩ rfl hl.1 rfl (Nat.le_of_ble_eq_true rfl) dX4_field_44 ⟨Nat.le_refl _, Nat.le_refl _⟩ (fun r_44 u_44 H locs hp_44 hH => ?_)
              obtain ⟨rfl, rfl⟩ := hp_44
              refine lv_if_eq (tgt := 52) hx hb dX4_field_47 (by decide) (fun c_47 => ?_) (fun c_47 => ?_)
              · skip
                refine lv_aload_n hx hb dX4_field_52 rfl (lv_at hl 0 rfl) ?_
                refine mm_get (v := .int (σ.1 34)) hx hb hT hH 34 (by decide) rfl q815 rfl dX4_field_53 ?_
                refine lv_as h34 ?_
                refine lv_bipush (v := 9) hx hb dX4_field_56 (by decide) ?_
                refine lv_icmp_ne (tgt := 63) hx hb dX4_field_58 (by decide) (fun c_58 => ?_) (fun c_58 => ?_)
                · skip
                  have c_58 : ¬ (nF = 9) := fun h => c_58 ((nI_eq (a := nF) (b := 9) (by omega) (by omega)).mpr h)
                  refine lv_aload_n hx hb dX4_field_63 rfl (lv_at hl 0 rfl) ?_
                  refine mm_get (v := .ref (ad 31)) hx hb hT hH 31 (by decide) rfl q812 rfl dX4_field_64 ?_
                  refine lv_aload_n hx hb dX4_field_67 rfl (lv_at hl 0 rfl) ?_
                  refine mm_get (v := .int (σ.1 34)) hx hb hT hH 34 (by decide) rfl q815 rfl dX4_field_68 ?_
                  refine lv_as h34 ?_
                  refine lv_iload_n hx hb dX4_field_71 rfl (lv_at hl 1 rfl) ?_
                  refine mm_ist hx hb hT hH 31 (by decide) rfl nF rfl (show nF < 9 by omega) dX4_field_72 (fun H locs hH => ?_)
                  refine lv_aload_n hx hb dX4_field_73 rfl (lv_at hl 0 rfl) ?_
                  refine mm_get (v := .ref (ad 32)) hx hb hT hH 32 (by decide) rfl q813 rfl dX4_field_74 ?_
                  refine lv_aload_n hx hb dX4_field_77 rfl (lv_at hl 0 rfl) ?_
                  refine mm_get (v := .int (σ.1 34)) hx hb hT hH 34 (by decide) rfl q815 rfl dX4_field_78 ?_
                  refine lv_as h34 ?_
                  refine lv_iload_n hx hb dX4_field_81 rfl (lv_at hl 2 rfl) ?_
                  refine mm_ist hx hb hT hH 32 (by decide) rfl nF rfl (show nF < 9 by omega) dX4_field_82 (fun H locs hH => ?_)
                  refine lv_aload_n hx hb dX4_field_83 rfl (lv_at hl 0 rfl) ?_
                  refine mm_get (v := .ref (ad 33)) hx hb hT hH 33 (by decide) rfl q814 rfl dX4_field_84 ?_
                  refine lv_aload_n hx hb dX4_field_87 rfl (lv_at hl 0 rfl) ?_
                  refine mm_get (v := .int (σ.1 34)) hx hb hT hH 34 (by decide) rfl q815 rfl dX4_field_88 ?_
                  refine lv_as h34 ?_
                  refine lv_iload_n hx hb dX4_field_91 rfl (lv_at hl 3 rfl) ?_
                  refine mm_ist hx hb hT hH 33 (by decide) rfl nF rfl (show nF < 9 by omega) dX4_field_92 (fun H locs hH => ?_)
                  refine lv_aload_n hx hb dX4_field_93 rfl (lv_at hl 0 rfl) ?_
                  refine lv_dup hx hb dX4_field_94 rfl ?_
                  refine mm_get (v := .int (σ.1 34)) hx hb hT hH 34 (by decide) rfl q815 rfl dX4_field_95 ?_
                  refine lv_as h34 ?_
                  refine lv_iconst (v := 1) hx hb dX4_field_98 (by decide) ?_
                  refine lv_iadd hx hb dX4_field_99 ?_
                  refine lv_as (nI_add nF 1) ?_
                  refine mm_put hx hb hT hH 34 (by decide) (by decide) rfl rfl q815 rfl dX4_field_100 (fun H locs hH => ?_)
                  refine lv_aload_n hx hb dX4_field_103 rfl (lv_at hl 0 rfl) ?_
                  refine mm_get (v := .int (nI (nF + 1))) hx hb hT hH 34 (by decide) rfl q815 rfl dX4_field_104 ?_
                  exact mm_ri hx hb hr hlocks hT hH rfl dX4_field_107 (Or.inl ⟨⟨h_11, h_22, h_32⟩, by omega, rfl, rfl⟩)
                · skip
                  have c_58 : nF = 9 := (nI_eq (a := nF) (b := 9) (by omega) (by omega)).mp c_58
                  refine lv_iconst (v := (-1)) hx hb dX4_field_61 (by decide) ?_
                  exact mm_ri hx hb hr hlocks hT hH rfl dX4_field_62 (Or.inr (Or.inl ⟨⟨h_11, h_22, h_32⟩, c_58, rfl, rfl⟩))
              · skip
                exact absurd c_47 (by decide)
            · skip
              exact absurd c_35 (by decide)
          · skip
            refine lv_if_ne (tgt := 42) hx hb dX4_field_35 (by decide) (fun c_35 => ?_) (fun c_35 => ?_)
            · skip
              exact absurd c_35 (by decide)
            · skip
              refine lv_iconst (v := 1) hx hb dX4_field_38 (by decide) ?_
              refine lv_goto (tgt := 43) hx hb dX4_field_39 (by decide) ?_
              refine lv_iconst (v := 1) hx hb dX4_field_43 (by decide) ?_
              refine mm_cVi (n := 2) (c_X4_throwsIf1 l (mm_st σ 0 0) 1) hx hb hml hT hH (lw_V q902 q904 qs13 q39 q905) (by decide +kernel) ⟨Nat.le_of_ble_eq_true rfl, Nat.le_of_ble_eq_true rfl⟩ rfl hl.1 rfl (Nat.le_of_ble_eq_true rfl) dX4_field_44 ⟨Nat.le_refl _, Nat.le_refl _⟩ (fun r_44 u_44 H locs hp_44 hH => ?_)
              obtain ⟨rfl, rfl⟩ := hp_44
              refine lv_if_eq (tgt := 52) hx hb dX4_field_47 (by decide) (fun c_47 => ?_) (fun c_47 => ?_)
              · skip
                exact absurd c_47 (by decide)
              · skip
                refine lv_iconst (v := 0) hx hb dX4_field_50 (by decide) ?_
                exact mm_ri hx hb hr hlocks hT hH rfl dX4_field_51 (Or.inr (Or.inr ⟨fun g => h_32 g.2.2, rfl, rfl⟩))
      · skip
        refine lv_if_eq (tgt := 38) hx hb dX4_field_25 (by decide) (fun c_25 => ?_) (fun c_25 => ?_)
        · skip
          refine lv_iconst (v := 1) hx hb dX4_field_38 (by decide) ?_
          refine lv_goto (tgt := 43) hx hb dX4_field_39 (by decide) ?_
          refine lv_iconst (v := 1) hx hb dX4_field_43 (by decide) ?_
          refine mm_cVi (n := 2) (c_X4_throwsIf1 l (mm_st σ 0 0) 1) hx hb hml hT hH (lw_V q902 q904 qs13 q39 q905) (by decide +kernel) ⟨Nat.le_of_ble_eq_true rfl, Nat.le_of_ble_eq_true rfl⟩ rfl hl.1 rfl (Nat.le_of_ble_eq_true rfl) dX4_field_44 ⟨Nat.le_refl _, Nat.le_refl _⟩ (fun r_44 u_44 H locs hp_44 hH => ?_)
          obtain ⟨rfl, rfl⟩ := hp_44
          refine lv_if_eq (tgt := 52) hx hb dX4_field_47 (by decide) (fun c_47 => ?_) (fun c_47 => ?_)
          · skip
            exact absurd c_47 (by decide)
          · skip
            refine lv_iconst (v := 0) hx hb dX4_field_50 (by decide) ?_
            exact mm_ri hx hb hr hlocks hT hH rfl dX4_field_51 (Or.inr (Or.inr ⟨fun g => h_22 g.2.1, rfl, rfl⟩))
        · skip
          exact absurd c_25 (by decide)
  · skip
    refine lv_if_eq (tgt := 38) hx hb dX4_field_14 (by decide) (fun c_14 => ?_) (fun c_14 => ?_)
    · skip
      refine lv_iconst (v := 1) hx hb dX4_field_38 (by decide) ?_
      refine lv_goto (tgt := 43) hx hb dX4_field_39 (by decide) ?_
      refine lv_iconst (v := 1) hx hb dX4_field_43 (by decide) ?_
      refine mm_cVi (n := 2) (c_X4_throwsIf1 l (mm_st σ 0 0) 1) hx hb hml hT hH (lw_V q902 q904 qs13 q39 q905) (by decide +kernel) ⟨Nat.le_of_ble_eq_true rfl, Nat.le_of_ble_eq_true rfl⟩ rfl hl.1 rfl (Nat.le_of_ble_eq_true rfl) dX4_field_44 ⟨Nat.le_refl _, Nat.le_refl _⟩ (fun r_44 u_44 H locs hp_44 hH => ?_)
      obtain ⟨rfl, rfl⟩ := hp_44
      refine lv_if_eq (tgt := 52) hx hb dX4_field_47 (by decide) (fun c_47 => ?_) (fun c_47 => ?_)
      · skip
        exact absurd c_47 (by decide)
      · skip
        refine lv_iconst (v := 0) hx hb dX4_field_50 (by decide) ?_
        exact mm_ri hx hb hr hlocks hT hH rfl dX4_field_51 (Or.inr (Or.inr ⟨fun g => h_11 g.1, rfl, rfl⟩))
    · skip
      exact absurd c_14 (by decide)

def pSets (σ : mS) (k : Nat) (f t o : Int32) : mS := mm_ar (mm_ar (mm_ar (mm_ar (mm_ar σ 16 (7 * k + 1) f) 16 (7 * k + 2) t) 16 (7 * k + 3) o) 16 (7 * k + 5) 0) 16 (7 * k + 6) 0
def pAdds (σ : mS) (k : Nat) (ch f t o : Int32) : mS := mm_st (pSets (mm_ar σ 16 (7 * k) ch) k f t o) 17 (nI (k + 1))

set_option maxHeartbeats 4000000 in
set_option maxRecDepth 100000 in
theorem c_X4_sets (l : Launch) (σ : mS) (k : Nat) (hk : k < 60) (f t o : Int32) : mm_Cv l yX4_sets cX4_sets 6 1 [.int (nI k), .int f, .int t, .int o] σ (fun u => pSets σ k f t o = u) := by
  refine mm_ofv (by decide) rfl (Nat.le_of_ble_eq_true rfl) ?_
  intro p e s m args below meth c G A ad ls X hH hl
  obtain ⟨hx, hb, hml, hT, hr, hlocks⟩ := id X
  have hl : lv_has ls 6 [(0, .ref (ad 0)), (1, .int (nI k)), (2, .int f), (3, .int t), (4, .int o)] := hl
  refine lv_bipush (v := 7) hx hb dX4_sets_0 (by decide) ?_
  refine lv_iload_n hx hb dX4_sets_2 rfl (lv_at hl 1 rfl) ?_
  refine lv_imul hx hb dX4_sets_3 ?_
  refine lv_as (pk_mul 7 k) ?_
  refine lv_istore (lv' := [(5, .int (nI (7 * k))), (0, .ref (ad 0)), (1, .int (nI k)), (2, .int f), (3, .int t), (4, .int o)]) hx hb dX4_sets_4 hl (by decide) rfl (fun ls hl => ?_)
  refine lv_aload_n hx hb dX4_sets_6 rfl (lv_at hl 1 rfl) ?_
  refine mm_get (v := .ref (ad 16)) hx hb hT hH 16 (by decide) rfl q797 rfl dX4_sets_7 ?_
  refine lv_iload hx hb dX4_sets_10 (lv_at hl 0 rfl) ?_
  refine lv_iconst (v := 1) hx hb dX4_sets_12 (by decide) ?_
  refine lv_iadd hx hb dX4_sets_13 ?_
  refine lv_as (nI_add (7 * k) 1) ?_
  refine lv_iload_n hx hb dX4_sets_14 rfl (lv_at hl 3 rfl) ?_
  refine mm_ist hx hb hT hH 16 (by decide) rfl ((7 * k) + 1) rfl (show (7 * k) + 1 < 420 by omega) dX4_sets_15 (fun H locs hH => ?_)
  refine lv_aload_n hx hb dX4_sets_16 rfl (lv_at hl 1 rfl) ?_
  refine mm_get (v := .ref (ad 16)) hx hb hT hH 16 (by decide) rfl q797 rfl dX4_sets_17 ?_
  refine lv_iload hx hb dX4_sets_20 (lv_at hl 0 rfl) ?_
  refine lv_iconst (v := 2) hx hb dX4_sets_22 (by decide) ?_
  refine lv_iadd hx hb dX4_sets_23 ?_
  refine lv_as (nI_add (7 * k) 2) ?_
  refine lv_iload_n hx hb dX4_sets_24 rfl (lv_at hl 4 rfl) ?_
  refine mm_ist hx hb hT hH 16 (by decide) rfl ((7 * k) + 2) rfl (show (7 * k) + 2 < 420 by omega) dX4_sets_25 (fun H locs hH => ?_)
  refine lv_aload_n hx hb dX4_sets_26 rfl (lv_at hl 1 rfl) ?_
  refine mm_get (v := .ref (ad 16)) hx hb hT hH 16 (by decide) rfl q797 rfl dX4_sets_27 ?_
  refine lv_iload hx hb dX4_sets_30 (lv_at hl 0 rfl) ?_
  refine lv_iconst (v := 3) hx hb dX4_sets_32 (by decide) ?_
  refine lv_iadd hx hb dX4_sets_33 ?_
  refine lv_as (nI_add (7 * k) 3) ?_
  refine lv_iload hx hb dX4_sets_34 (lv_at hl 5 rfl) ?_
  refine mm_ist hx hb hT hH 16 (by decide) rfl ((7 * k) + 3) rfl (show (7 * k) + 3 < 420 by omega) dX4_sets_36 (fun H locs hH => ?_)
  refine lv_aload_n hx hb dX4_sets_37 rfl (lv_at hl 1 rfl) ?_
  refine mm_get (v := .ref (ad 16)) hx hb hT hH 16 (by decide) rfl q797 rfl dX4_sets_38 ?_
  refine lv_iload hx hb dX4_sets_41 (lv_at hl 0 rfl) ?_
  refine lv_iconst (v := 5) hx hb dX4_sets_43 (by decide) ?_
  refine lv_iadd hx hb dX4_sets_44 ?_
  refine lv_as (nI_add (7 * k) 5) ?_
  refine lv_iconst (v := 0) hx hb dX4_sets_45 (by decide) ?_
  refine mm_ist hx hb hT hH 16 (by decide) rfl ((7 * k) + 5) rfl (show (7 * k) + 5 < 420 by omega) dX4_sets_46 (fun H locs hH => ?_)
  refine lv_aload_n hx hb dX4_sets_47 rfl (lv_at hl 1 rfl) ?_
  refine mm_get (v := .ref (ad 16)) hx hb hT hH 16 (by decide) rfl q797 rfl dX4_sets_48 ?_
  refine lv_iload hx hb dX4_sets_51 (lv_at hl 0 rfl) ?_
  refine lv_bipush (v := 6) hx hb dX4_sets_53 (by decide) ?_
  refine lv_iadd hx hb dX4_sets_55 ?_
  refine lv_as (nI_add (7 * k) 6) ?_
  refine lv_iconst (v := 0) hx hb dX4_sets_56 (by decide) ?_
  refine mm_ist hx hb hT hH 16 (by decide) rfl ((7 * k) + 6) rfl (show (7 * k) + 6 < 420 by omega) dX4_sets_57 (fun H locs hH => ?_)
  exact mm_rv hx hb hr hlocks hT hH dX4_sets_58 rfl

set_option maxHeartbeats 4000000 in
set_option maxRecDepth 100000 in
theorem c_X4_adds (l : Launch) (σ : mS) {nS : Nat} (h17 : σ.1 17 = nI nS) (hS : nS < 60) (ch f t o : Int32) : mm_Cv l yX4_adds cX4_adds 5 2 [.int ch, .int f, .int t, .int o] σ (fun u => pAdds σ nS ch f t o = u) := by
  refine mm_ofv (by decide) rfl (Nat.le_of_ble_eq_true rfl) ?_
  intro p e s m args below meth c G A ad ls X hH hl
  obtain ⟨hx, hb, hml, hT, hr, hlocks⟩ := id X
  have hl : lv_has ls 5 [(0, .ref (ad 0)), (1, .int ch), (2, .int f), (3, .int t), (4, .int o)] := hl
  refine lv_aload_n hx hb dX4_adds_0 rfl (lv_at hl 0 rfl) ?_
  refine mm_get (v := .ref (ad 16)) hx hb hT hH 16 (by decide) rfl q797 rfl dX4_adds_1 ?_
  refine lv_bipush (v := 7) hx hb dX4_adds_4 (by decide) ?_
  refine lv_aload_n hx hb dX4_adds_6 rfl (lv_at hl 0 rfl) ?_
  refine mm_get (v := .int (σ.1 17)) hx hb hT hH 17 (by decide) rfl q798 rfl dX4_adds_7 ?_
  refine lv_as h17 ?_
  refine lv_imul hx hb dX4_adds_10 ?_
  refine lv_as (pk_mul 7 nS) ?_
  refine lv_iload_n hx hb dX4_adds_11 rfl (lv_at hl 1 rfl) ?_
  refine mm_ist hx hb hT hH 16 (by decide) rfl (7 * nS) rfl (show 7 * nS < 420 by omega) dX4_adds_12 (fun H locs hH => ?_)
  refine lv_aload_n hx hb dX4_adds_13 rfl (lv_at hl 0 rfl) ?_
  refine lv_aload_n hx hb dX4_adds_14 rfl (lv_at hl 0 rfl) ?_
  refine mm_get (v := .int (σ.1 17)) hx hb hT hH 17 (by decide) rfl q798 rfl dX4_adds_15 ?_
  refine lv_as h17 ?_
  refine lv_iload_n hx hb dX4_adds_18 rfl (lv_at hl 2 rfl) ?_
  refine lv_iload_n hx hb dX4_adds_19 rfl (lv_at hl 3 rfl) ?_
  refine lv_iload hx hb dX4_adds_20 (lv_at hl 4 rfl) ?_
  refine mm_cVv (n := 4) (c_X4_sets l (mm_ar σ 16 (7 * nS) ch) nS (by omega) f t o) hx hb hml hT hH (lw_V q939 q941 qs17 q39 q942) (by decide +kernel) ⟨Nat.le_of_ble_eq_true rfl, Nat.le_of_ble_eq_true rfl⟩ rfl hl.1 rfl (Nat.le_of_ble_eq_true rfl) dX4_adds_22 ⟨Nat.le_refl _, Nat.le_refl _⟩ (fun u_22 H locs hp_22 hH => ?_)
  obtain rfl := hp_22
  refine lv_aload_n hx hb dX4_adds_25 rfl (lv_at hl 0 rfl) ?_
  refine lv_dup hx hb dX4_adds_26 rfl ?_
  refine mm_get (v := .int ((pSets (mm_ar σ 16 (7 * nS) ch) nS f t o).1 17)) hx hb hT hH 17 (by decide) rfl q798 rfl dX4_adds_27 ?_
  refine lv_as h17 ?_
  refine lv_iconst (v := 1) hx hb dX4_adds_30 (by decide) ?_
  refine lv_iadd hx hb dX4_adds_31 ?_
  refine lv_as (nI_add nS 1) ?_
  refine mm_put hx hb hT hH 17 (by decide) (by decide) rfl rfl q798 rfl dX4_adds_32 (fun H locs hH => ?_)
  exact mm_rv hx hb hr hlocks hT hH dX4_adds_35 rfl

set_option maxHeartbeats 4000000 in
set_option maxRecDepth 100000 in
theorem c_X4_let (l : Launch) (σ : mS) (v o f t : Int32) {nS : Nat} (h17 : σ.1 17 = nI nS) (hS : nS ≤ 60) : mm_Cv l yX4_let cX4_let 6 3 [.int v, .int o, .int f, .int t] σ (fun u => ((¬ ∃ k, k < nS ∧ nI k = v) ∧ mm_st (mm_st σ 0 0) 0 1 = u) ∨ ∃ k, k < nS ∧ nI k = v ∧ ((σ.1 4 < σ.2 16 (7 * k + 6) ∧ mm_st (mm_st σ 0 0) 0 2 = u) ∨ (¬ σ.1 4 < σ.2 16 (7 * k + 6) ∧ ((¬ ((0 ≤ o ∧ o ≤ 30) ∧ ¬ o = σ.2 16 (7 * k + 3) ∧ σ.1 4 ≤ f ∧ f < t ∧ t ≤ 100000000) ∧ mm_st (mm_st σ 0 0) 0 3 = u) ∨ (((0 ≤ o ∧ o ≤ 30) ∧ ¬ o = σ.2 16 (7 * k + 3) ∧ σ.1 4 ≤ f ∧ f < t ∧ t ≤ 100000000) ∧ mm_ar (mm_ar (mm_ar (mm_st σ 0 0) 16 (7 * k + 4) o) 16 (7 * k + 5) f) 16 (7 * k + 6) t = u))))) := by
  refine mm_ofv (by decide) rfl (Nat.le_of_ble_eq_true rfl) ?_
  intro p e s m args below meth c G A ad ls X hH hl
  obtain ⟨hx, hb, hml, hT, hr, hlocks⟩ := id X
  have hl : lv_has ls 6 [(0, .ref (ad 0)), (1, .int v), (2, .int o), (3, .int f), (4, .int t)] := hl
  refine lv_aload_n hx hb dX4_let_0 rfl (lv_at hl 0 rfl) ?_
  refine lv_iconst (v := 0) hx hb dX4_let_1 (by decide) ?_
  refine mm_put hx hb hT hH 0 (by decide) (by decide) rfl rfl q781 rfl dX4_let_2 (fun H locs hH => ?_)
  refine lv_aload_n hx hb dX4_let_5 rfl (lv_at hl 0 rfl) ?_
  refine lv_aload_n hx hb dX4_let_6 rfl (lv_at hl 0 rfl) ?_
  refine lv_iload_n hx hb dX4_let_7 rfl (lv_at hl 1 rfl) ?_
  refine mm_cVi (n := 1) (c_X4_noShare l (mm_st σ 0 0) v (nS := nS) h17 hS) hx hb hml hT hH (lw_V q988 q990 qs23 q39 q991) (by decide +kernel) ⟨Nat.le_of_ble_eq_true rfl, Nat.le_of_ble_eq_true rfl⟩ rfl hl.1 rfl (Nat.le_of_ble_eq_true rfl) dX4_let_8 ⟨Nat.le_refl _, Nat.le_refl _⟩ (fun r_8 u_8 H locs hp_8 hH => ?_)
  obtain ⟨rfl, hp_8⟩ := hp_8
  rcases hp_8 with ⟨rfl, h_8⟩ | ⟨rfl, h_8⟩
  · skip
    refine lv_iconst (v := 1) hx hb dX4_let_11 (by decide) ?_
    refine mm_cVi (n := 2) (c_X4_throwsIf1 l (mm_st σ 0 0) 1) hx hb hml hT hH (lw_V q902 q904 qs13 q39 q905) (by decide +kernel) ⟨Nat.le_of_ble_eq_true rfl, Nat.le_of_ble_eq_true rfl⟩ rfl hl.1 rfl (Nat.le_of_ble_eq_true rfl) dX4_let_12 ⟨Nat.le_refl _, Nat.le_refl _⟩ (fun r_12 u_12 H locs hp_12 hH => ?_)
    obtain ⟨rfl, rfl⟩ := hp_12
    refine lv_if_ne (tgt := 31) hx hb dX4_let_15 (by decide) (fun c_15 => ?_) (fun c_15 => ?_)
    · skip
      exact mm_rv hx hb hr hlocks hT hH dX4_let_31 (Or.inl ⟨h_8, rfl⟩)
    · skip
      exact absurd c_15 (by decide)
  · skip
    obtain ⟨k, hk, rfl⟩ := h_8
    refine lv_iconst (v := 1) hx hb dX4_let_11 (by decide) ?_
    refine mm_cVi (n := 2) (c_X4_throwsIf0 l (mm_st σ 0 0) 1) hx hb hml hT hH (lw_V q902 q904 qs13 q39 q905) (by decide +kernel) ⟨Nat.le_of_ble_eq_true rfl, Nat.le_of_ble_eq_true rfl⟩ rfl hl.1 rfl (Nat.le_of_ble_eq_true rfl) dX4_let_12 ⟨Nat.le_refl _, Nat.le_refl _⟩ (fun r_12 u_12 H locs hp_12 hH => ?_)
    obtain ⟨rfl, rfl⟩ := hp_12
    refine lv_if_ne (tgt := 31) hx hb dX4_let_15 (by decide) (fun c_15 => ?_) (fun c_15 => ?_)
    · skip
      exact absurd c_15 (by decide)
    · skip
      refine lv_aload_n hx hb dX4_let_18 rfl (lv_at hl 0 rfl) ?_
      refine lv_aload_n hx hb dX4_let_19 rfl (lv_at hl 0 rfl) ?_
      refine lv_iload_n hx hb dX4_let_20 rfl (lv_at hl 1 rfl) ?_
      refine mm_cVi (n := 1) (c_X4_isLet l (mm_st σ 0 0) k (by omega)) hx hb hml hT hH (lw_V q992 q994 qs24 q39 q995) (by decide +kernel) ⟨Nat.le_of_ble_eq_true rfl, Nat.le_of_ble_eq_true rfl⟩ rfl hl.1 rfl (Nat.le_of_ble_eq_true rfl) dX4_let_21 ⟨Nat.le_refl _, Nat.le_refl _⟩ (fun r_21 u_21 H locs hp_21 hH => ?_)
      obtain ⟨rfl, hp_21⟩ := hp_21
      rcases hp_21 with ⟨rfl, h_21⟩ | ⟨rfl, h_21⟩
      · skip
        refine lv_iconst (v := 2) hx hb dX4_let_24 (by decide) ?_
        refine mm_cVi (n := 2) (c_X4_throwsIf1 l (mm_st σ 0 0) 2) hx hb hml hT hH (lw_V q902 q904 qs13 q39 q905) (by decide +kernel) ⟨Nat.le_of_ble_eq_true rfl, Nat.le_of_ble_eq_true rfl⟩ rfl hl.1 rfl (Nat.le_of_ble_eq_true rfl) dX4_let_25 ⟨Nat.le_refl _, Nat.le_refl _⟩ (fun r_25 u_25 H locs hp_25 hH => ?_)
        obtain ⟨rfl, rfl⟩ := hp_25
        refine lv_if_eq (tgt := 32) hx hb dX4_let_28 (by decide) (fun c_28 => ?_) (fun c_28 => ?_)
        · skip
          exact absurd c_28 (by decide)
        · skip
          exact mm_rv hx hb hr hlocks hT hH dX4_let_31 (Or.inr ⟨k, hk, rfl, Or.inl ⟨h_21, rfl⟩⟩)
      · skip
        refine lv_iconst (v := 2) hx hb dX4_let_24 (by decide) ?_
        refine mm_cVi (n := 2) (c_X4_throwsIf0 l (mm_st σ 0 0) 2) hx hb hml hT hH (lw_V q902 q904 qs13 q39 q905) (by decide +kernel) ⟨Nat.le_of_ble_eq_true rfl, Nat.le_of_ble_eq_true rfl⟩ rfl hl.1 rfl (Nat.le_of_ble_eq_true rfl) dX4_let_25 ⟨Nat.le_refl _, Nat.le_refl _⟩ (fun r_25 u_25 H locs hp_25 hH => ?_)
        obtain ⟨rfl, rfl⟩ := hp_25
        refine lv_if_eq (tgt := 32) hx hb dX4_let_28 (by decide) (fun c_28 => ?_) (fun c_28 => ?_)
        · skip
          refine lv_bipush (v := 7) hx hb dX4_let_32 (by decide) ?_
          refine lv_iload_n hx hb dX4_let_34 rfl (lv_at hl 1 rfl) ?_
          refine lv_imul hx hb dX4_let_35 ?_
          refine lv_as (pk_mul 7 k) ?_
          refine lv_istore (lv' := [(5, .int (nI (7 * k))), (0, .ref (ad 0)), (1, .int (nI k)), (2, .int o), (3, .int f), (4, .int t)]) hx hb dX4_let_36 hl (by decide) rfl (fun ls hl => ?_)
          refine lv_aload_n hx hb dX4_let_38 rfl (lv_at hl 1 rfl) ?_
          refine lv_iload_n hx hb dX4_let_39 rfl (lv_at hl 3 rfl) ?_
          refine ss_ci (n := 1) (c_X4_noOwner l o) hx hb hml hT.1 hT.2.1 (lw_S q996 q997 q39 q998) (by decide +kernel) ⟨Nat.le_of_ble_eq_true rfl, Nat.le_of_ble_eq_true rfl⟩ rfl hl.1 rfl (Nat.le_of_ble_eq_true rfl) dX4_let_40 ⟨Nat.le_refl _, Nat.le_refl _⟩ (fun r_40 hp_40 => ?_)
          rcases hp_40 with ⟨rfl, h_40⟩ | ⟨rfl, h_40⟩
          · skip
            refine lv_if_ne (tgt := 80) hx hb dX4_let_43 (by decide) (fun c_43 => ?_) (fun c_43 => ?_)
            · skip
              refine lv_iconst (v := 1) hx hb dX4_let_80 (by decide) ?_
              refine lv_goto (tgt := 85) hx hb dX4_let_81 (by decide) ?_
              refine lv_iconst (v := 3) hx hb dX4_let_85 (by decide) ?_
              refine mm_cVi (n := 2) (c_X4_throwsIf1 l (mm_st σ 0 0) 3) hx hb hml hT hH (lw_V q902 q904 qs13 q39 q905) (by decide +kernel) ⟨Nat.le_of_ble_eq_true rfl, Nat.le_of_ble_eq_true rfl⟩ rfl hl.1 rfl (Nat.le_of_ble_eq_true rfl) dX4_let_86 ⟨Nat.le_refl _, Nat.le_refl _⟩ (fun r_86 u_86 H locs hp_86 hH => ?_)
              obtain ⟨rfl, rfl⟩ := hp_86
              refine lv_if_eq (tgt := 93) hx hb dX4_let_89 (by decide) (fun c_89 => ?_) (fun c_89 => ?_)
              · skip
                exact absurd c_89 (by decide)
              · skip
                exact mm_rv hx hb hr hlocks hT hH dX4_let_92 (Or.inr ⟨k, hk, rfl, Or.inr ⟨h_21, Or.inl ⟨fun g => h_40 g.1, rfl⟩⟩⟩)
            · skip
              exact absurd c_43 (by decide)
          · skip
            refine lv_if_ne (tgt := 80) hx hb dX4_let_43 (by decide) (fun c_43 => ?_) (fun c_43 => ?_)
            · skip
              exact absurd c_43 (by decide)
            · skip
              refine lv_iload_n hx hb dX4_let_46 rfl (lv_at hl 3 rfl) ?_
              refine lv_aload_n hx hb dX4_let_47 rfl (lv_at hl 1 rfl) ?_
              refine mm_get (v := .ref (ad 16)) hx hb hT hH 16 (by decide) rfl q797 rfl dX4_let_48 ?_
              refine lv_iload hx hb dX4_let_51 (lv_at hl 0 rfl) ?_
              refine lv_iconst (v := 3) hx hb dX4_let_53 (by decide) ?_
              refine lv_iadd hx hb dX4_let_54 ?_
              refine lv_as (nI_add (7 * k) 3) ?_
              refine mm_ild (v := σ.2 16 ((7 * k) + 3)) hx hb hT hH 16 (by decide) rfl ((7 * k) + 3) rfl (show (7 * k) + 3 < 420 by omega) rfl dX4_let_55 ?_
              refine lv_icmp_eq (tgt := 80) hx hb dX4_let_56 (by decide) (fun c_56 => ?_) (fun c_56 => ?_)
              · skip
                refine lv_iconst (v := 1) hx hb dX4_let_80 (by decide) ?_
                refine lv_goto (tgt := 85) hx hb dX4_let_81 (by decide) ?_
                refine lv_iconst (v := 3) hx hb dX4_let_85 (by decide) ?_
                refine mm_cVi (n := 2) (c_X4_throwsIf1 l (mm_st σ 0 0) 3) hx hb hml hT hH (lw_V q902 q904 qs13 q39 q905) (by decide +kernel) ⟨Nat.le_of_ble_eq_true rfl, Nat.le_of_ble_eq_true rfl⟩ rfl hl.1 rfl (Nat.le_of_ble_eq_true rfl) dX4_let_86 ⟨Nat.le_refl _, Nat.le_refl _⟩ (fun r_86 u_86 H locs hp_86 hH => ?_)
                obtain ⟨rfl, rfl⟩ := hp_86
                refine lv_if_eq (tgt := 93) hx hb dX4_let_89 (by decide) (fun c_89 => ?_) (fun c_89 => ?_)
                · skip
                  exact absurd c_89 (by decide)
                · skip
                  exact mm_rv hx hb hr hlocks hT hH dX4_let_92 (Or.inr ⟨k, hk, rfl, Or.inr ⟨h_21, Or.inl ⟨fun g => g.2.1 c_56, rfl⟩⟩⟩)
              · skip
                refine lv_iload_n hx hb dX4_let_59 rfl (lv_at hl 4 rfl) ?_
                refine lv_aload_n hx hb dX4_let_60 rfl (lv_at hl 1 rfl) ?_
                refine mm_get (v := .int (σ.1 4)) hx hb hT hH 4 (by decide) rfl q785 rfl dX4_let_61 ?_
                refine lv_icmp_lt (tgt := 80) hx hb dX4_let_64 (by decide) (fun c_64 => ?_) (fun c_64 => ?_)
                · skip
                  refine lv_iconst (v := 1) hx hb dX4_let_80 (by decide) ?_
                  refine lv_goto (tgt := 85) hx hb dX4_let_81 (by decide) ?_
                  refine lv_iconst (v := 3) hx hb dX4_let_85 (by decide) ?_
                  refine mm_cVi (n := 2) (c_X4_throwsIf1 l (mm_st σ 0 0) 3) hx hb hml hT hH (lw_V q902 q904 qs13 q39 q905) (by decide +kernel) ⟨Nat.le_of_ble_eq_true rfl, Nat.le_of_ble_eq_true rfl⟩ rfl hl.1 rfl (Nat.le_of_ble_eq_true rfl) dX4_let_86 ⟨Nat.le_refl _, Nat.le_refl _⟩ (fun r_86 u_86 H locs hp_86 hH => ?_)
                  obtain ⟨rfl, rfl⟩ := hp_86
                  refine lv_if_eq (tgt := 93) hx hb dX4_let_89 (by decide) (fun c_89 => ?_) (fun c_89 => ?_)
                  · skip
                    exact absurd c_89 (by decide)
                  · skip
                    exact mm_rv hx hb hr hlocks hT hH dX4_let_92 (Or.inr ⟨k, hk, rfl, Or.inr ⟨h_21, Or.inl ⟨fun g => absurd g.2.2.1 (Int32.not_le.mpr c_64), rfl⟩⟩⟩)
                · skip
                  refine lv_iload_n hx hb dX4_let_67 rfl (lv_at hl 4 rfl) ?_
                  refine lv_iload hx hb dX4_let_68 (lv_at hl 5 rfl) ?_
                  refine lv_icmp_ge (tgt := 80) hx hb dX4_let_70 (by decide) (fun c_70 => ?_) (fun c_70 => ?_)
                  · skip
                    refine lv_iconst (v := 1) hx hb dX4_let_80 (by decide) ?_
                    refine lv_goto (tgt := 85) hx hb dX4_let_81 (by decide) ?_
                    refine lv_iconst (v := 3) hx hb dX4_let_85 (by decide) ?_
                    refine mm_cVi (n := 2) (c_X4_throwsIf1 l (mm_st σ 0 0) 3) hx hb hml hT hH (lw_V q902 q904 qs13 q39 q905) (by decide +kernel) ⟨Nat.le_of_ble_eq_true rfl, Nat.le_of_ble_eq_true rfl⟩ rfl hl.1 rfl (Nat.le_of_ble_eq_true rfl) dX4_let_86 ⟨Nat.le_refl _, Nat.le_refl _⟩ (fun r_86 u_86 H locs hp_86 hH => ?_)
                    obtain ⟨rfl, rfl⟩ := hp_86
                    refine lv_if_eq (tgt := 93) hx hb dX4_let_89 (by decide) (fun c_89 => ?_) (fun c_89 => ?_)
                    · skip
                      exact absurd c_89 (by decide)
                    · skip
                      exact mm_rv hx hb hr hlocks hT hH dX4_let_92 (Or.inr ⟨k, hk, rfl, Or.inr ⟨h_21, Or.inl ⟨fun g => absurd g.2.2.2.1 (Int32.not_lt.mpr c_70), rfl⟩⟩⟩)
                  · skip
                    refine lv_iload hx hb dX4_let_73 (lv_at hl 5 rfl) ?_
                    refine lv_ldc (v := 100000000) hx hb hT.1 (hT.2.1 _ q1007) dX4_let_75 ?_
                    refine lv_icmp_le (tgt := 84) hx hb dX4_let_77 (by decide) (fun c_77 => ?_) (fun c_77 => ?_)
                    · skip
                      refine lv_iconst (v := 0) hx hb dX4_let_84 (by decide) ?_
                      refine lv_iconst (v := 3) hx hb dX4_let_85 (by decide) ?_
                      refine mm_cVi (n := 2) (c_X4_throwsIf0 l (mm_st σ 0 0) 3) hx hb hml hT hH (lw_V q902 q904 qs13 q39 q905) (by decide +kernel) ⟨Nat.le_of_ble_eq_true rfl, Nat.le_of_ble_eq_true rfl⟩ rfl hl.1 rfl (Nat.le_of_ble_eq_true rfl) dX4_let_86 ⟨Nat.le_refl _, Nat.le_refl _⟩ (fun r_86 u_86 H locs hp_86 hH => ?_)
                      obtain ⟨rfl, rfl⟩ := hp_86
                      refine lv_if_eq (tgt := 93) hx hb dX4_let_89 (by decide) (fun c_89 => ?_) (fun c_89 => ?_)
                      · skip
                        refine lv_aload_n hx hb dX4_let_93 rfl (lv_at hl 1 rfl) ?_
                        refine mm_get (v := .ref (ad 16)) hx hb hT hH 16 (by decide) rfl q797 rfl dX4_let_94 ?_
                        refine lv_iload hx hb dX4_let_97 (lv_at hl 0 rfl) ?_
                        refine lv_iconst (v := 4) hx hb dX4_let_99 (by decide) ?_
                        refine lv_iadd hx hb dX4_let_100 ?_
                        refine lv_as (nI_add (7 * k) 4) ?_
                        refine lv_iload_n hx hb dX4_let_101 rfl (lv_at hl 3 rfl) ?_
                        refine mm_ist hx hb hT hH 16 (by decide) rfl ((7 * k) + 4) rfl (show (7 * k) + 4 < 420 by omega) dX4_let_102 (fun H locs hH => ?_)
                        refine lv_aload_n hx hb dX4_let_103 rfl (lv_at hl 1 rfl) ?_
                        refine mm_get (v := .ref (ad 16)) hx hb hT hH 16 (by decide) rfl q797 rfl dX4_let_104 ?_
                        refine lv_iload hx hb dX4_let_107 (lv_at hl 0 rfl) ?_
                        refine lv_iconst (v := 5) hx hb dX4_let_109 (by decide) ?_
                        refine lv_iadd hx hb dX4_let_110 ?_
                        refine lv_as (nI_add (7 * k) 5) ?_
                        refine lv_iload_n hx hb dX4_let_111 rfl (lv_at hl 4 rfl) ?_
                        refine mm_ist hx hb hT hH 16 (by decide) rfl ((7 * k) + 5) rfl (show (7 * k) + 5 < 420 by omega) dX4_let_112 (fun H locs hH => ?_)
                        refine lv_aload_n hx hb dX4_let_113 rfl (lv_at hl 1 rfl) ?_
                        refine mm_get (v := .ref (ad 16)) hx hb hT hH 16 (by decide) rfl q797 rfl dX4_let_114 ?_
                        refine lv_iload hx hb dX4_let_117 (lv_at hl 0 rfl) ?_
                        refine lv_bipush (v := 6) hx hb dX4_let_119 (by decide) ?_
                        refine lv_iadd hx hb dX4_let_121 ?_
                        refine lv_as (nI_add (7 * k) 6) ?_
                        refine lv_iload hx hb dX4_let_122 (lv_at hl 5 rfl) ?_
                        refine mm_ist hx hb hT hH 16 (by decide) rfl ((7 * k) + 6) rfl (show (7 * k) + 6 < 420 by omega) dX4_let_124 (fun H locs hH => ?_)
                        exact mm_rv hx hb hr hlocks hT hH dX4_let_125 (Or.inr ⟨k, hk, rfl, Or.inr ⟨h_21, Or.inr ⟨⟨h_40, c_56, in_ge c_64, in_lt c_70, c_77⟩, rfl⟩⟩⟩)
                      · skip
                        exact absurd c_89 (by decide)
                    · skip
                      refine lv_iconst (v := 1) hx hb dX4_let_80 (by decide) ?_
                      refine lv_goto (tgt := 85) hx hb dX4_let_81 (by decide) ?_
                      refine lv_iconst (v := 3) hx hb dX4_let_85 (by decide) ?_
                      refine mm_cVi (n := 2) (c_X4_throwsIf1 l (mm_st σ 0 0) 3) hx hb hml hT hH (lw_V q902 q904 qs13 q39 q905) (by decide +kernel) ⟨Nat.le_of_ble_eq_true rfl, Nat.le_of_ble_eq_true rfl⟩ rfl hl.1 rfl (Nat.le_of_ble_eq_true rfl) dX4_let_86 ⟨Nat.le_refl _, Nat.le_refl _⟩ (fun r_86 u_86 H locs hp_86 hH => ?_)
                      obtain ⟨rfl, rfl⟩ := hp_86
                      refine lv_if_eq (tgt := 93) hx hb dX4_let_89 (by decide) (fun c_89 => ?_) (fun c_89 => ?_)
                      · skip
                        exact absurd c_89 (by decide)
                      · skip
                        exact mm_rv hx hb hr hlocks hT hH dX4_let_92 (Or.inr ⟨k, hk, rfl, Or.inr ⟨h_21, Or.inl ⟨fun g => c_77 g.2.2.2.2, rfl⟩⟩⟩)
        · skip
          exact absurd c_28 (by decide)
