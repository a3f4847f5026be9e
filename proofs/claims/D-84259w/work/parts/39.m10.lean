def pk4 (a b c d : Int32) (j : Nat) : Int32 := if j = 0 then a else if j = 1 then b else if j = 2 then c else d
theorem mm4 (τ : mS) (q : Nat) (a b c d : Int32) {j : Nat} (hj : j < 4) : (mm_ar (mm_ar (mm_ar (mm_ar τ q 0 a) q 1 b) q 2 c) q 3 d).2 q j = pk4 a b c d j := by
  rcases (show j = 0 ∨ j = 1 ∨ j = 2 ∨ j = 3 by omega) with rfl | rfl | rfl | rfl
  · rw [mm_ar_n (by decide), mm_ar_n (by decide), mm_ar_n (by decide), mm_ar_s]; rfl
  · rw [mm_ar_n (by decide), mm_ar_n (by decide), mm_ar_s]; rfl
  · rw [mm_ar_n (by decide), mm_ar_s]; rfl
  · rw [mm_ar_s]; rfl
def hOk (w p : Int32) : Prop := (0 ≤ w ∧ w ≤ 30) ∧ (1 ≤ p ∧ p ≤ 100)
def hGood (n4 : Nat) (wh pt : Nat → Int32) : Prop := ∀ j, j < n4 → hOk (wh j) (pt j)
def hPn (pt : Nat → Int32) (j : Nat) : Nat := (pt j).toNatClampNeg
def hLs (a : Nat) (P : Nat → Nat) (n4 : Nat) : Nat → Nat := hLn a (hSum P n4) P (a - hTot a (hSum P n4) P n4)
theorem hSt_cg (τ : mS) (k nS F : Nat) {wh wh2 : Nat → Int32} (Ln : Nat → Nat) : ∀ n, (∀ j, j < n → wh j = wh2 j) → hSt τ k nS F wh Ln n = hSt τ k nS F wh2 Ln n
  | 0, _ => rfl
  | n + 1, h => by rw [hSt, hSt, hSt_cg τ k nS F Ln n (fun j hj => h j (by omega)), h n (by omega)]
theorem hPn_ok {pt : Nat → Int32} {n4 : Nat} {wh : Nat → Int32} (h : hGood n4 wh pt) {j : Nat} (hj : j < n4) : pt j = nI (hPn pt j) ∧ 1 ≤ hPn pt j ∧ hPn pt j ≤ 100 := by
  obtain ⟨p, h1, h2, h3⟩ := in_rk (a := 1) (b := 100) (by decide) (pt j) (h j hj).2 (by decide)
  have e : hPn pt j = p := by rw [hPn, ← h3, nI_clamp (by omega)]
  rw [e]
  exact ⟨h3.symm, h1, h2⟩
theorem hSum_bd {P : Nat → Nat} {n : Nat} : ∀ m, m ≤ n → (∀ j, j < n → 1 ≤ P j ∧ P j ≤ 100) → m ≤ hSum P m ∧ hSum P m ≤ 100 * m
  | 0, _, _ => ⟨Nat.le_refl _, Nat.le_refl _⟩
  | m + 1, h, hp => by
    have h1 := hSum_bd m (by omega) hp
    have h2 := hp m (by omega)
    rw [hSum]
    omega

set_option maxHeartbeats 1000000 in
set_option maxRecDepth 100000 in
theorem c_X4_heirs (l : Launch) (σ : mS) (v x a pa b pb c1 pc1 d pd : Int32) {nS : Nat} (h17 : σ.1 17 = nI nS) (hS : nS ≤ 60) (hsh : ∀ k, k < nS → ∃ F T : Nat, σ.2 16 (7 * k + 1) = nI F ∧ σ.2 16 (7 * k + 2) = nI T ∧ F < T ∧ T ≤ 21600) : mm_Ci l yX4_heirs cX4_heirs 20 (some .int) 4 [.int v, .int x, .int a, .int pa, .int b, .int pb, .int c1, .int pc1, .int d, .int pd] σ (fun r u => ((¬ ∃ k, k < nS ∧ nI k = v) ∧ mm_st (mm_st σ 0 0) 0 1 = u ∧ 0 = r) ∨ ∃ k, k < nS ∧ nI k = v ∧ ((σ.1 4 < σ.2 16 (7 * k + 6) ∧ mm_st (mm_st σ 0 0) 0 2 = u ∧ 0 = r) ∨ (¬ σ.1 4 < σ.2 16 (7 * k + 6) ∧ (((¬ ∃ n4, (2 ≤ n4 ∧ n4 ≤ 4) ∧ nI n4 = x ∧ hGood n4 (pk4 a b c1 d) (pk4 pa pb pc1 pd)) ∧ ∃ τ, pSame3 τ (mm_st σ 0 0) ∧ mm_st τ 0 3 = u ∧ 0 = r) ∨ (∃ n4, (2 ≤ n4 ∧ n4 ≤ 4) ∧ nI n4 = x ∧ hGood n4 (pk4 a b c1 d) (pk4 pa pb pc1 pd) ∧ ∃ F T : Nat, (σ.2 16 (7 * k + 1) = nI F ∧ σ.2 16 (7 * k + 2) = nI T ∧ F < T ∧ T ≤ 21600) ∧ ∃ τ, pSame3 τ (mm_st σ 0 0) ∧ ((60 < nS + hPc (hLs (T - F) (hPn (pk4 pa pb pc1 pd)) n4) n4 - 1 ∧ mm_st τ 0 4 = u ∧ 0 = r) ∨ (nS + hPc (hLs (T - F) (hPn (pk4 pa pb pc1 pd)) n4) n4 - 1 ≤ 60 ∧ hSt τ k nS F (pk4 a b c1 d) (hLs (T - F) (hPn (pk4 pa pb pc1 pd)) n4) n4 = u ∧ nI (hPc (hLs (T - F) (hPn (pk4 pa pb pc1 pd)) n4) n4) = r))))))) := by
  refine mm_ofi (by decide) rfl (Nat.le_of_ble_eq_true rfl) ?_
  intro p e s m args below meth c G A ad ls X hH hl
  obtain ⟨hx, hb, hml, hT, hr, hlocks⟩ := id X
  have hl : lv_has ls 20 [(0, .ref (ad 0)), (1, .int v), (2, .int x), (3, .int a), (4, .int pa), (5, .int b), (6, .int pb), (7, .int c1), (8, .int pc1), (9, .int d), (10, .int pd)] := hl
  refine lv_aload_n hx hb dX4_heirs_0 rfl (lv_at hl 0 rfl) ?_
  refine lv_iconst (v := 0) hx hb dX4_heirs_1 (by decide) ?_
  refine mm_put hx hb hT hH 0 (by decide) (by decide) rfl rfl q781 rfl dX4_heirs_2 (fun H locs hH => ?_)
  refine lv_aload_n hx hb dX4_heirs_5 rfl (lv_at hl 0 rfl) ?_
  refine lv_aload_n hx hb dX4_heirs_6 rfl (lv_at hl 0 rfl) ?_
  refine lv_iload_n hx hb dX4_heirs_7 rfl (lv_at hl 1 rfl) ?_
  refine mm_cVi (n := 1) (c_X4_noShare l (mm_st σ 0 0) v (nS := nS) h17 hS) hx hb hml hT hH (lw_V q988 q990 qs23 q39 q991) (by decide +kernel) ⟨Nat.le_of_ble_eq_true rfl, Nat.le_of_ble_eq_true rfl⟩ rfl hl.1 rfl (Nat.le_of_ble_eq_true rfl) dX4_heirs_8 ⟨Nat.le_refl _, Nat.le_refl _⟩ (fun r_8 u_8 H locs hp_8 hH => ?_)
  obtain ⟨rfl, hp_8⟩ := hp_8
  rcases hp_8 with ⟨rfl, h_8⟩ | ⟨rfl, h_8⟩
  · skip
    refine lv_iconst (v := 1) hx hb dX4_heirs_11 (by decide) ?_
    refine mm_cVi (n := 2) (c_X4_throwsIf1 l (mm_st σ 0 0) 1) hx hb hml hT hH (lw_V q902 q904 qs13 q39 q905) (by decide +kernel) ⟨Nat.le_of_ble_eq_true rfl, Nat.le_of_ble_eq_true rfl⟩ rfl hl.1 rfl (Nat.le_of_ble_eq_true rfl) dX4_heirs_12 ⟨Nat.le_refl _, Nat.le_refl _⟩ (fun r_12 u_12 H locs hp_12 hH => ?_)
    obtain ⟨rfl, rfl⟩ := hp_12
    refine lv_if_ne (tgt := 31) hx hb dX4_heirs_15 (by decide) (fun c_15 => ?_) (fun c_15 => ?_)
    · skip
      refine lv_iconst (v := 0) hx hb dX4_heirs_31 (by decide) ?_
      exact mm_ri hx hb hr hlocks hT hH rfl dX4_heirs_32 (Or.inl ⟨h_8, rfl, rfl⟩)
    · skip
      exact absurd c_15 (by decide)
  · skip
    obtain ⟨k, hk, rfl⟩ := h_8
    refine lv_iconst (v := 1) hx hb dX4_heirs_11 (by decide) ?_
    refine mm_cVi (n := 2) (c_X4_throwsIf0 l (mm_st σ 0 0) 1) hx hb hml hT hH (lw_V q902 q904 qs13 q39 q905) (by decide +kernel) ⟨Nat.le_of_ble_eq_true rfl, Nat.le_of_ble_eq_true rfl⟩ rfl hl.1 rfl (Nat.le_of_ble_eq_true rfl) dX4_heirs_12 ⟨Nat.le_refl _, Nat.le_refl _⟩ (fun r_12 u_12 H locs hp_12 hH => ?_)
    obtain ⟨rfl, rfl⟩ := hp_12
    refine lv_if_ne (tgt := 31) hx hb dX4_heirs_15 (by decide) (fun c_15 => ?_) (fun c_15 => ?_)
    · skip
      exact absurd c_15 (by decide)
    · skip
      refine lv_aload_n hx hb dX4_heirs_18 rfl (lv_at hl 0 rfl) ?_
      refine lv_aload_n hx hb dX4_heirs_19 rfl (lv_at hl 0 rfl) ?_
      refine lv_iload_n hx hb dX4_heirs_20 rfl (lv_at hl 1 rfl) ?_
      refine mm_cVi (n := 1) (c_X4_isLet l (mm_st σ 0 0) k (by omega)) hx hb hml hT hH (lw_V q992 q994 qs24 q39 q995) (by decide +kernel) ⟨Nat.le_of_ble_eq_true rfl, Nat.le_of_ble_eq_true rfl⟩ rfl hl.1 rfl (Nat.le_of_ble_eq_true rfl) dX4_heirs_21 ⟨Nat.le_refl _, Nat.le_refl _⟩ (fun r_21 u_21 H locs hp_21 hH => ?_)
      obtain ⟨rfl, hp_21⟩ := hp_21
      rcases hp_21 with ⟨rfl, h_21⟩ | ⟨rfl, h_21⟩
      · skip
        refine lv_iconst (v := 2) hx hb dX4_heirs_24 (by decide) ?_
        refine mm_cVi (n := 2) (c_X4_throwsIf1 l (mm_st σ 0 0) 2) hx hb hml hT hH (lw_V q902 q904 qs13 q39 q905) (by decide +kernel) ⟨Nat.le_of_ble_eq_true rfl, Nat.le_of_ble_eq_true rfl⟩ rfl hl.1 rfl (Nat.le_of_ble_eq_true rfl) dX4_heirs_25 ⟨Nat.le_refl _, Nat.le_refl _⟩ (fun r_25 u_25 H locs hp_25 hH => ?_)
        obtain ⟨rfl, rfl⟩ := hp_25
        refine lv_if_eq (tgt := 33) hx hb dX4_heirs_28 (by decide) (fun c_28 => ?_) (fun c_28 => ?_)
        · skip
          exact absurd c_28 (by decide)
        · skip
          refine lv_iconst (v := 0) hx hb dX4_heirs_31 (by decide) ?_
          exact mm_ri hx hb hr hlocks hT hH rfl dX4_heirs_32 (Or.inr ⟨k, hk, rfl, Or.inl ⟨h_21, rfl, rfl⟩⟩)
      · skip
        refine lv_iconst (v := 2) hx hb dX4_heirs_24 (by decide) ?_
        refine mm_cVi (n := 2) (c_X4_throwsIf0 l (mm_st σ 0 0) 2) hx hb hml hT hH (lw_V q902 q904 qs13 q39 q905) (by decide +kernel) ⟨Nat.le_of_ble_eq_true rfl, Nat.le_of_ble_eq_true rfl⟩ rfl hl.1 rfl (Nat.le_of_ble_eq_true rfl) dX4_heirs_25 ⟨Nat.le_refl _, Nat.le_refl _⟩ (fun r_25 u_25 H locs hp_25 hH => ?_)
        obtain ⟨rfl, rfl⟩ := hp_25
        refine lv_if_eq (tgt := 33) hx hb dX4_heirs_28 (by decide) (fun c_28 => ?_) (fun c_28 => ?_)
        · skip
          refine lv_aload_n hx hb dX4_heirs_33 rfl (lv_at hl 0 rfl) ?_
          refine mm_get (v := .ref (ad 18)) hx hb hT hH 18 (by decide) rfl q799 rfl dX4_heirs_34 ?_
          refine lv_iconst (v := 0) hx hb dX4_heirs_37 (by decide) ?_
          refine lv_iload_n hx hb dX4_heirs_38 rfl (lv_at hl 3 rfl) ?_
          refine mm_ist hx hb hT hH 18 (by decide) rfl 0 rfl (show 0 < 4 by omega) dX4_heirs_39 (fun H locs hH => ?_)
          refine lv_aload_n hx hb dX4_heirs_40 rfl (lv_at hl 0 rfl) ?_
          refine mm_get (v := .ref (ad 18)) hx hb hT hH 18 (by decide) rfl q799 rfl dX4_heirs_41 ?_
          refine lv_iconst (v := 1) hx hb dX4_heirs_44 (by decide) ?_
          refine lv_iload hx hb dX4_heirs_45 (lv_at hl 5 rfl) ?_
          refine mm_ist hx hb hT hH 18 (by decide) rfl 1 rfl (show 1 < 4 by omega) dX4_heirs_47 (fun H locs hH => ?_)
          refine lv_aload_n hx hb dX4_heirs_48 rfl (lv_at hl 0 rfl) ?_
          refine mm_get (v := .ref (ad 18)) hx hb hT hH 18 (by decide) rfl q799 rfl dX4_heirs_49 ?_
          refine lv_iconst (v := 2) hx hb dX4_heirs_52 (by decide) ?_
          refine lv_iload hx hb dX4_heirs_53 (lv_at hl 7 rfl) ?_
          refine mm_ist hx hb hT hH 18 (by decide) rfl 2 rfl (show 2 < 4 by omega) dX4_heirs_55 (fun H locs hH => ?_)
          refine lv_aload_n hx hb dX4_heirs_56 rfl (lv_at hl 0 rfl) ?_
          refine mm_get (v := .ref (ad 18)) hx hb hT hH 18 (by decide) rfl q799 rfl dX4_heirs_57 ?_
          refine lv_iconst (v := 3) hx hb dX4_heirs_60 (by decide) ?_
          refine lv_iload hx hb dX4_heirs_61 (lv_at hl 9 rfl) ?_
          refine mm_ist hx hb hT hH 18 (by decide) rfl 3 rfl (show 3 < 4 by omega) dX4_heirs_63 (fun H locs hH => ?_)
          refine lv_aload_n hx hb dX4_heirs_64 rfl (lv_at hl 0 rfl) ?_
          refine mm_get (v := .ref (ad 19)) hx hb hT hH 19 (by decide) rfl q800 rfl dX4_heirs_65 ?_
          refine lv_iconst (v := 0) hx hb dX4_heirs_68 (by decide) ?_
          refine lv_iload hx hb dX4_heirs_69 (lv_at hl 4 rfl) ?_
          refine mm_ist hx hb hT hH 19 (by decide) rfl 0 rfl (show 0 < 4 by omega) dX4_heirs_71 (fun H locs hH => ?_)
          refine lv_aload_n hx hb dX4_heirs_72 rfl (lv_at hl 0 rfl) ?_
          refine mm_get (v := .ref (ad 19)) hx hb hT hH 19 (by decide) rfl q800 rfl dX4_heirs_73 ?_
          refine lv_iconst (v := 1) hx hb dX4_heirs_76 (by decide) ?_
          refine lv_iload hx hb dX4_heirs_77 (lv_at hl 6 rfl) ?_
          refine mm_ist hx hb hT hH 19 (by decide) rfl 1 rfl (show 1 < 4 by omega) dX4_heirs_79 (fun H locs hH => ?_)
          refine lv_aload_n hx hb dX4_heirs_80 rfl (lv_at hl 0 rfl) ?_
          refine mm_get (v := .ref (ad 19)) hx hb hT hH 19 (by decide) rfl q800 rfl dX4_heirs_81 ?_
          refine lv_iconst (v := 2) hx hb dX4_heirs_84 (by decide) ?_
          refine lv_iload hx hb dX4_heirs_85 (lv_at hl 8 rfl) ?_
          refine mm_ist hx hb hT hH 19 (by decide) rfl 2 rfl (show 2 < 4 by omega) dX4_heirs_87 (fun H locs hH => ?_)
          refine lv_aload_n hx hb dX4_heirs_88 rfl (lv_at hl 0 rfl) ?_
          refine mm_get (v := .ref (ad 19)) hx hb hT hH 19 (by decide) rfl q800 rfl dX4_heirs_89 ?_
          refine lv_iconst (v := 3) hx hb dX4_heirs_92 (by decide) ?_
          refine lv_iload hx hb dX4_heirs_93 (lv_at hl 10 rfl) ?_
          refine mm_ist hx hb hT hH 19 (by decide) rfl 3 rfl (show 3 < 4 by omega) dX4_heirs_95 (fun H locs hH => ?_)
          refine lv_iload_n hx hb dX4_heirs_96 rfl (lv_at hl 2 rfl) ?_
          refine lv_iconst (v := 2) hx hb dX4_heirs_97 (by decide) ?_
          refine lv_iconst (v := 4) hx hb dX4_heirs_98 (by decide) ?_
          refine ss_ci (n := 3) (c_X4_in l x 2 4) hx hb hml hT.1 hT.2.1 (lw_S q899 q900 q39 q901) (by decide +kernel) ⟨Nat.le_of_ble_eq_true rfl, Nat.le_of_ble_eq_true rfl⟩ rfl hl.1 rfl (Nat.le_of_ble_eq_true rfl) dX4_heirs_99 ⟨Nat.le_refl _, Nat.le_refl _⟩ (fun r_99 hp_99 => ?_)
          rcases hp_99 with ⟨rfl, h_99⟩ | ⟨rfl, h_99⟩
          · skip
            obtain ⟨n4, h42, h44, rfl⟩ := in_rk (a := 2) (b := 4) (by decide) x h_99 (by decide)
            refine lv_istore (lv' := [(11, .int 1), (0, .ref (ad 0)), (1, .int (nI k)), (2, .int (nI n4)), (3, .int a), (4, .int pa), (5, .int b), (6, .int pb), (7, .int c1), (8, .int pc1), (9, .int d), (10, .int pd)]) hx hb dX4_heirs_102 hl (by decide) rfl (fun ls hl => ?_)
            refine lv_iconst (v := 0) hx hb dX4_heirs_104 (by decide) ?_
            refine lv_istore (lv' := [(12, .int 0), (11, .int 1), (0, .ref (ad 0)), (1, .int (nI k)), (2, .int (nI n4)), (3, .int a), (4, .int pa), (5, .int b), (6, .int pb), (7, .int c1), (8, .int pc1), (9, .int d), (10, .int pd)]) hx hb dX4_heirs_105 hl (by decide) rfl (fun ls hl => ?_)
            have e18 : ∀ j, j < 4 → (mm_ar (mm_ar (mm_ar (mm_ar (mm_ar (mm_ar (mm_ar (mm_ar (mm_st σ 0 0) 18 0 a) 18 1 b) 18 2 c1) 18 3 d) 19 0 pa) 19 1 pb) 19 2 pc1) 19 3 pd).2 18 j = (pk4 a b c1 d) j := fun j hj => mm4 _ 18 a b c1 d hj
            have e19 : ∀ j, j < 4 → (mm_ar (mm_ar (mm_ar (mm_ar (mm_ar (mm_ar (mm_ar (mm_ar (mm_st σ 0 0) 18 0 a) 18 1 b) 18 2 c1) 18 3 d) 19 0 pa) 19 1 pb) 19 2 pc1) 19 3 pd).2 19 j = (pk4 pa pb pc1 pd) j := fun j hj => mm4 _ 19 pa pb pc1 pd hj
            refine lp_X4_heirs1 (mm_ar (mm_ar (mm_ar (mm_ar (mm_ar (mm_ar (mm_ar (mm_ar (mm_st σ 0 0) 18 0 a) 18 1 b) 18 2 c1) 18 3 d) 19 0 pa) 19 1 pb) 19 2 pc1) 19 3 pd) k n4 h44 X ?_ ?_ (n4 + 1) 0 (by omega) (Nat.zero_le _) (fun j hj => absurd hj (Nat.not_lt_zero j)) _ _ _ hH (lv_sub hl [2, 3, 4, 1, 0] rfl)
            · intro H locs ls hall hH hl
              have hg : hGood n4 (pk4 a b c1 d) (pk4 pa pb pc1 pd) := fun j hj => by have h := hall j hj; rw [e18 j (by omega), e19 j (by omega)] at h; exact h
              obtain ⟨F, T, hF, hT2, hFT, hTb⟩ := hsh k hk
              refine lv_aload_n hx hb dX4_heirs_160 rfl (lv_at hl 0 rfl) ?_
              refine lv_iload hx hb dX4_heirs_161 (lv_at hl 3 rfl) ?_
              refine lv_if_ne (tgt := 170) hx hb dX4_heirs_163 (by decide) (fun c_163 => ?_) (fun c_163 => ?_)
              · skip
                refine lv_iconst (v := 0) hx hb dX4_heirs_170 (by decide) ?_
                refine lv_iconst (v := 3) hx hb dX4_heirs_171 (by decide) ?_
                refine mm_cVi (n := 2) (c_X4_throwsIf0 l (mm_ar (mm_ar (mm_ar (mm_ar (mm_ar (mm_ar (mm_ar (mm_ar (mm_st σ 0 0) 18 0 a) 18 1 b) 18 2 c1) 18 3 d) 19 0 pa) 19 1 pb) 19 2 pc1) 19 3 pd) 3) hx hb hml hT hH (lw_V q902 q904 qs13 q39 q905) (by decide +kernel) ⟨Nat.le_of_ble_eq_true rfl, Nat.le_of_ble_eq_true rfl⟩ rfl hl.1 rfl (Nat.le_of_ble_eq_true rfl) dX4_heirs_172 ⟨Nat.le_refl _, Nat.le_refl _⟩ (fun r_172 u_172 H locs hp_172 hH => ?_)
                obtain ⟨rfl, rfl⟩ := hp_172
                refine lv_if_eq (tgt := 180) hx hb dX4_heirs_175 (by decide) (fun c_175 => ?_) (fun c_175 => ?_)
                · skip
                  refine lv_bipush (v := 7) hx hb dX4_heirs_180 (by decide) ?_
                  refine lv_iload_n hx hb dX4_heirs_182 rfl (lv_at hl 1 rfl) ?_
                  refine lv_imul hx hb dX4_heirs_183 ?_
                  refine lv_as (pk_mul 7 k) ?_
                  refine lv_istore (lv' := [(12, .int (nI (7 * k))), (0, .ref (ad 0)), (1, .int (nI k)), (2, .int (nI n4)), (11, .int 1)]) hx hb dX4_heirs_184 hl (by decide) rfl (fun ls hl => ?_)
                  refine lv_aload_n hx hb dX4_heirs_186 rfl (lv_at hl 1 rfl) ?_
                  refine mm_get (v := .ref (ad 16)) hx hb hT hH 16 (by decide) rfl q797 rfl dX4_heirs_187 ?_
                  refine lv_iload hx hb dX4_heirs_190 (lv_at hl 0 rfl) ?_
                  refine lv_iconst (v := 1) hx hb dX4_heirs_192 (by decide) ?_
                  refine lv_iadd hx hb dX4_heirs_193 ?_
                  refine lv_as (nI_add (7 * k) 1) ?_
                  refine mm_ild (v := nI F) hx hb hT hH 16 (by decide) rfl ((7 * k) + 1) rfl (show (7 * k) + 1 < 420 by omega) hF dX4_heirs_194 ?_
                  refine lv_istore (lv' := [(13, .int (nI F)), (12, .int (nI (7 * k))), (0, .ref (ad 0)), (1, .int (nI k)), (2, .int (nI n4)), (11, .int 1)]) hx hb dX4_heirs_195 hl (by decide) rfl (fun ls hl => ?_)
                  refine lv_aload_n hx hb dX4_heirs_197 rfl (lv_at hl 2 rfl) ?_
                  refine mm_get (v := .ref (ad 16)) hx hb hT hH 16 (by decide) rfl q797 rfl dX4_heirs_198 ?_
                  refine lv_iload hx hb dX4_heirs_201 (lv_at hl 1 rfl) ?_
                  refine lv_iconst (v := 2) hx hb dX4_heirs_203 (by decide) ?_
                  refine lv_iadd hx hb dX4_heirs_204 ?_
                  refine lv_as (nI_add (7 * k) 2) ?_
                  refine mm_ild (v := nI T) hx hb hT hH 16 (by decide) rfl ((7 * k) + 2) rfl (show (7 * k) + 2 < 420 by omega) hT2 dX4_heirs_205 ?_
                  refine lv_iload hx hb dX4_heirs_206 (lv_at hl 0 rfl) ?_
                  refine lv_isub hx hb dX4_heirs_208 ?_
                  refine lv_as (z := nI (T - F)) (pk_sub (by omega)) ?_
                  refine lv_istore (lv' := [(14, .int (nI (T - F))), (13, .int (nI F)), (12, .int (nI (7 * k))), (0, .ref (ad 0)), (1, .int (nI k)), (2, .int (nI n4)), (11, .int 1)]) hx hb dX4_heirs_209 hl (by decide) rfl (fun ls hl => ?_)
                  refine lv_iconst (v := 0) hx hb dX4_heirs_211 (by decide) ?_
                  refine lv_istore (lv' := [(15, .int 0), (14, .int (nI (T - F))), (13, .int (nI F)), (12, .int (nI (7 * k))), (0, .ref (ad 0)), (1, .int (nI k)), (2, .int (nI n4)), (11, .int 1)]) hx hb dX4_heirs_212 hl (by decide) rfl (fun ls hl => ?_)
                  refine lv_iconst (v := 0) hx hb dX4_heirs_214 (by decide) ?_
                  refine lv_istore (lv' := [(16, .int 0), (15, .int 0), (14, .int (nI (T - F))), (13, .int (nI F)), (12, .int (nI (7 * k))), (0, .ref (ad 0)), (1, .int (nI k)), (2, .int (nI n4)), (11, .int 1)]) hx hb dX4_heirs_215 hl (by decide) rfl (fun ls hl => ?_)
                  have hPk : ∀ j, j < n4 → (mm_ar (mm_ar (mm_ar (mm_ar (mm_ar (mm_ar (mm_ar (mm_ar (mm_st σ 0 0) 18 0 a) 18 1 b) 18 2 c1) 18 3 d) 19 0 pa) 19 1 pb) 19 2 pc1) 19 3 pd).2 19 j = nI ((hPn (pk4 pa pb pc1 pd)) j) ∧ 1 ≤ (hPn (pk4 pa pb pc1 pd)) j ∧ (hPn (pk4 pa pb pc1 pd)) j ≤ 100 := fun j hj => by rw [e19 j (by omega)]; exact hPn_ok hg hj
                  have hbd := hSum_bd (P := (hPn (pk4 pa pb pc1 pd))) n4 (Nat.le_refl _) (fun j hj => (hPk j hj).2)
                  refine lp_X4_heirs2 (mm_ar (mm_ar (mm_ar (mm_ar (mm_ar (mm_ar (mm_ar (mm_ar (mm_st σ 0 0) 18 0 a) 18 1 b) 18 2 c1) 18 3 d) 19 0 pa) 19 1 pb) 19 2 pc1) 19 3 pd) k n4 h44 F (T - F) (hPn (pk4 pa pb pc1 pd)) hPk X ?_ (n4 + 1) 0 (by omega) (Nat.zero_le _) _ _ _ hH (lv_sub hl [5, 6, 7, 4, 3, 2, 1, 0] rfl)
                  intro H locs ls hH hl
                  refine lv_iload hx hb dX4_heirs_241 (lv_at hl 5 rfl) ?_
                  refine lv_istore (lv' := [(16, .int (nI (T - F))), (0, .ref (ad 0)), (1, .int (nI k)), (2, .int (nI n4)), (12, .int (nI (7 * k))), (13, .int (nI F)), (14, .int (nI (T - F))), (15, .int (nI (hSum (hPn (pk4 pa pb pc1 pd)) n4)))]) hx hb dX4_heirs_243 hl (by decide) rfl (fun ls hl => ?_)
                  refine lv_iconst (v := 0) hx hb dX4_heirs_245 (by decide) ?_
                  refine lv_istore (lv' := [(17, .int 0), (16, .int (nI (T - F))), (0, .ref (ad 0)), (1, .int (nI k)), (2, .int (nI n4)), (12, .int (nI (7 * k))), (13, .int (nI F)), (14, .int (nI (T - F))), (15, .int (nI (hSum (hPn (pk4 pa pb pc1 pd)) n4)))]) hx hb dX4_heirs_246 hl (by decide) rfl (fun ls hl => ?_)
                  refine lp_X4_heirs3 (mm_ar (mm_ar (mm_ar (mm_ar (mm_ar (mm_ar (mm_ar (mm_ar (mm_st σ 0 0) 18 0 a) 18 1 b) 18 2 c1) 18 3 d) 19 0 pa) 19 1 pb) 19 2 pc1) 19 3 pd) k n4 h44 F (T - F) (hPn (pk4 pa pb pc1 pd)) hPk (hSum (hPn (pk4 pa pb pc1 pd)) n4) (by omega) (Nat.le_refl _) (by omega) (by omega) X ?_ (n4 + 1) 0 (mm_ar (mm_ar (mm_ar (mm_ar (mm_ar (mm_ar (mm_ar (mm_ar (mm_st σ 0 0) 18 0 a) 18 1 b) 18 2 c1) 18 3 d) 19 0 pa) 19 1 pb) 19 2 pc1) 19 3 pd) (by omega) (Nat.zero_le _) ⟨rfl, fun j hj => rfl⟩ (fun j hj => absurd hj (Nat.not_lt_zero j)) _ _ _ hH (lv_sub hl [2, 3, 4, 5, 6, 7, 8, 1, 0] rfl)
                  intro τ3 hτ3 hlo3 H locs ls hH hl
                  refine lv_iconst (v := 0) hx hb dX4_heirs_292 (by decide) ?_
                  refine lv_istore (lv' := [(17, .int 0), (0, .ref (ad 0)), (1, .int (nI k)), (2, .int (nI n4)), (12, .int (nI (7 * k))), (13, .int (nI F)), (14, .int (nI (T - F))), (15, .int (nI (hSum (hPn (pk4 pa pb pc1 pd)) n4))), (16, .int (nI ((T - F) - hTot (T - F) (hSum (hPn (pk4 pa pb pc1 pd)) n4) (hPn (pk4 pa pb pc1 pd)) n4)))]) hx hb dX4_heirs_293 hl (by decide) rfl (fun ls hl => ?_)
                  refine lv_iconst (v := 0) hx hb dX4_heirs_295 (by decide) ?_
                  refine lv_istore (lv' := [(18, .int 0), (17, .int 0), (0, .ref (ad 0)), (1, .int (nI k)), (2, .int (nI n4)), (12, .int (nI (7 * k))), (13, .int (nI F)), (14, .int (nI (T - F))), (15, .int (nI (hSum (hPn (pk4 pa pb pc1 pd)) n4))), (16, .int (nI ((T - F) - hTot (T - F) (hSum (hPn (pk4 pa pb pc1 pd)) n4) (hPn (pk4 pa pb pc1 pd)) n4)))]) hx hb dX4_heirs_296 hl (by decide) rfl (fun ls hl => ?_)
                  have hq : ∀ j, j < n4 → (T - F) * (hPn (pk4 pa pb pc1 pd)) j / (hSum (hPn (pk4 pa pb pc1 pd)) n4) ≤ 21600 * 100 := fun j hj => Nat.le_trans (Nat.div_le_self _ _) (Nat.mul_le_mul (by omega) (hPk j hj).2.2)
                  refine lp_X4_heirs4 τ3 k n4 h44 F (T - F) (hPn (pk4 pa pb pc1 pd)) (hSum (hPn (pk4 pa pb pc1 pd)) n4) ((T - F) - hTot (T - F) (hSum (hPn (pk4 pa pb pc1 pd)) n4) (hPn (pk4 pa pb pc1 pd)) n4) (fun j hj => by have := hq j hj; omega) (by omega) X ?_ (n4 + 1) 0 τ3 (by omega) (Nat.zero_le _) ⟨rfl, fun j hj => rfl⟩ (fun j hj => absurd hj (Nat.not_lt_zero j)) (fun j _ hj => hlo3 j hj) _ _ _ hH (lv_sub hl [2, 3, 4, 5, 6, 9, 1, 0] rfl)
                  intro τ4 hτ4 hlo4 H locs ls hH hl
                  have hs3 : pSame3 τ4 (mm_st σ 0 0) := ⟨hτ4.1.trans hτ3.1, fun j h1 h2 h3 => (hτ4.2 j h3).trans ((hτ3.2 j h3).trans (by rw [mm_ar_o h2, mm_ar_o h2, mm_ar_o h2, mm_ar_o h2, mm_ar_o h1, mm_ar_o h1, mm_ar_o h1, mm_ar_o h1]))⟩
                  have h174 : τ4.1 17 = nI nS := (congrFun hs3.1 17).trans h17
                  have hpc := hPc_le (hLs (T - F) (hPn (pk4 pa pb pc1 pd)) n4) n4
                  refine lv_aload_n hx hb dX4_heirs_352 rfl (lv_at hl 0 rfl) ?_
                  refine lv_aload_n hx hb dX4_heirs_353 rfl (lv_at hl 0 rfl) ?_
                  refine mm_get (v := .int (τ4.1 17)) hx hb hT hH 17 (by decide) rfl q798 rfl dX4_heirs_354 ?_
                  refine lv_as h174 ?_
                  refine lv_iload hx hb dX4_heirs_357 (lv_at hl 5 rfl) ?_
                  refine lv_iadd hx hb dX4_heirs_359 ?_
                  refine lv_as (nI_add nS (hPc (hLs (T - F) (hPn (pk4 pa pb pc1 pd)) n4) n4)) ?_
                  refine lv_iconst (v := 1) hx hb dX4_heirs_360 (by decide) ?_
                  refine lv_isub hx hb dX4_heirs_361 ?_
                  refine lv_as (z := nI (nS + hPc (hLs (T - F) (hPn (pk4 pa pb pc1 pd)) n4) n4 - 1)) (pk_sub (a := nS + hPc (hLs (T - F) (hPn (pk4 pa pb pc1 pd)) n4) n4) (b := 1) (by omega)) ?_
                  refine lv_bipush (v := 60) hx hb dX4_heirs_362 (by decide) ?_
                  refine lv_icmp_le (tgt := 371) hx hb dX4_heirs_364 (by decide) (fun c_364 => ?_) (fun c_364 => ?_)
                  · skip
                    have c_364 : (nS + hPc (hLs (T - F) (hPn (pk4 pa pb pc1 pd)) n4) n4 - 1) ≤ 60 := (nI_leI (a := (nS + hPc (hLs (T - F) (hPn (pk4 pa pb pc1 pd)) n4) n4 - 1)) (b := 60) (by omega) (by omega)).mp c_364
                    refine lv_iconst (v := 0) hx hb dX4_heirs_371 (by decide) ?_
                    refine lv_iconst (v := 4) hx hb dX4_heirs_372 (by decide) ?_
                    refine mm_cVi (n := 2) (c_X4_throwsIf0 l τ4 4) hx hb hml hT hH (lw_V q902 q904 qs13 q39 q905) (by decide +kernel) ⟨Nat.le_of_ble_eq_true rfl, Nat.le_of_ble_eq_true rfl⟩ rfl hl.1 rfl (Nat.le_of_ble_eq_true rfl) dX4_heirs_373 ⟨Nat.le_refl _, Nat.le_refl _⟩ (fun r_373 u_373 H locs hp_373 hH => ?_)
                    obtain ⟨rfl, rfl⟩ := hp_373
                    refine lv_if_eq (tgt := 381) hx hb dX4_heirs_376 (by decide) (fun c_376 => ?_) (fun c_376 => ?_)
                    · skip
                      refine lv_iconst (v := 1) hx hb dX4_heirs_381 (by decide) ?_
                      refine lv_istore (lv' := [(18, .int 1), (0, .ref (ad 0)), (1, .int (nI k)), (2, .int (nI n4)), (12, .int (nI (7 * k))), (13, .int (nI F)), (17, .int (nI (hPc (hLs (T - F) (hPn (pk4 pa pb pc1 pd)) n4) n4)))]) hx hb dX4_heirs_382 hl (by decide) rfl (fun ls hl => ?_)
                      refine lv_iconst (v := 0) hx hb dX4_heirs_384 (by decide) ?_
                      refine lv_istore (lv' := [(19, .int 0), (18, .int 1), (0, .ref (ad 0)), (1, .int (nI k)), (2, .int (nI n4)), (12, .int (nI (7 * k))), (13, .int (nI F)), (17, .int (nI (hPc (hLs (T - F) (hPn (pk4 pa pb pc1 pd)) n4) n4)))]) hx hb dX4_heirs_385 hl (by decide) rfl (fun ls hl => ?_)
                      refine lp_X4_heirs5 τ4 k n4 h44 F nS (by omega) hk h174 (hLs (T - F) (hPn (pk4 pa pb pc1 pd)) n4) hlo4 (fun j hj => ?_) (hPc (hLs (T - F) (hPn (pk4 pa pb pc1 pd)) n4) n4) (by omega) X ?_ (n4 + 1) 0 1 (by omega) (Nat.zero_le _) (Or.inl ⟨rfl, rfl⟩) _ _ _ hH (lv_sub hl [2, 3, 4, 5, 6, 7, 1, 0] rfl)
                      · have := hq j hj
                        show (T - F) * (hPn (pk4 pa pb pc1 pd)) j / (hSum (hPn (pk4 pa pb pc1 pd)) n4) + (if j < ((T - F) - hTot (T - F) (hSum (hPn (pk4 pa pb pc1 pd)) n4) (hPn (pk4 pa pb pc1 pd)) n4) then 1 else 0) < 100000000
                        split <;> omega
                      · intro H locs ls hH hl
                        rw [hSt_cg τ4 k nS F (hLs (T - F) (hPn (pk4 pa pb pc1 pd)) n4) n4 (wh2 := (pk4 a b c1 d)) (fun j hj => by rw [hτ4.2 18 (by decide), hτ3.2 18 (by decide)]; exact e18 j (by omega))] at hH
                        refine lv_iload hx hb dX4_heirs_489 (lv_at hl 0 rfl) ?_
                        exact mm_ri hx hb hr hlocks hT hH rfl dX4_heirs_491 (Or.inr ⟨k, hk, rfl, Or.inr ⟨h_21, Or.inr ⟨n4, ⟨h42, h44⟩, rfl, hg, F, T, ⟨hF, hT2, hFT, hTb⟩, τ4, hs3, Or.inr ⟨by omega, rfl, rfl⟩⟩⟩⟩)
                    · skip
                      exact absurd c_376 (by decide)
                  · skip
                    have c_364 : ¬ ((nS + hPc (hLs (T - F) (hPn (pk4 pa pb pc1 pd)) n4) n4 - 1) ≤ 60) := fun h => c_364 ((nI_leI (a := (nS + hPc (hLs (T - F) (hPn (pk4 pa pb pc1 pd)) n4) n4 - 1)) (b := 60) (by omega) (by omega)).mpr h)
                    refine lv_iconst (v := 1) hx hb dX4_heirs_367 (by decide) ?_
                    refine lv_goto (tgt := 372) hx hb dX4_heirs_368 (by decide) ?_
                    refine lv_iconst (v := 4) hx hb dX4_heirs_372 (by decide) ?_
                    refine mm_cVi (n := 2) (c_X4_throwsIf1 l τ4 4) hx hb hml hT hH (lw_V q902 q904 qs13 q39 q905) (by decide +kernel) ⟨Nat.le_of_ble_eq_true rfl, Nat.le_of_ble_eq_true rfl⟩ rfl hl.1 rfl (Nat.le_of_ble_eq_true rfl) dX4_heirs_373 ⟨Nat.le_refl _, Nat.le_refl _⟩ (fun r_373 u_373 H locs hp_373 hH => ?_)
                    obtain ⟨rfl, rfl⟩ := hp_373
                    refine lv_if_eq (tgt := 381) hx hb dX4_heirs_376 (by decide) (fun c_376 => ?_) (fun c_376 => ?_)
                    · skip
                      exact absurd c_376 (by decide)
                    · skip
                      refine lv_iconst (v := 0) hx hb dX4_heirs_379 (by decide) ?_
                      exact mm_ri hx hb hr hlocks hT hH rfl dX4_heirs_380 (Or.inr ⟨k, hk, rfl, Or.inr ⟨h_21, Or.inr ⟨n4, ⟨h42, h44⟩, rfl, hg, F, T, ⟨hF, hT2, hFT, hTb⟩, τ4, hs3, Or.inl ⟨by omega, rfl, rfl⟩⟩⟩⟩)
                · skip
                  exact absurd c_175 (by decide)
              · skip
                exact absurd c_163 (by decide)
            · intro H locs ls hno hH hl
              have hg : ¬ hGood n4 (pk4 a b c1 d) (pk4 pa pb pc1 pd) := fun g => hno (fun j hj => by rw [e18 j (by omega), e19 j (by omega)]; exact g j hj)
              refine lv_aload_n hx hb dX4_heirs_160 rfl (lv_at hl 0 rfl) ?_
              refine lv_iload hx hb dX4_heirs_161 (lv_at hl 3 rfl) ?_
              refine lv_if_ne (tgt := 170) hx hb dX4_heirs_163 (by decide) (fun c_163 => ?_) (fun c_163 => ?_)
              · skip
                exact absurd c_163 (by decide)
              · skip
                refine lv_iconst (v := 1) hx hb dX4_heirs_166 (by decide) ?_
                refine lv_goto (tgt := 171) hx hb dX4_heirs_167 (by decide) ?_
                refine lv_iconst (v := 3) hx hb dX4_heirs_171 (by decide) ?_
                refine mm_cVi (n := 2) (c_X4_throwsIf1 l (mm_ar (mm_ar (mm_ar (mm_ar (mm_ar (mm_ar (mm_ar (mm_ar (mm_st σ 0 0) 18 0 a) 18 1 b) 18 2 c1) 18 3 d) 19 0 pa) 19 1 pb) 19 2 pc1) 19 3 pd) 3) hx hb hml hT hH (lw_V q902 q904 qs13 q39 q905) (by decide +kernel) ⟨Nat.le_of_ble_eq_true rfl, Nat.le_of_ble_eq_true rfl⟩ rfl hl.1 rfl (Nat.le_of_ble_eq_true rfl) dX4_heirs_172 ⟨Nat.le_refl _, Nat.le_refl _⟩ (fun r_172 u_172 H locs hp_172 hH => ?_)
                obtain ⟨rfl, rfl⟩ := hp_172
                refine lv_if_eq (tgt := 180) hx hb dX4_heirs_175 (by decide) (fun c_175 => ?_) (fun c_175 => ?_)
                · skip
                  exact absurd c_175 (by decide)
                · skip
                  refine lv_iconst (v := 0) hx hb dX4_heirs_178 (by decide) ?_
                  exact mm_ri hx hb hr hlocks hT hH rfl dX4_heirs_179 (Or.inr ⟨k, hk, rfl, Or.inr ⟨h_21, Or.inl ⟨fun ⟨n5, h5, e5, g⟩ => hg (by rw [(nI_eq (by omega) (by omega)).mp e5] at g; exact g), (mm_ar (mm_ar (mm_ar (mm_ar (mm_ar (mm_ar (mm_ar (mm_ar (mm_st σ 0 0) 18 0 a) 18 1 b) 18 2 c1) 18 3 d) 19 0 pa) 19 1 pb) 19 2 pc1) 19 3 pd), ⟨rfl, fun j h1 h2 h3 => by rw [mm_ar_o h2, mm_ar_o h2, mm_ar_o h2, mm_ar_o h2, mm_ar_o h1, mm_ar_o h1, mm_ar_o h1, mm_ar_o h1]⟩, rfl, rfl⟩⟩⟩)
          · skip
            refine lv_istore (lv' := [(11, .int 0), (0, .ref (ad 0)), (1, .int (nI k)), (2, .int x), (3, .int a), (4, .int pa), (5, .int b), (6, .int pb), (7, .int c1), (8, .int pc1), (9, .int d), (10, .int pd)]) hx hb dX4_heirs_102 hl (by decide) rfl (fun ls hl => ?_)
            refine lv_iconst (v := 0) hx hb dX4_heirs_104 (by decide) ?_
            refine lv_istore (lv' := [(12, .int 0), (11, .int 0), (0, .ref (ad 0)), (1, .int (nI k)), (2, .int x), (3, .int a), (4, .int pa), (5, .int b), (6, .int pb), (7, .int c1), (8, .int pc1), (9, .int d), (10, .int pd)]) hx hb dX4_heirs_105 hl (by decide) rfl (fun ls hl => ?_)
            refine lv_iload hx hb dX4_heirs_107 (lv_at hl 1 rfl) ?_
            refine lv_if_eq (tgt := 160) hx hb dX4_heirs_109 (by decide) (fun c_109 => ?_) (fun c_109 => ?_)
            · skip
              refine lv_aload_n hx hb dX4_heirs_160 rfl (lv_at hl 2 rfl) ?_
              refine lv_iload hx hb dX4_heirs_161 (lv_at hl 1 rfl) ?_
              refine lv_if_ne (tgt := 170) hx hb dX4_heirs_163 (by decide) (fun c_163 => ?_) (fun c_163 => ?_)
              · skip
                exact absurd c_163 (by decide)
              · skip
                refine lv_iconst (v := 1) hx hb dX4_heirs_166 (by decide) ?_
                refine lv_goto (tgt := 171) hx hb dX4_heirs_167 (by decide) ?_
                refine lv_iconst (v := 3) hx hb dX4_heirs_171 (by decide) ?_
                refine mm_cVi (n := 2) (c_X4_throwsIf1 l (mm_ar (mm_ar (mm_ar (mm_ar (mm_ar (mm_ar (mm_ar (mm_ar (mm_st σ 0 0) 18 0 a) 18 1 b) 18 2 c1) 18 3 d) 19 0 pa) 19 1 pb) 19 2 pc1) 19 3 pd) 3) hx hb hml hT hH (lw_V q902 q904 qs13 q39 q905) (by decide +kernel) ⟨Nat.le_of_ble_eq_true rfl, Nat.le_of_ble_eq_true rfl⟩ rfl hl.1 rfl (Nat.le_of_ble_eq_true rfl) dX4_heirs_172 ⟨Nat.le_refl _, Nat.le_refl _⟩ (fun r_172 u_172 H locs hp_172 hH => ?_)
                obtain ⟨rfl, rfl⟩ := hp_172
                refine lv_if_eq (tgt := 180) hx hb dX4_heirs_175 (by decide) (fun c_175 => ?_) (fun c_175 => ?_)
                · skip
                  exact absurd c_175 (by decide)
                · skip
                  refine lv_iconst (v := 0) hx hb dX4_heirs_178 (by decide) ?_
                  exact mm_ri hx hb hr hlocks hT hH rfl dX4_heirs_179 (Or.inr ⟨k, hk, rfl, Or.inr ⟨h_21, Or.inl ⟨fun ⟨n5, h5, e5, g⟩ => h_99 (by rw [← e5]; exact ⟨nI_le (a := 2) h5.1 (by omega), nI_le (b := 4) h5.2 (by omega)⟩), (mm_ar (mm_ar (mm_ar (mm_ar (mm_ar (mm_ar (mm_ar (mm_ar (mm_st σ 0 0) 18 0 a) 18 1 b) 18 2 c1) 18 3 d) 19 0 pa) 19 1 pb) 19 2 pc1) 19 3 pd), ⟨rfl, fun j h1 h2 h3 => by rw [mm_ar_o h2, mm_ar_o h2, mm_ar_o h2, mm_ar_o h2, mm_ar_o h1, mm_ar_o h1, mm_ar_o h1, mm_ar_o h1]⟩, rfl, rfl⟩⟩⟩)
            · skip
              exact absurd c_109 (by decide)
        · skip
          exact absurd c_28 (by decide)
