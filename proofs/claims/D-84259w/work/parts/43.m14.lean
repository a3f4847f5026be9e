def pTermN (tp : Nat → Int32) (en q to : Nat) (hi : Int32) : Nat ⊕ (Nat × Nat × Int32) :=
  if pSkip tp 32 32 en q < pSkip tp 48 57 en (pSkip tp 32 32 en q) ∧ pSkip tp 48 57 en (pSkip tp 32 32 en q) - pSkip tp 32 32 en q < 5 ∧ pNum tp (pSkip tp 32 32 en q) (min 4 (pSkip tp 48 57 en (pSkip tp 32 32 en q) - pSkip tp 32 32 en q)) ≤ hi
  then .inr (pSkip tp 48 57 en (pSkip tp 32 32 en q), to, pNum tp (pSkip tp 32 32 en q) (min 4 (pSkip tp 48 57 en (pSkip tp 32 32 en q) - pSkip tp 32 32 en q))) else .inl (pSkip tp 32 32 en q)
def pTermR (tp : Nat → Int32) (b q : Nat) : Nat ⊕ (Nat × Nat × Int32) := if pIsW tp b q 5 then .inr (q, 2, 1) else if pIsW tp b q 4 then .inr (q, 2, 0) else .inl b
def pTermW (tp : Nat → Int32) (en b q : Nat) : Nat ⊕ (Nat × Nat × Int32) :=
  if pIsW tp b q 0 then pTermN tp en q 0 100 else if pIsW tp b q 1 then pTermN tp en q 1 1000 else if pIsW tp b q 3 then pTermN tp en q 3 100 else if pIsW tp b q 2 then pTermR tp (pSkip tp 32 32 en q) (pSkip tp 97 122 en (pSkip tp 32 32 en q)) else .inl b
def pTerm (tp : Nat → Int32) (en p : Nat) : Nat ⊕ (Nat × Nat × Int32) := pTermW tp en (pSkip tp 32 32 en p) (pSkip tp 97 122 en (pSkip tp 32 32 en p))
theorem pTermN_b {tp : Nat → Int32} {en p q to a : Nat} {hi v : Int32} (hp : p ≤ en) (ha : a < 4) (h : pTermN tp en p a hi = .inr (q, to, v)) : p ≤ q ∧ q ≤ en ∧ to < 4 := by
  have h1 := pSkip_b (tp := tp) (lo := 32) (hi := 32) hp
  have h2 := pSkip_b (tp := tp) (lo := 48) (hi := 57) h1.2
  unfold pTermN at h
  split at h
  · simp only [Sum.inr.injEq, Prod.mk.injEq] at h
    obtain ⟨e1, e2, _⟩ := h
    omega
  · cases h
theorem pTerm_b {tp : Nat → Int32} {en p q to : Nat} {v : Int32} (hp : p ≤ en) (h : pTerm tp en p = .inr (q, to, v)) : p ≤ q ∧ q ≤ en ∧ to < 4 := by
  have h1 := pSkip_b (tp := tp) (lo := 32) (hi := 32) hp
  have h2 := pSkip_b (tp := tp) (lo := 97) (hi := 122) h1.2
  have h3 := pSkip_b (tp := tp) (lo := 32) (hi := 32) h2.2
  have h4 := pSkip_b (tp := tp) (lo := 97) (hi := 122) h3.2
  unfold pTerm pTermW at h
  split at h
  · have := pTermN_b (by omega) (by omega) h
    omega
  split at h
  · have := pTermN_b (by omega) (by omega) h
    omega
  split at h
  · have := pTermN_b (by omega) (by omega) h
    omega
  split at h
  · unfold pTermR at h
    split at h
    · simp only [Sum.inr.injEq, Prod.mk.injEq] at h
      omega
    split at h
    · simp only [Sum.inr.injEq, Prod.mk.injEq] at h
      omega
    cases h
  · cases h
def pSameP (σ u : mS) : Prop := (∀ k, k ≠ 25 → k ≠ 27 → σ.1 k = u.1 k) ∧ (∀ k, k ≠ 22 → σ.2 k = u.2 k)
theorem pSameP.tr {σ u v : mS} (h : pSameP σ u) (g : pSameP u v) : pSameP σ v := ⟨fun k a b => (h.1 k a b).trans (g.1 k a b), fun k a => (h.2 k a).trans (g.2 k a)⟩
theorem pSameP.pb {σ : mS} (p b : Nat) : pSameP σ (pPB σ p b) := ⟨fun k a c => by simp [pPB, mm_st, va_up, a, c], fun k a => rfl⟩
theorem pSameP.ar {σ : mS} (n : Nat) (v : Int32) : pSameP σ (mm_ar σ 22 n v) := ⟨fun k a c => rfl, fun k a => (mm_ar_o a).symm⟩
theorem pSameP.st {σ : mS} (v : Int32) : pSameP σ (mm_st σ 25 v) := ⟨fun k a c => by simp [mm_st, va_up, a], fun k a => rfl⟩
theorem pSameP.rf (σ : mS) : pSameP σ σ := ⟨fun k a c => rfl, fun k a => rfl⟩
theorem mm_ar_u (σ : mS) (k n : Nat) (v : Int32) : (mm_ar σ k n v).2 k = upd (σ.2 k) n v := by simp [mm_ar, va_up]
def pT (σ : mS) (en pt : Nat) (r : Int32) (u : mS) : Prop := pSameP σ u ∧ ((1 = r ∧ ∃ q to v, pTerm (σ.2 23) en pt = .inr (q, to, v) ∧ u.1 25 = nI q ∧ u.2 22 = upd (σ.2 22) to v) ∨ (0 = r ∧ ∃ f, pTerm (σ.2 23) en pt = .inl f ∧ u.1 27 = nI f))
theorem pT_num {σ : mS} {en pt q b to : Nat} {hi r : Int32} (hk : pTerm (σ.2 23) en pt = pTermN (σ.2 23) en q to hi)
    (hp : (1 = r ∧ (pSkip (σ.2 23) 32 32 en q < pSkip (σ.2 23) 48 57 en (pSkip (σ.2 23) 32 32 en q) ∧ pSkip (σ.2 23) 48 57 en (pSkip (σ.2 23) 32 32 en q) - pSkip (σ.2 23) 32 32 en q < 5 ∧ pNum (σ.2 23) (pSkip (σ.2 23) 32 32 en q) (min 4 (pSkip (σ.2 23) 48 57 en (pSkip (σ.2 23) 32 32 en q) - pSkip (σ.2 23) 32 32 en q)) ≤ hi)) ∨ (0 = r ∧ ¬ (pSkip (σ.2 23) 32 32 en q < pSkip (σ.2 23) 48 57 en (pSkip (σ.2 23) 32 32 en q) ∧ pSkip (σ.2 23) 48 57 en (pSkip (σ.2 23) 32 32 en q) - pSkip (σ.2 23) 32 32 en q < 5 ∧ pNum (σ.2 23) (pSkip (σ.2 23) 32 32 en q) (min 4 (pSkip (σ.2 23) 48 57 en (pSkip (σ.2 23) 32 32 en q) - pSkip (σ.2 23) 32 32 en q)) ≤ hi))) :
    pT σ en pt r (mm_ar (pPB (pPB σ q b) (pSkip (σ.2 23) 48 57 en (pSkip (σ.2 23) 32 32 en q)) (pSkip (σ.2 23) 32 32 en q)) 22 to (pNum (σ.2 23) (pSkip (σ.2 23) 32 32 en q) (min 4 (pSkip (σ.2 23) 48 57 en (pSkip (σ.2 23) 32 32 en q) - pSkip (σ.2 23) 32 32 en q)))) := by
  refine ⟨(pSameP.pb q b).tr ((pSameP.pb _ _).tr (pSameP.ar _ _)), ?_⟩
  rw [hk]
  unfold pTermN
  rcases hp with ⟨h1, h⟩ | ⟨h1, h⟩
  · rw [if_pos h]
    exact Or.inl ⟨h1, _, _, _, rfl, rfl, mm_ar_u _ _ _ _⟩
  · rw [if_neg h]
    exact Or.inr ⟨h1, _, rfl, rfl⟩

set_option maxHeartbeats 1000000 in
set_option maxRecDepth 100000 in
theorem c_X4_readTerm (l : Launch) (adK adV : Nat → Nat) (σ : mS) {pt en : Nat} (h25 : σ.1 25 = nI pt) (h26 : σ.1 26 = nI en) (hpe : pt ≤ en) (he : en ≤ 400) : mk_Ci l yX4_readTerm cX4_readTerm 1 (some .boolean) 6 adK adV [] σ (fun r u => pT σ en pt r u) := by
  refine mk_ofi (by decide) rfl (Nat.le_of_ble_eq_true rfl) ?_
  intro p e s m args below meth c G A ad ls X hS4 hR4 hH hl
  obtain ⟨hx, hb, hml, hT, hr, hlocks⟩ := id X
  have hl : lv_has ls 1 [(0, .ref (ad 0))] := hl
  refine lv_aload_n hx hb dX4_readTerm_0 rfl (lv_at hl 0 rfl) ?_
  refine mm_cVv (n := 0) (c_X4_word l σ (pt := pt) (en := en) h25 h26 (by omega) he) hx hb hml hT hH (lw_V q1037 q1039 qs26 q39 q1040) (by decide +kernel) ⟨Nat.le_of_ble_eq_true rfl, Nat.le_of_ble_eq_true rfl⟩ rfl hl.1 rfl (Nat.le_of_ble_eq_true rfl) dX4_readTerm_1 ⟨Nat.le_refl _, Nat.le_refl _⟩ (fun u_1 H locs hp_1 hH => ?_)
  obtain rfl := hp_1
  have hB_1 := pSkip_b (tp := σ.2 23) (lo := 32) (hi := 32) (e := en) (p := pt) (by omega)
  have hQ_1 := pSkip_b (tp := σ.2 23) (lo := 97) (hi := 122) hB_1.2
  obtain ⟨b, eb⟩ : ∃ b, pSkip (σ.2 23) 32 32 en pt = b := ⟨_, rfl⟩
  rw [eb] at hH hB_1 hQ_1
  obtain ⟨q, eq⟩ : ∃ q, pSkip (σ.2 23) 97 122 en b = q := ⟨_, rfl⟩
  rw [eq] at hH hQ_1
  have hk : pTerm (σ.2 23) en pt = pTermW (σ.2 23) en b q := by unfold pTerm; rw [eb, eq]
  refine lv_aload_n hx hb dX4_readTerm_4 rfl (lv_at hl 0 rfl) ?_
  refine va_ldcS (q := adK 0) hx hb hT.1 hR4.1 dX4_readTerm_5 ?_
  refine mk_cVi (n := 1) (c_X4_isWord l adK adV (pPB σ q b) 0 (by decide) (pt := q) (bg := b) rfl rfl (by omega) (by omega)) hx hb hml hT hS4 hR4 hH (lw_V q1050 q1052 qs29 q39 q1053) (by decide +kernel) ⟨Nat.le_of_ble_eq_true rfl, Nat.le_of_ble_eq_true rfl⟩ rfl hl.1 rfl (Nat.le_of_ble_eq_true rfl) dX4_readTerm_7 ⟨Nat.le_refl _, Nat.le_refl _⟩ (fun r_7 u_7 H locs hp_7 hH => ?_)
  obtain ⟨rfl, hp_7⟩ := hp_7
  rcases hp_7 with ⟨rfl, h_7⟩ | ⟨rfl, h_7⟩
  · skip
    have h_7 : pIsW (σ.2 23) b q 0 := h_7
    refine lv_if_eq (tgt := 21) hx hb dX4_readTerm_10 (by decide) (fun c_10 => ?_) (fun c_10 => ?_)
    · skip
      exact absurd c_10 (by decide)
    · skip
      refine lv_aload_n hx hb dX4_readTerm_13 rfl (lv_at hl 0 rfl) ?_
      refine lv_iconst (v := 0) hx hb dX4_readTerm_14 (by decide) ?_
      refine lv_bipush (v := 100) hx hb dX4_readTerm_15 (by decide) ?_
      refine mm_cVi (n := 2) (c_X4_number l (pPB σ q b) (pt := q) (en := en) rfl h26 (by omega) he 0 (by decide) 100) hx hb hml hT hH (lw_V q1056 q1058 qs30 q39 q1059) (by decide +kernel) ⟨Nat.le_of_ble_eq_true rfl, Nat.le_of_ble_eq_true rfl⟩ rfl hl.1 rfl (Nat.le_of_ble_eq_true rfl) dX4_readTerm_17 ⟨Nat.le_refl _, Nat.le_refl _⟩ (fun r_17 u_17 H locs hp_17 hH => ?_)
      obtain ⟨rfl, hp_17⟩ := hp_17
      rcases hp_17 with ⟨rfl, h_17⟩ | ⟨rfl, h_17⟩
      · skip
        exact mm_ri hx hb hr hlocks hT hH rfl dX4_readTerm_20 (pT_num (b := b) (to := 0) (hi := 100) (by rw [hk]; unfold pTermW; rw [if_pos h_7]) (Or.inl ⟨rfl, h_17⟩))
      · skip
        exact mm_ri hx hb hr hlocks hT hH rfl dX4_readTerm_20 (pT_num (b := b) (to := 0) (hi := 100) (by rw [hk]; unfold pTermW; rw [if_pos h_7]) (Or.inr ⟨rfl, h_17⟩))
  · skip
    have h_7 : ¬ pIsW (σ.2 23) b q 0 := h_7
    refine lv_if_eq (tgt := 21) hx hb dX4_readTerm_10 (by decide) (fun c_10 => ?_) (fun c_10 => ?_)
    · skip
      refine lv_aload_n hx hb dX4_readTerm_21 rfl (lv_at hl 0 rfl) ?_
      refine va_ldcS (q := adK 1) hx hb hT.1 hR4.2.1 dX4_readTerm_22 ?_
      refine mk_cVi (n := 1) (c_X4_isWord l adK adV (pPB σ q b) 1 (by decide) (pt := q) (bg := b) rfl rfl (by omega) (by omega)) hx hb hml hT hS4 hR4 hH (lw_V q1050 q1052 qs29 q39 q1053) (by decide +kernel) ⟨Nat.le_of_ble_eq_true rfl, Nat.le_of_ble_eq_true rfl⟩ rfl hl.1 rfl (Nat.le_of_ble_eq_true rfl) dX4_readTerm_24 ⟨Nat.le_refl _, Nat.le_refl _⟩ (fun r_24 u_24 H locs hp_24 hH => ?_)
      obtain ⟨rfl, hp_24⟩ := hp_24
      rcases hp_24 with ⟨rfl, h_24⟩ | ⟨rfl, h_24⟩
      · skip
        have h_24 : pIsW (σ.2 23) b q 1 := h_24
        refine lv_if_eq (tgt := 39) hx hb dX4_readTerm_27 (by decide) (fun c_27 => ?_) (fun c_27 => ?_)
        · skip
          exact absurd c_27 (by decide)
        · skip
          refine lv_aload_n hx hb dX4_readTerm_30 rfl (lv_at hl 0 rfl) ?_
          refine lv_iconst (v := 1) hx hb dX4_readTerm_31 (by decide) ?_
          refine lv_sipush (v := 1000) hx hb dX4_readTerm_32 (by decide) ?_
          refine mm_cVi (n := 2) (c_X4_number l (pPB σ q b) (pt := q) (en := en) rfl h26 (by omega) he 1 (by decide) 1000) hx hb hml hT hH (lw_V q1056 q1058 qs30 q39 q1059) (by decide +kernel) ⟨Nat.le_of_ble_eq_true rfl, Nat.le_of_ble_eq_true rfl⟩ rfl hl.1 rfl (Nat.le_of_ble_eq_true rfl) dX4_readTerm_35 ⟨Nat.le_refl _, Nat.le_refl _⟩ (fun r_35 u_35 H locs hp_35 hH => ?_)
          obtain ⟨rfl, hp_35⟩ := hp_35
          rcases hp_35 with ⟨rfl, h_35⟩ | ⟨rfl, h_35⟩
          · skip
            exact mm_ri hx hb hr hlocks hT hH rfl dX4_readTerm_38 (pT_num (b := b) (to := 1) (hi := 1000) (by rw [hk]; unfold pTermW; rw [if_neg h_7, if_pos h_24]) (Or.inl ⟨rfl, h_35⟩))
          · skip
            exact mm_ri hx hb hr hlocks hT hH rfl dX4_readTerm_38 (pT_num (b := b) (to := 1) (hi := 1000) (by rw [hk]; unfold pTermW; rw [if_neg h_7, if_pos h_24]) (Or.inr ⟨rfl, h_35⟩))
      · skip
        have h_24 : ¬ pIsW (σ.2 23) b q 1 := h_24
        refine lv_if_eq (tgt := 39) hx hb dX4_readTerm_27 (by decide) (fun c_27 => ?_) (fun c_27 => ?_)
        · skip
          refine lv_aload_n hx hb dX4_readTerm_39 rfl (lv_at hl 0 rfl) ?_
          refine va_ldcS (q := adK 3) hx hb hT.1 hR4.2.2.2.1 dX4_readTerm_40 ?_
          refine mk_cVi (n := 1) (c_X4_isWord l adK adV (pPB σ q b) 3 (by decide) (pt := q) (bg := b) rfl rfl (by omega) (by omega)) hx hb hml hT hS4 hR4 hH (lw_V q1050 q1052 qs29 q39 q1053) (by decide +kernel) ⟨Nat.le_of_ble_eq_true rfl, Nat.le_of_ble_eq_true rfl⟩ rfl hl.1 rfl (Nat.le_of_ble_eq_true rfl) dX4_readTerm_42 ⟨Nat.le_refl _, Nat.le_refl _⟩ (fun r_42 u_42 H locs hp_42 hH => ?_)
          obtain ⟨rfl, hp_42⟩ := hp_42
          rcases hp_42 with ⟨rfl, h_42⟩ | ⟨rfl, h_42⟩
          · skip
            have h_42 : pIsW (σ.2 23) b q 3 := h_42
            refine lv_if_eq (tgt := 56) hx hb dX4_readTerm_45 (by decide) (fun c_45 => ?_) (fun c_45 => ?_)
            · skip
              exact absurd c_45 (by decide)
            · skip
              refine lv_aload_n hx hb dX4_readTerm_48 rfl (lv_at hl 0 rfl) ?_
              refine lv_iconst (v := 3) hx hb dX4_readTerm_49 (by decide) ?_
              refine lv_bipush (v := 100) hx hb dX4_readTerm_50 (by decide) ?_
              refine mm_cVi (n := 2) (c_X4_number l (pPB σ q b) (pt := q) (en := en) rfl h26 (by omega) he 3 (by decide) 100) hx hb hml hT hH (lw_V q1056 q1058 qs30 q39 q1059) (by decide +kernel) ⟨Nat.le_of_ble_eq_true rfl, Nat.le_of_ble_eq_true rfl⟩ rfl hl.1 rfl (Nat.le_of_ble_eq_true rfl) dX4_readTerm_52 ⟨Nat.le_refl _, Nat.le_refl _⟩ (fun r_52 u_52 H locs hp_52 hH => ?_)
              obtain ⟨rfl, hp_52⟩ := hp_52
              rcases hp_52 with ⟨rfl, h_52⟩ | ⟨rfl, h_52⟩
              · skip
                exact mm_ri hx hb hr hlocks hT hH rfl dX4_readTerm_55 (pT_num (b := b) (to := 3) (hi := 100) (by rw [hk]; unfold pTermW; rw [if_neg h_7, if_neg h_24, if_pos h_42]) (Or.inl ⟨rfl, h_52⟩))
              · skip
                exact mm_ri hx hb hr hlocks hT hH rfl dX4_readTerm_55 (pT_num (b := b) (to := 3) (hi := 100) (by rw [hk]; unfold pTermW; rw [if_neg h_7, if_neg h_24, if_pos h_42]) (Or.inr ⟨rfl, h_52⟩))
          · skip
            have h_42 : ¬ pIsW (σ.2 23) b q 3 := h_42
            refine lv_if_eq (tgt := 56) hx hb dX4_readTerm_45 (by decide) (fun c_45 => ?_) (fun c_45 => ?_)
            · skip
              refine lv_aload_n hx hb dX4_readTerm_56 rfl (lv_at hl 0 rfl) ?_
              refine va_ldcS (q := adK 2) hx hb hT.1 hR4.2.2.1 dX4_readTerm_57 ?_
              refine mk_cVi (n := 1) (c_X4_isWord l adK adV (pPB σ q b) 2 (by decide) (pt := q) (bg := b) rfl rfl (by omega) (by omega)) hx hb hml hT hS4 hR4 hH (lw_V q1050 q1052 qs29 q39 q1053) (by decide +kernel) ⟨Nat.le_of_ble_eq_true rfl, Nat.le_of_ble_eq_true rfl⟩ rfl hl.1 rfl (Nat.le_of_ble_eq_true rfl) dX4_readTerm_59 ⟨Nat.le_refl _, Nat.le_refl _⟩ (fun r_59 u_59 H locs hp_59 hH => ?_)
              obtain ⟨rfl, hp_59⟩ := hp_59
              rcases hp_59 with ⟨rfl, h_59⟩ | ⟨rfl, h_59⟩
              · skip
                have h_59 : pIsW (σ.2 23) b q 2 := h_59
                refine lv_if_ne (tgt := 67) hx hb dX4_readTerm_62 (by decide) (fun c_62 => ?_) (fun c_62 => ?_)
                · skip
                  refine lv_aload_n hx hb dX4_readTerm_67 rfl (lv_at hl 0 rfl) ?_
                  refine mm_cVv (n := 0) (c_X4_word l (pPB σ q b) (pt := q) (en := en) rfl h26 (by omega) he) hx hb hml hT hH (lw_V q1037 q1039 qs26 q39 q1040) (by decide +kernel) ⟨Nat.le_of_ble_eq_true rfl, Nat.le_of_ble_eq_true rfl⟩ rfl hl.1 rfl (Nat.le_of_ble_eq_true rfl) dX4_readTerm_68 ⟨Nat.le_refl _, Nat.le_refl _⟩ (fun u_68 H locs hp_68 hH => ?_)
                  obtain rfl := hp_68
                  have hB_68 := pSkip_b (tp := σ.2 23) (lo := 32) (hi := 32) (e := en) (p := q) (by omega)
                  have hQ_68 := pSkip_b (tp := σ.2 23) (lo := 97) (hi := 122) hB_68.2
                  have hH : mm_H G A s.heap H locs ad (pPB (pPB σ q b) (pSkip (σ.2 23) 97 122 en (pSkip (σ.2 23) 32 32 en q)) (pSkip (σ.2 23) 32 32 en q)) := hH
                  rw [pPB_b] at hH
                  have hk : pTerm (σ.2 23) en pt = pTermR (σ.2 23) (pSkip (σ.2 23) 32 32 en q) (pSkip (σ.2 23) 97 122 en (pSkip (σ.2 23) 32 32 en q)) := by rw [hk]; unfold pTermW; rw [if_neg h_7, if_neg h_24, if_neg h_42, if_pos h_59]
                  obtain ⟨b2, eb2⟩ : ∃ b, pSkip (σ.2 23) 32 32 en q = b := ⟨_, rfl⟩
                  rw [eb2] at hH hB_68 hQ_68 hk
                  obtain ⟨q2, eq2⟩ : ∃ q, pSkip (σ.2 23) 97 122 en b2 = q := ⟨_, rfl⟩
                  rw [eq2] at hH hQ_68 hk
                  refine lv_aload_n hx hb dX4_readTerm_71 rfl (lv_at hl 0 rfl) ?_
                  refine mm_get (v := .ref (ad 22)) hx hb hT hH 22 (by decide) rfl q803 rfl dX4_readTerm_72 ?_
                  refine lv_iconst (v := 2) hx hb dX4_readTerm_75 (by decide) ?_
                  refine lv_aload_n hx hb dX4_readTerm_76 rfl (lv_at hl 0 rfl) ?_
                  refine va_ldcS (q := adK 5) hx hb hT.1 hR4.2.2.2.2.2 dX4_readTerm_77 ?_
                  refine mk_cVi (n := 1) (c_X4_isWord l adK adV (pPB σ q2 b2) 5 (by decide) (pt := q2) (bg := b2) rfl rfl (by omega) (by omega)) hx hb hml hT hS4 hR4 hH (lw_V q1050 q1052 qs29 q39 q1053) (by decide +kernel) ⟨Nat.le_of_ble_eq_true rfl, Nat.le_of_ble_eq_true rfl⟩ rfl hl.1 rfl (Nat.le_of_ble_eq_true rfl) dX4_readTerm_79 ⟨Nat.le_refl _, Nat.le_refl _⟩ (fun r_79 u_79 H locs hp_79 hH => ?_)
                  obtain ⟨rfl, hp_79⟩ := hp_79
                  rcases hp_79 with ⟨rfl, h_79⟩ | ⟨rfl, h_79⟩
                  · skip
                    have h_79 : pIsW (σ.2 23) b2 q2 5 := h_79
                    refine lv_if_eq (tgt := 89) hx hb dX4_readTerm_82 (by decide) (fun c_82 => ?_) (fun c_82 => ?_)
                    · skip
                      exact absurd c_82 (by decide)
                    · skip
                      refine lv_iconst (v := 1) hx hb dX4_readTerm_85 (by decide) ?_
                      refine lv_goto (tgt := 90) hx hb dX4_readTerm_86 (by decide) ?_
                      refine mm_ist hx hb hT hH 22 (by decide) rfl 2 rfl (show 2 < 4 by omega) dX4_readTerm_90 (fun H locs hH => ?_)
                      refine lv_aload_n hx hb dX4_readTerm_91 rfl (lv_at hl 0 rfl) ?_
                      refine mm_get (v := .ref (ad 22)) hx hb hT hH 22 (by decide) rfl q803 rfl dX4_readTerm_92 ?_
                      refine lv_iconst (v := 2) hx hb dX4_readTerm_95 (by decide) ?_
                      refine mm_ild (v := 1) hx hb hT hH 22 (by decide) rfl 2 rfl (show 2 < 4 by omega) (mm_ar_s _ _ _ _) dX4_readTerm_96 ?_
                      refine lv_iconst (v := 1) hx hb dX4_readTerm_97 (by decide) ?_
                      refine lv_icmp_eq (tgt := 110) hx hb dX4_readTerm_98 (by decide) (fun c_98 => ?_) (fun c_98 => ?_)
                      · skip
                        refine lv_iconst (v := 1) hx hb dX4_readTerm_110 (by decide) ?_
                        refine lv_goto (tgt := 115) hx hb dX4_readTerm_111 (by decide) ?_
                        exact mm_ri hx hb hr hlocks hT hH rfl dX4_readTerm_115 (⟨(pSameP.pb q2 b2).tr (pSameP.ar _ _), Or.inl ⟨rfl, q2, 2, 1, by rw [hk]; unfold pTermR; rw [if_pos h_79], rfl, mm_ar_u _ _ _ _⟩⟩)
                      · skip
                        exact absurd c_98 (by decide)
                  · skip
                    have h_79 : ¬ pIsW (σ.2 23) b2 q2 5 := h_79
                    refine lv_if_eq (tgt := 89) hx hb dX4_readTerm_82 (by decide) (fun c_82 => ?_) (fun c_82 => ?_)
                    · skip
                      refine lv_iconst (v := 0) hx hb dX4_readTerm_89 (by decide) ?_
                      refine mm_ist hx hb hT hH 22 (by decide) rfl 2 rfl (show 2 < 4 by omega) dX4_readTerm_90 (fun H locs hH => ?_)
                      refine lv_aload_n hx hb dX4_readTerm_91 rfl (lv_at hl 0 rfl) ?_
                      refine mm_get (v := .ref (ad 22)) hx hb hT hH 22 (by decide) rfl q803 rfl dX4_readTerm_92 ?_
                      refine lv_iconst (v := 2) hx hb dX4_readTerm_95 (by decide) ?_
                      refine mm_ild (v := 0) hx hb hT hH 22 (by decide) rfl 2 rfl (show 2 < 4 by omega) (mm_ar_s _ _ _ _) dX4_readTerm_96 ?_
                      refine lv_iconst (v := 1) hx hb dX4_readTerm_97 (by decide) ?_
                      refine lv_icmp_eq (tgt := 110) hx hb dX4_readTerm_98 (by decide) (fun c_98 => ?_) (fun c_98 => ?_)
                      · skip
                        exact absurd c_98 (by decide)
                      · skip
                        refine lv_aload_n hx hb dX4_readTerm_101 rfl (lv_at hl 0 rfl) ?_
                        refine va_ldcS (q := adK 4) hx hb hT.1 hR4.2.2.2.2.1 dX4_readTerm_102 ?_
                        refine mk_cVi (n := 1) (c_X4_isWord l adK adV (mm_ar (pPB σ q2 b2) 22 2 0) 4 (by decide) (pt := q2) (bg := b2) rfl rfl (by omega) (by omega)) hx hb hml hT hS4 hR4 hH (lw_V q1050 q1052 qs29 q39 q1053) (by decide +kernel) ⟨Nat.le_of_ble_eq_true rfl, Nat.le_of_ble_eq_true rfl⟩ rfl hl.1 rfl (Nat.le_of_ble_eq_true rfl) dX4_readTerm_104 ⟨Nat.le_refl _, Nat.le_refl _⟩ (fun r_104 u_104 H locs hp_104 hH => ?_)
                        obtain ⟨rfl, hp_104⟩ := hp_104
                        rcases hp_104 with ⟨rfl, h_104⟩ | ⟨rfl, h_104⟩
                        · skip
                          have h_104 : pIsW (σ.2 23) b2 q2 4 := h_104
                          refine lv_if_eq (tgt := 114) hx hb dX4_readTerm_107 (by decide) (fun c_107 => ?_) (fun c_107 => ?_)
                          · skip
                            exact absurd c_107 (by decide)
                          · skip
                            refine lv_iconst (v := 1) hx hb dX4_readTerm_110 (by decide) ?_
                            refine lv_goto (tgt := 115) hx hb dX4_readTerm_111 (by decide) ?_
                            exact mm_ri hx hb hr hlocks hT hH rfl dX4_readTerm_115 (⟨(pSameP.pb q2 b2).tr (pSameP.ar _ _), Or.inl ⟨rfl, q2, 2, 0, by rw [hk]; unfold pTermR; rw [if_neg h_79, if_pos h_104], rfl, mm_ar_u _ _ _ _⟩⟩)
                        · skip
                          have h_104 : ¬ pIsW (σ.2 23) b2 q2 4 := h_104
                          refine lv_if_eq (tgt := 114) hx hb dX4_readTerm_107 (by decide) (fun c_107 => ?_) (fun c_107 => ?_)
                          · skip
                            refine lv_iconst (v := 0) hx hb dX4_readTerm_114 (by decide) ?_
                            exact mm_ri hx hb hr hlocks hT hH rfl dX4_readTerm_115 (⟨(pSameP.pb q2 b2).tr (pSameP.ar _ _), Or.inr ⟨rfl, b2, by rw [hk]; unfold pTermR; rw [if_neg h_79, if_neg h_104], rfl⟩⟩)
                          · skip
                            exact absurd c_107 (by decide)
                    · skip
                      exact absurd c_82 (by decide)
                · skip
                  exact absurd c_62 (by decide)
              · skip
                have h_59 : ¬ pIsW (σ.2 23) b q 2 := h_59
                refine lv_if_ne (tgt := 67) hx hb dX4_readTerm_62 (by decide) (fun c_62 => ?_) (fun c_62 => ?_)
                · skip
                  exact absurd c_62 (by decide)
                · skip
                  refine lv_iconst (v := 0) hx hb dX4_readTerm_65 (by decide) ?_
                  exact mm_ri hx hb hr hlocks hT hH rfl dX4_readTerm_66 (⟨pSameP.pb q b, Or.inr ⟨rfl, b, by rw [hk]; unfold pTermW; rw [if_neg h_7, if_neg h_24, if_neg h_42, if_neg h_59], rfl⟩⟩)
            · skip
              exact absurd c_45 (by decide)
        · skip
          exact absurd c_27 (by decide)
    · skip
      exact absurd c_10 (by decide)

def pLaw (tp : Nat → Int32) (en : Nat) : Nat → Nat → Nat → (Nat → Int32) → Nat ⊕ (Nat × (Nat → Int32))
  | 0, _, _, _ => .inl 0
  | k + 1, p, n, d => match pTerm tp en p with
    | .inl f => .inl f
    | .inr (q, to, v) => if pSkip tp 32 32 en q = en then .inr (n + 1, upd d to v) else if pSkip tp 32 32 en q < en ∧ 59 ≤ tp (pSkip tp 32 32 en q) ∧ tp (pSkip tp 32 32 en q) ≤ 59 then pLaw tp en k (pSkip tp 32 32 en q + 1) (n + 1) (upd d to v) else .inl (pSkip tp 32 32 en q)
theorem pLaw_l {tp : Nat → Int32} {en k p n f : Nat} {d : Nat → Int32} (h : pTerm tp en p = .inl f) : pLaw tp en (k + 1) p n d = .inl f := by rw [pLaw, h]
theorem pLaw_r {tp : Nat → Int32} {en k p n q to : Nat} {v : Int32} {d : Nat → Int32} (h : pTerm tp en p = .inr (q, to, v)) : pLaw tp en (k + 1) p n d = if pSkip tp 32 32 en q = en then .inr (n + 1, upd d to v) else if pSkip tp 32 32 en q < en ∧ 59 ≤ tp (pSkip tp 32 32 en q) ∧ tp (pSkip tp 32 32 en q) ≤ 59 then pLaw tp en k (pSkip tp 32 32 en q + 1) (n + 1) (upd d to v) else .inl (pSkip tp 32 32 en q) := by rw [pLaw, h]

set_option maxHeartbeats 1000000 in
set_option maxRecDepth 100000 in
theorem lp_X4_law {p : Program} {l : Launch} {e : Env} {s : State} {m : MethodId} {args : Array Value} {below : List Frame} {meth : Method} {c : Code} {Q : State → Prop} {G : gw_G} {A : Nat → Prop} {ad : Nat → Nat} (σ : mS) {en : Nat} (h26 : σ.1 26 = nI en) (he : en ≤ 400) {adK adV : Nat → Nat} {R0 : Nat ⊕ (Nat × (Nat → Int32))} (X : gx_X RX4 cX4_law 4 (some .int) G p s m args meth c) (hS4 : kc_S adK adV A s s.heap) (hR4 : kc_R4 adK s) (K1 : (∀ (w : mS) (n' : Nat) (d' : Nat → Int32) (H : Heap) (locs : List Loc) (ls : Array Slot), pSameP σ w → w.2 22 = d' → R0 = .inr (n', d') → n' ≤ 401 → mm_H G A s.heap H locs ad w → lv_has ls 4 [(0, .ref (ad 0)), (1, .int (nI n')), (2, .int 1)] → W p l e (mm_rm 7) s m args below meth c H locs 0 0 Q (F0 m 114 ls []))) (K0 : (∀ (w : mS) (n' : Nat) (f : Nat) (H : Heap) (locs : List Loc) (ls : Array Slot), pSameP σ w → w.1 27 = nI f → R0 = .inl f → mm_H G A s.heap H locs ad w → lv_has ls 4 [(0, .ref (ad 0)), (1, .int (nI n')), (2, .int 0)] → W p l e (mm_rm 7) s m args below meth c H locs 0 0 Q (F0 m 114 ls []))) : ∀ (n : Nat) (pt n' : Nat) (d : Nat → Int32) (u : mS) (r : Int32), en < pt + n → pt ≤ en → pSameP σ u → ((1 = r ∧ ∃ q to v, pTerm (σ.2 23) en pt = .inr (q, to, v) ∧ u.1 25 = nI q ∧ u.2 22 = upd d to v) ∨ (0 = r ∧ ∃ f, pTerm (σ.2 23) en pt = .inl f ∧ u.1 27 = nI f)) → R0 = pLaw (σ.2 23) en n pt n' d → n' ≤ pt → ∀ (H : Heap) (locs : List Loc) (ls : Array Slot), mm_H G A s.heap H locs ad u → lv_has ls 4 [(0, .ref (ad 0)), (1, .int (nI n')), (2, .int r)] → W p l e (mm_rm 7) s m args below meth c H locs 0 0 Q (F0 m 55 ls []) := by
  obtain ⟨hx, hb, hml, hT, hr, hlocks⟩ := id X
  intro n
  induction n with
  | zero =>
    intro pt n' d u r h0 h1
    exact absurd h0 (by omega)
  | succ n ih =>
    intro pt n' d u r h0 h1 hs hpt hk hnp H locs ls hH hl
    have hu26 : u.1 26 = nI en := (hs.1 26 (by decide) (by decide)).symm.trans h26
    rcases hpt with ⟨rfl, q, to, v, ht, hu25, hud⟩ | ⟨rfl, f, ht, huf⟩
    · skip
      rw [pLaw_r ht] at hk
      have hq := (pTerm_b h1 ht).1
      have hq2 := (pTerm_b h1 ht).2.1
      refine lv_iload_n hx hb dX4_law_55 rfl (lv_at hl 2 rfl) ?_
      refine lv_if_eq (tgt := 114) hx hb dX4_law_56 (by decide) (fun c_56 => ?_) (fun c_56 => ?_)
      · skip
        exact absurd c_56 (by decide)
      · skip
        refine lv_iinc (v := nI (n' + 1)) (lv' := [(1, .int (nI (n' + 1))), (0, .ref (ad 0)), (2, .int 1)]) hx hb dX4_law_59 hl (k := 1) rfl (nI_add n' 1) (by decide) rfl (fun ls hl => ?_)
        refine lv_aload_n hx hb dX4_law_62 rfl (lv_at hl 1 rfl) ?_
        refine mm_cVv (n := 0) (c_X4_blanks l u (pt := q) (en := en) hu25 hu26 hq2 he) hx hb hml hT hH (lw_V q1041 q1043 qs27 q39 q1044) (by decide +kernel) ⟨Nat.le_of_ble_eq_true rfl, Nat.le_of_ble_eq_true rfl⟩ rfl hl.1 rfl (Nat.le_of_ble_eq_true rfl) dX4_law_63 ⟨Nat.le_refl _, Nat.le_refl _⟩ (fun u_63 H locs hp_63 hH => ?_)
        obtain rfl := hp_63
        have hH : mm_H G A s.heap H locs ad (pPB u (pSkip (σ.2 23) 32 32 en q) (pSkip (σ.2 23) 32 32 en q)) := by rw [hs.2 23 (by decide)]; exact hH
        have hB := pSkip_b (tp := σ.2 23) (lo := 32) (hi := 32) hq2
        obtain ⟨b, eb⟩ : ∃ b, pSkip (σ.2 23) 32 32 en q = b := ⟨_, rfl⟩
        rw [eb] at hH hB hk
        refine lv_aload_n hx hb dX4_law_66 rfl (lv_at hl 1 rfl) ?_
        refine mm_get (v := .int ((pPB u b b).1 25)) hx hb hT hH 25 (by decide) rfl q806 rfl dX4_law_67 ?_
        refine lv_as rfl ?_
        refine lv_aload_n hx hb dX4_law_70 rfl (lv_at hl 1 rfl) ?_
        refine mm_get (v := .int ((pPB u b b).1 26)) hx hb hT hH 26 (by decide) rfl q807 rfl dX4_law_71 ?_
        refine lv_as hu26 ?_
        refine lv_icmp_ne (tgt := 80) hx hb dX4_law_74 (by decide) (fun c_74 => ?_) (fun c_74 => ?_)
        · skip
          have c_74 : ¬ (b = en) := fun h => c_74 ((nI_eq (a := b) (b := en) (by omega) (by omega)).mpr h)
          refine lv_aload_n hx hb dX4_law_80 rfl (lv_at hl 1 rfl) ?_
          refine lv_bipush (v := 59) hx hb dX4_law_81 (by decide) ?_
          refine lv_bipush (v := 59) hx hb dX4_law_83 (by decide) ?_
          refine mm_cVi (n := 2) (c_X4_isAt l (pPB u b b) 59 59 (pt := b) (en := en) rfl hu26 hB.2 he) hx hb hml hT hH (lw_V q1045 q1047 qs28 q39 q1048) (by decide +kernel) ⟨Nat.le_of_ble_eq_true rfl, Nat.le_of_ble_eq_true rfl⟩ rfl hl.1 rfl (Nat.le_of_ble_eq_true rfl) dX4_law_85 ⟨Nat.le_refl _, Nat.le_refl _⟩ (fun r_85 u_85 H locs hp_85 hH => ?_)
          rw [show (pPB u b b).2 23 = σ.2 23 from (hs.2 23 (by decide)).symm] at hp_85
          obtain ⟨rfl, hp_85⟩ := hp_85
          rcases hp_85 with ⟨rfl, h_85⟩ | ⟨rfl, h_85⟩
          · skip
            refine lv_istore_n (lv' := [(2, .int 1), (1, .int (nI (n' + 1))), (0, .ref (ad 0))]) hx hb dX4_law_88 rfl hl (by decide) rfl (fun ls hl => ?_)
            refine lv_iload_n hx hb dX4_law_89 rfl (lv_at hl 0 rfl) ?_
            refine lv_if_ne (tgt := 96) hx hb dX4_law_90 (by decide) (fun c_90 => ?_) (fun c_90 => ?_)
            · skip
              refine lv_aload_n hx hb dX4_law_96 rfl (lv_at hl 2 rfl) ?_
              refine lv_dup hx hb dX4_law_97 rfl ?_
              refine mm_get (v := .int ((pPB u b b).1 25)) hx hb hT hH 25 (by decide) rfl q806 rfl dX4_law_98 ?_
              refine lv_as rfl ?_
              refine lv_iconst (v := 1) hx hb dX4_law_101 (by decide) ?_
              refine lv_iadd hx hb dX4_law_102 ?_
              refine lv_as (nI_add b 1) ?_
              refine mm_put hx hb hT hH 25 (by decide) (by decide) rfl rfl q806 rfl dX4_law_103 (fun H locs hH => ?_)
              refine lv_aload_n hx hb dX4_law_106 rfl (lv_at hl 2 rfl) ?_
              refine mk_cVi (n := 0) (c_X4_readTerm l adK adV (mm_st (pPB u b b) 25 (nI (b + 1))) (pt := b + 1) (en := en) rfl hu26 (by omega) he) hx hb hml hT hS4 hR4 hH (lw_V q1033 q1035 qs25 q39 q1036) (by decide +kernel) ⟨Nat.le_of_ble_eq_true rfl, Nat.le_of_ble_eq_true rfl⟩ rfl hl.1 rfl (Nat.le_of_ble_eq_true rfl) dX4_law_107 ⟨Nat.le_refl _, Nat.le_refl _⟩ (fun r_107 u_107 H locs hp_107 hH => ?_)
              refine lv_istore_n (lv' := [(2, .int r_107), (1, .int (nI (n' + 1))), (0, .ref (ad 0))]) hx hb dX4_law_110 rfl hl (by decide) rfl (fun ls hl => ?_)
              refine lv_goto (tgt := 55) hx hb dX4_law_111 (by decide) ?_
              obtain ⟨hs2, ht2⟩ := hp_107
              have hs3 : pSameP σ (mm_st (pPB u b b) 25 (nI (b + 1))) := hs.tr ((pSameP.pb b b).tr (pSameP.st _))
              refine ih (b + 1) (n' + 1) (upd d to v) u_107 r_107 (by omega) (by omega) (hs3.tr hs2) ?_ (by rw [hk, if_neg c_74, if_pos h_85]) (by omega) _ _ _ hH (lv_sub hl [2, 1, 0] rfl)
              rw [show (mm_st (pPB u b b) 25 (nI (b + 1))).2 23 = σ.2 23 from (hs.2 23 (by decide)).symm, show (mm_st (pPB u b b) 25 (nI (b + 1))).2 22 = upd d to v from hud] at ht2
              exact ht2
            · skip
              exact absurd c_90 (by decide)
          · skip
            refine lv_istore_n (lv' := [(2, .int 0), (1, .int (nI (n' + 1))), (0, .ref (ad 0))]) hx hb dX4_law_88 rfl hl (by decide) rfl (fun ls hl => ?_)
            refine lv_iload_n hx hb dX4_law_89 rfl (lv_at hl 0 rfl) ?_
            refine lv_if_ne (tgt := 96) hx hb dX4_law_90 (by decide) (fun c_90 => ?_) (fun c_90 => ?_)
            · skip
              exact absurd c_90 (by decide)
            · skip
              refine lv_goto (tgt := 114) hx hb dX4_law_93 (by decide) ?_
              exact K0 _ _ b _ _ _ (hs.tr (pSameP.pb b b)) rfl (by rw [hk, if_neg c_74, if_neg h_85]) hH (lv_sub hl [2, 1, 0] rfl)
        · skip
          have c_74 : b = en := (nI_eq (a := b) (b := en) (by omega) (by omega)).mp c_74
          refine lv_goto (tgt := 114) hx hb dX4_law_77 (by decide) ?_
          exact K1 _ _ _ _ _ _ (hs.tr (pSameP.pb b b)) hud (by rw [hk, if_pos c_74]) (by omega) hH (lv_sub hl [1, 0, 2] rfl)
    · skip
      rw [pLaw_l ht] at hk
      refine lv_iload_n hx hb dX4_law_55 rfl (lv_at hl 2 rfl) ?_
      refine lv_if_eq (tgt := 114) hx hb dX4_law_56 (by decide) (fun c_56 => ?_) (fun c_56 => ?_)
      · skip
        exact K0 _ _ f _ _ _ hs huf hk hH (lv_sub hl [0, 1, 2] rfl)
      · skip
        exact absurd c_56 (by decide)
