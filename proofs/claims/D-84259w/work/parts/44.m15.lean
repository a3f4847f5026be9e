def pCopy (σ : mS) (k f : Nat) : Nat → mS
  | 0 => σ
  | i + 1 => mm_ar (pCopy σ k f i) k i (σ.2 f i)
theorem pCopy_o (σ : mS) {k f j : Nat} (h : j ≠ k) : ∀ i, (pCopy σ k f i).2 j = σ.2 j
  | 0 => rfl
  | i + 1 => by rw [pCopy, mm_ar_o h, pCopy_o σ h i]
theorem pCopy_1 (σ : mS) (k f : Nat) : ∀ i, (pCopy σ k f i).1 = σ.1
  | 0 => rfl
  | i + 1 => by rw [pCopy, mm_ar, pCopy_1 σ k f i]
theorem pCopy_at (σ : mS) (k f : Nat) : ∀ i j, j < i → (pCopy σ k f i).2 k j = σ.2 f j
  | 0, j, h => absurd h (Nat.not_lt_zero j)
  | i + 1, j, h => by
    rw [pCopy]
    by_cases e : j = i
    · subst e; exact mm_ar_s _ _ _ _
    · rw [mm_ar_n e]; exact pCopy_at σ k f i j (by omega)
def pSameL (σ u : mS) : Prop := (∀ k, k ≠ 0 → k ≠ 24 → k ≠ 25 → k ≠ 26 → k ≠ 27 → k ≠ 28 → σ.1 k = u.1 k) ∧ (∀ k, k ≠ 21 → k ≠ 22 → σ.2 k = u.2 k)
/-- what law leaves: (thrown, faultAt, answer, says) -/
def pLawX (σ : mS) (nT : Nat) (r : Int32) (u : mS) : Prop := pSameL σ u ∧ u.1 24 = 0 ∧ ∃ d0 : Nat → Int32, (∀ j, j < 4 → d0 j = σ.2 21 j) ∧
  ((∃ f, pLaw (σ.2 23) nT (nT + 1) 0 0 d0 = .inl f ∧ u.1 0 = 1 ∧ u.1 28 = nI f ∧ 0 = r ∧ σ.2 21 = u.2 21) ∨ (∃ n d, pLaw (σ.2 23) nT (nT + 1) 0 0 d0 = .inr (n, d) ∧ n ≤ 401 ∧ u.1 0 = 0 ∧ u.1 28 = -1 ∧ nI n = r ∧ ∀ j, j < 4 → u.2 21 j = d j))

set_option maxHeartbeats 1000000 in
set_option maxRecDepth 100000 in
theorem lp_X4_lawA {p : Program} {l : Launch} {e : Env} {s : State} {m : MethodId} {args : Array Value} {below : List Frame} {meth : Method} {c : Code} {Q : State → Prop} {G : gw_G} {A : Nat → Prop} {H0 : Heap} {ad : Nat → Nat} (σ : mS) {cn : Nat} (X : gx_X RX4 cX4_law 4 (some .int) G p s m args meth c) (K : (∀ (H : Heap) (locs : List Loc) (ls : Array Slot), mm_H G A H0 H locs ad (pCopy σ 22 21 4) → lv_has ls 4 [(0, .ref (ad 0))] → W p l e (mm_rm 7) s m args below meth c H locs 0 0 Q (F0 m 48 ls []))) : ∀ (n : Nat) (i : Nat), 4 < i + n → i ≤ 4 → ∀ (H : Heap) (locs : List Loc) (ls : Array Slot), mm_H G A H0 H locs ad (pCopy σ 22 21 i) → lv_has ls 4 [(1, .int (nI i)), (0, .ref (ad 0))] → W p l e (mm_rm 7) s m args below meth c H locs 0 0 Q (F0 m 25 ls []) := by
  obtain ⟨hx, hb, hml, hT, hr, hlocks⟩ := id X
  intro n
  induction n with
  | zero =>
    intro i h0 hi
    exact absurd h0 (by omega)
  | succ n ih =>
    intro i h0 hi H locs ls hH hl
    refine lv_iload_n hx hb dX4_law_25 rfl (lv_at hl 0 rfl) ?_
    refine lv_iconst (v := 4) hx hb dX4_law_26 (by decide) ?_
    refine lv_icmp_ge (tgt := 48) hx hb dX4_law_27 (by decide) (fun c_27 => ?_) (fun c_27 => ?_)
    · skip
      have c_27 : 4 ≤ i := (nI_leI (a := 4) (b := i) (by omega) (by omega)).mp c_27
      obtain rfl : i = 4 := by omega
      exact K _ _ _ hH (lv_sub hl [1] rfl)
    · skip
      have c_27 : ¬ (4 ≤ i) := fun h => c_27 ((nI_leI (a := 4) (b := i) (by omega) (by omega)).mpr h)
      refine lv_aload_n hx hb dX4_law_30 rfl (lv_at hl 1 rfl) ?_
      refine mm_get (v := .ref (ad 22)) hx hb hT hH 22 (by decide) rfl q803 rfl dX4_law_31 ?_
      refine lv_iload_n hx hb dX4_law_34 rfl (lv_at hl 0 rfl) ?_
      refine lv_aload_n hx hb dX4_law_35 rfl (lv_at hl 1 rfl) ?_
      refine mm_get (v := .ref (ad 21)) hx hb hT hH 21 (by decide) rfl q802 rfl dX4_law_36 ?_
      refine lv_iload_n hx hb dX4_law_39 rfl (lv_at hl 0 rfl) ?_
      refine mm_ild (v := σ.2 21 i) hx hb hT hH 21 (by decide) rfl i rfl (show i < 4 by omega) (congrFun (pCopy_o σ (by decide) _) _) dX4_law_40 ?_
      refine mm_ist hx hb hT hH 22 (by decide) rfl i rfl (show i < 4 by omega) dX4_law_41 (fun H locs hH => ?_)
      refine lv_iinc (v := nI (i + 1)) (lv' := [(1, .int (nI (i + 1))), (0, .ref (ad 0))]) hx hb dX4_law_42 hl (k := 0) rfl (nI_add i 1) (by decide) rfl (fun ls hl => ?_)
      refine lv_goto (tgt := 25) hx hb dX4_law_45 (by decide) ?_
      exact ih (i + 1) (by omega) (by omega) _ _ _ hH (lv_sub hl [0, 1] rfl)

set_option maxHeartbeats 1000000 in
set_option maxRecDepth 100000 in
theorem lp_X4_lawB {p : Program} {l : Launch} {e : Env} {s : State} {m : MethodId} {args : Array Value} {below : List Frame} {meth : Method} {c : Code} {Q : State → Prop} {G : gw_G} {A : Nat → Prop} {H0 : Heap} {ad : Nat → Nat} (σ : mS) {cn : Nat} (X : gx_X RX4 cX4_law 4 (some .int) G p s m args meth c) (K : (∀ (H : Heap) (locs : List Loc) (ls : Array Slot), mm_H G A H0 H locs ad (pCopy σ 21 22 4) → lv_has ls 4 [(0, .ref (ad 0)), (1, .int (nI cn))] → W p l e (mm_rm 7) s m args below meth c H locs 0 0 Q (F0 m 174 ls []))) : ∀ (n : Nat) (i : Nat), 4 < i + n → i ≤ 4 → ∀ (H : Heap) (locs : List Loc) (ls : Array Slot), mm_H G A H0 H locs ad (pCopy σ 21 22 i) → lv_has ls 4 [(3, .int (nI i)), (0, .ref (ad 0)), (1, .int (nI cn))] → W p l e (mm_rm 7) s m args below meth c H locs 0 0 Q (F0 m 151 ls []) := by
  obtain ⟨hx, hb, hml, hT, hr, hlocks⟩ := id X
  intro n
  induction n with
  | zero =>
    intro i h0 hi
    exact absurd h0 (by omega)
  | succ n ih =>
    intro i h0 hi H locs ls hH hl
    refine lv_iload_n hx hb dX4_law_151 rfl (lv_at hl 0 rfl) ?_
    refine lv_iconst (v := 4) hx hb dX4_law_152 (by decide) ?_
    refine lv_icmp_ge (tgt := 174) hx hb dX4_law_153 (by decide) (fun c_153 => ?_) (fun c_153 => ?_)
    · skip
      have c_153 : 4 ≤ i := (nI_leI (a := 4) (b := i) (by omega) (by omega)).mp c_153
      obtain rfl : i = 4 := by omega
      exact K _ _ _ hH (lv_sub hl [1, 2] rfl)
    · skip
      have c_153 : ¬ (4 ≤ i) := fun h => c_153 ((nI_leI (a := 4) (b := i) (by omega) (by omega)).mpr h)
      refine lv_aload_n hx hb dX4_law_156 rfl (lv_at hl 1 rfl) ?_
      refine mm_get (v := .ref (ad 21)) hx hb hT hH 21 (by decide) rfl q802 rfl dX4_law_157 ?_
      refine lv_iload_n hx hb dX4_law_160 rfl (lv_at hl 0 rfl) ?_
      refine lv_aload_n hx hb dX4_law_161 rfl (lv_at hl 1 rfl) ?_
      refine mm_get (v := .ref (ad 22)) hx hb hT hH 22 (by decide) rfl q803 rfl dX4_law_162 ?_
      refine lv_iload_n hx hb dX4_law_165 rfl (lv_at hl 0 rfl) ?_
      refine mm_ild (v := σ.2 22 i) hx hb hT hH 22 (by decide) rfl i rfl (show i < 4 by omega) (congrFun (pCopy_o σ (by decide) _) _) dX4_law_166 ?_
      refine mm_ist hx hb hT hH 21 (by decide) rfl i rfl (show i < 4 by omega) dX4_law_167 (fun H locs hH => ?_)
      refine lv_iinc (v := nI (i + 1)) (lv' := [(3, .int (nI (i + 1))), (0, .ref (ad 0)), (1, .int (nI cn))]) hx hb dX4_law_168 hl (k := 0) rfl (nI_add i 1) (by decide) rfl (fun ls hl => ?_)
      refine lv_goto (tgt := 151) hx hb dX4_law_171 (by decide) ?_
      exact ih (i + 1) (by omega) (by omega) _ _ _ hH (lv_sub hl [0, 1, 2] rfl)

set_option maxHeartbeats 1000000 in
set_option maxRecDepth 100000 in
theorem c_X4_law (l : Launch) (adK adV : Nat → Nat) (σ : mS) {nT : Nat} (h24 : σ.1 24 = nI nT) (hnT : nT ≤ 400) : mk_Ci l yX4_law cX4_law 4 (some .int) 7 adK adV [] σ (fun r u => pLawX σ nT r u) := by
  refine mk_ofi (by decide) rfl (Nat.le_of_ble_eq_true rfl) ?_
  intro p e s m args below meth c G A ad ls X hS4 hR4 hH hl
  obtain ⟨hx, hb, hml, hT, hr, hlocks⟩ := id X
  have hl : lv_has ls 4 [(0, .ref (ad 0))] := hl
  refine lv_aload_n hx hb dX4_law_0 rfl (lv_at hl 0 rfl) ?_
  refine lv_iconst (v := 0) hx hb dX4_law_1 (by decide) ?_
  refine mm_put hx hb hT hH 0 (by decide) (by decide) rfl rfl q781 rfl dX4_law_2 (fun H locs hH => ?_)
  refine lv_aload_n hx hb dX4_law_5 rfl (lv_at hl 0 rfl) ?_
  refine lv_aload_n hx hb dX4_law_6 rfl (lv_at hl 0 rfl) ?_
  refine mm_get (v := .int (σ.1 24)) hx hb hT hH 24 (by decide) rfl q805 rfl dX4_law_7 ?_
  refine lv_as h24 ?_
  refine mm_put hx hb hT hH 26 (by decide) (by decide) rfl rfl q807 rfl dX4_law_10 (fun H locs hH => ?_)
  refine lv_aload_n hx hb dX4_law_13 rfl (lv_at hl 0 rfl) ?_
  refine lv_iconst (v := 0) hx hb dX4_law_14 (by decide) ?_
  refine mm_put hx hb hT hH 24 (by decide) (by decide) rfl rfl q805 rfl dX4_law_15 (fun H locs hH => ?_)
  refine lv_aload_n hx hb dX4_law_18 rfl (lv_at hl 0 rfl) ?_
  refine lv_iconst (v := 0) hx hb dX4_law_19 (by decide) ?_
  refine mm_put hx hb hT hH 25 (by decide) (by decide) rfl rfl q806 rfl dX4_law_20 (fun H locs hH => ?_)
  refine lv_iconst (v := 0) hx hb dX4_law_23 (by decide) ?_
  refine lv_istore_n (lv' := [(1, .int 0), (0, .ref (ad 0))]) hx hb dX4_law_24 rfl hl (by decide) rfl (fun ls hl => ?_)
  refine lp_X4_lawA (mm_st (mm_st (mm_st (mm_st σ 0 0) 26 (nI nT)) 24 0) 25 0) (cn := 0) X ?_ 5 0 (by omega) (by omega) _ _ _ hH (lv_sub hl [0, 1] rfl)
  intro H locs ls hH hl
  have hp1 : (pCopy (mm_st (mm_st (mm_st (mm_st σ 0 0) 26 (nI nT)) 24 0) 25 0) 22 21 4).1 = (mm_st (mm_st (mm_st (mm_st σ 0 0) 26 (nI nT)) 24 0) 25 0).1 := pCopy_1 _ _ _ _
  have hp23 : (pCopy (mm_st (mm_st (mm_st (mm_st σ 0 0) 26 (nI nT)) 24 0) 25 0) 22 21 4).2 23 = σ.2 23 := pCopy_o _ (by decide) _
  have hd0 : ∀ j, j < 4 → (pCopy (mm_st (mm_st (mm_st (mm_st σ 0 0) 26 (nI nT)) 24 0) 25 0) 22 21 4).2 22 j = σ.2 21 j := fun j hj => pCopy_at _ _ _ _ _ hj
  have hp21 : (pCopy (mm_st (mm_st (mm_st (mm_st σ 0 0) 26 (nI nT)) 24 0) 25 0) 22 21 4).2 21 = σ.2 21 := pCopy_o _ (by decide) _
  have hpo : ∀ k, k ≠ 22 → σ.2 k = (pCopy (mm_st (mm_st (mm_st (mm_st σ 0 0) 26 (nI nT)) 24 0) 25 0) 22 21 4).2 k := fun k hk => (pCopy_o (mm_st (mm_st (mm_st (mm_st σ 0 0) 26 (nI nT)) 24 0) 25 0) hk 4).symm
  obtain ⟨ρ, eρ⟩ : ∃ ρ, ρ = (pCopy (mm_st (mm_st (mm_st (mm_st σ 0 0) 26 (nI nT)) 24 0) 25 0) 22 21 4) := ⟨_, rfl⟩
  rw [← eρ] at hH hp1 hp23 hd0 hp21 hpo
  have h26 : ρ.1 26 = nI nT := by rw [hp1]; rfl
  have h25 : ρ.1 25 = nI 0 := by rw [hp1]; rfl
  have hρ : pSameL σ ρ ∧ ρ.1 24 = 0 ∧ ρ.1 0 = 0 := ⟨⟨fun k a b c d e f => by rw [hp1]; simp [mm_st, va_up, a, b, c, d], fun k a b => hpo k b⟩, by rw [hp1]; rfl, by rw [hp1]; rfl⟩
  refine lv_iconst (v := 0) hx hb dX4_law_48 (by decide) ?_
  refine lv_istore_n (lv' := [(1, .int 0), (0, .ref (ad 0))]) hx hb dX4_law_49 rfl hl (by decide) rfl (fun ls hl => ?_)
  refine lv_aload_n hx hb dX4_law_50 rfl (lv_at hl 1 rfl) ?_
  refine mk_cVi (n := 0) (c_X4_readTerm l adK adV ρ (pt := 0) (en := nT) h25 h26 (Nat.zero_le _) hnT) hx hb hml hT hS4 hR4 hH (lw_V q1033 q1035 qs25 q39 q1036) (by decide +kernel) ⟨Nat.le_of_ble_eq_true rfl, Nat.le_of_ble_eq_true rfl⟩ rfl hl.1 rfl (Nat.le_of_ble_eq_true rfl) dX4_law_51 ⟨Nat.le_refl _, Nat.le_refl _⟩ (fun r_51 u_51 H locs hp_51 hH => ?_)
  refine lv_istore_n (lv' := [(2, .int r_51), (1, .int 0), (0, .ref (ad 0))]) hx hb dX4_law_54 rfl hl (by decide) rfl (fun ls hl => ?_)
  obtain ⟨hs2, ht2⟩ := hp_51
  refine lp_X4_law ρ (en := nT) h26 hnT X hS4 hR4 ?_ ?_ (nT + 1) 0 0 (ρ.2 22) u_51 r_51 (by omega) (by omega) hs2 ht2 rfl (Nat.le_refl _) _ _ _ hH (lv_sub hl [2, 1, 0] rfl)
  · skip
    intro w n' d' H locs ls hs hud hR0 hn' hH hl
    rw [hp23] at hR0
    refine lv_aload_n hx hb dX4_law_114 rfl (lv_at hl 0 rfl) ?_
    refine lv_iload_n hx hb dX4_law_115 rfl (lv_at hl 2 rfl) ?_
    refine lv_if_eq (tgt := 123) hx hb dX4_law_116 (by decide) (fun c_116 => ?_) (fun c_116 => ?_)
    · skip
      exact absurd c_116 (by decide)
    · skip
      refine lv_iconst (v := (-1)) hx hb dX4_law_119 (by decide) ?_
      refine lv_goto (tgt := 127) hx hb dX4_law_120 (by decide) ?_
      refine mm_put hx hb hT hH 28 (by decide) (by decide) rfl rfl q809 rfl dX4_law_127 (fun H locs hH => ?_)
      refine lv_aload_n hx hb dX4_law_130 rfl (lv_at hl 0 rfl) ?_
      refine lv_iload_n hx hb dX4_law_131 rfl (lv_at hl 2 rfl) ?_
      refine lv_if_ne (tgt := 139) hx hb dX4_law_132 (by decide) (fun c_132 => ?_) (fun c_132 => ?_)
      · skip
        refine lv_iconst (v := 0) hx hb dX4_law_139 (by decide) ?_
        refine lv_iconst (v := 1) hx hb dX4_law_140 (by decide) ?_
        refine mm_cVi (n := 2) (c_X4_throwsIf0 l (mm_st w 28 (-1)) 1) hx hb hml hT hH (lw_V q902 q904 qs13 q39 q905) (by decide +kernel) ⟨Nat.le_of_ble_eq_true rfl, Nat.le_of_ble_eq_true rfl⟩ rfl hl.1 rfl (Nat.le_of_ble_eq_true rfl) dX4_law_141 ⟨Nat.le_refl _, Nat.le_refl _⟩ (fun r_141 u_141 H locs hp_141 hH => ?_)
        obtain ⟨rfl, rfl⟩ := hp_141
        refine lv_if_eq (tgt := 149) hx hb dX4_law_144 (by decide) (fun c_144 => ?_) (fun c_144 => ?_)
        · skip
          refine lv_iconst (v := 0) hx hb dX4_law_149 (by decide) ?_
          refine lv_istore_n (lv' := [(3, .int 0), (0, .ref (ad 0)), (1, .int (nI n')), (2, .int 1)]) hx hb dX4_law_150 rfl hl (by decide) rfl (fun ls hl => ?_)
          refine lp_X4_lawB (mm_st w 28 (-1)) (cn := n') X ?_ 5 0 (by omega) (by omega) _ _ _ hH (lv_sub hl [0, 1, 2] rfl)
          intro H locs ls hH hl
          refine lv_iload_n hx hb dX4_law_174 rfl (lv_at hl 1 rfl) ?_
          exact mm_ri hx hb hr hlocks hT hH rfl dX4_law_175 (⟨⟨fun k a b c d e f => by rw [pCopy_1]; exact (hρ.1.1 k a b c d e f).trans ((hs.1 k c e).trans (by simp [mm_st, va_up, f])), fun k a b => by rw [pCopy_o _ a]; exact (hρ.1.2 k a b).trans (hs.2 k b)⟩, by rw [pCopy_1]; exact (hs.1 24 (by decide) (by decide)).symm.trans hρ.2.1, ρ.2 22, hd0, Or.inr ⟨n', d', hR0, hn', by rw [pCopy_1]; exact (hs.1 0 (by decide) (by decide)).symm.trans hρ.2.2, by rw [pCopy_1]; rfl, rfl, fun j hj => by rw [pCopy_at _ _ _ _ _ hj, ← hud]; rfl⟩⟩)
        · skip
          exact absurd c_144 (by decide)
      · skip
        exact absurd c_132 (by decide)
  · skip
    intro w n' f H locs ls hs huf hR0 hH hl
    rw [hp23] at hR0
    refine lv_aload_n hx hb dX4_law_114 rfl (lv_at hl 0 rfl) ?_
    refine lv_iload_n hx hb dX4_law_115 rfl (lv_at hl 2 rfl) ?_
    refine lv_if_eq (tgt := 123) hx hb dX4_law_116 (by decide) (fun c_116 => ?_) (fun c_116 => ?_)
    · skip
      refine lv_aload_n hx hb dX4_law_123 rfl (lv_at hl 0 rfl) ?_
      refine mm_get (v := .int (w.1 27)) hx hb hT hH 27 (by decide) rfl q808 rfl dX4_law_124 ?_
      refine lv_as huf ?_
      refine mm_put hx hb hT hH 28 (by decide) (by decide) rfl rfl q809 rfl dX4_law_127 (fun H locs hH => ?_)
      refine lv_aload_n hx hb dX4_law_130 rfl (lv_at hl 0 rfl) ?_
      refine lv_iload_n hx hb dX4_law_131 rfl (lv_at hl 2 rfl) ?_
      refine lv_if_ne (tgt := 139) hx hb dX4_law_132 (by decide) (fun c_132 => ?_) (fun c_132 => ?_)
      · skip
        exact absurd c_132 (by decide)
      · skip
        refine lv_iconst (v := 1) hx hb dX4_law_135 (by decide) ?_
        refine lv_goto (tgt := 140) hx hb dX4_law_136 (by decide) ?_
        refine lv_iconst (v := 1) hx hb dX4_law_140 (by decide) ?_
        refine mm_cVi (n := 2) (c_X4_throwsIf1 l (mm_st w 28 (nI f)) 1) hx hb hml hT hH (lw_V q902 q904 qs13 q39 q905) (by decide +kernel) ⟨Nat.le_of_ble_eq_true rfl, Nat.le_of_ble_eq_true rfl⟩ rfl hl.1 rfl (Nat.le_of_ble_eq_true rfl) dX4_law_141 ⟨Nat.le_refl _, Nat.le_refl _⟩ (fun r_141 u_141 H locs hp_141 hH => ?_)
        obtain ⟨rfl, rfl⟩ := hp_141
        refine lv_if_eq (tgt := 149) hx hb dX4_law_144 (by decide) (fun c_144 => ?_) (fun c_144 => ?_)
        · skip
          exact absurd c_144 (by decide)
        · skip
          refine lv_iconst (v := 0) hx hb dX4_law_147 (by decide) ?_
          exact mm_ri hx hb hr hlocks hT hH rfl dX4_law_148 (⟨⟨fun k a b c d e f => (hρ.1.1 k a b c d e f).trans ((hs.1 k c e).trans (by simp [mm_st, va_up, a, f])), fun k a b => (hρ.1.2 k a b).trans (hs.2 k b)⟩, (hs.1 24 (by decide) (by decide)).symm.trans hρ.2.1, ρ.2 22, hd0, Or.inl ⟨f, hR0, rfl, rfl, rfl, hp21.symm.trans (hs.2 21 (by decide))⟩⟩)
    · skip
      exact absurd c_116 (by decide)
