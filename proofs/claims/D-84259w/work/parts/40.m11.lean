theorem mm_st_id {σ : mS} {k : Nat} {v : Int32} (h : σ.1 k = v) : mm_st σ k v = σ := by
  unfold mm_st
  have : va_up σ.1 k v = σ.1 := by
    funext j
    by_cases e : j = k
    · subst e; simp [va_up, h]
    · simp [va_up, e]
  rw [this]
theorem mm_st_st (σ : mS) (k : Nat) (v w : Int32) : mm_st (mm_st σ k v) k w = mm_st σ k w := by
  unfold mm_st
  have : va_up (va_up σ.1 k v) k w = va_up σ.1 k w := by
    funext j
    by_cases e : j = k
    · simp [va_up, e]
    · simp [va_up, e]
  rw [show (va_up σ.1 k v, σ.2).1 = va_up σ.1 k v from rfl, this]
theorem mm_st_cm (σ : mS) {k j : Nat} (h : k ≠ j) (v w : Int32) : mm_st (mm_st σ k v) j w = mm_st (mm_st σ j w) k v := by
  unfold mm_st
  have : va_up (va_up σ.1 k v) j w = va_up (va_up σ.1 j w) k v := by
    funext z
    by_cases e : z = k
    · by_cases e2 : z = j
      · exact absurd (e.symm.trans e2) h
      · simp [va_up, e, h]
    · by_cases e2 : z = j
      · simp [va_up, e2, Ne.symm h]
      · simp [va_up, e, e2]
  rw [show (va_up σ.1 k v, σ.2).1 = va_up σ.1 k v from rfl, show (va_up σ.1 j w, σ.2).1 = va_up σ.1 j w from rfl, this]
/-- where a run of signs in lo..hi ends, from p, at most n on -/
def pSk (tp : Nat → Int32) (lo hi : Int32) : Nat → Nat → Nat
  | 0, p => p
  | n + 1, p => if lo ≤ tp p ∧ tp p ≤ hi then pSk tp lo hi n (p + 1) else p
theorem pSk_ge (tp : Nat → Int32) (lo hi : Int32) : ∀ n p, p ≤ pSk tp lo hi n p ∧ pSk tp lo hi n p ≤ p + n
  | 0, p => ⟨Nat.le_refl _, Nat.le_refl _⟩
  | n + 1, p => by
    rw [pSk]
    split
    · have := pSk_ge tp lo hi n (p + 1)
      omega
    · omega
theorem pSk_eq (tp : Nat → Int32) (lo hi : Int32) : ∀ n p q, p ≤ q → q ≤ p + n → (∀ j, p ≤ j → j < q → lo ≤ tp j ∧ tp j ≤ hi) → (q = p + n ∨ ¬ (lo ≤ tp q ∧ tp q ≤ hi)) → pSk tp lo hi n p = q
  | 0, p, q, h1, h2, _, _ => by
    obtain rfl : q = p := by omega
    rfl
  | n + 1, p, q, h1, h2, h3, h4 => by
    rw [pSk]
    by_cases e : p = q
    · subst e
      rcases h4 with h | h
      · omega
      · rw [if_neg h]
    · rw [if_pos (h3 p (Nat.le_refl _) (by omega))]
      exact pSk_eq tp lo hi n (p + 1) q (by omega) (by omega) (fun j a b => h3 j (by omega) b) (h4.imp (fun h => by omega) id)
def pSkip (tp : Nat → Int32) (lo hi : Int32) (e p : Nat) : Nat := pSk tp lo hi (e - p) p
theorem pSkip_b {tp : Nat → Int32} {lo hi : Int32} {e p : Nat} (h : p ≤ e) : p ≤ pSkip tp lo hi e p ∧ pSkip tp lo hi e p ≤ e := by
  have := pSk_ge tp lo hi (e - p) p
  unfold pSkip
  omega
theorem pSkip_eq {tp : Nat → Int32} {lo hi : Int32} {e p q : Nat} (h1 : p ≤ q) (h2 : q ≤ e) (h3 : ∀ j, p ≤ j → j < q → lo ≤ tp j ∧ tp j ≤ hi) (h4 : ¬ (q < e ∧ lo ≤ tp q ∧ tp q ≤ hi)) : pSkip tp lo hi e p = q :=
  pSk_eq tp lo hi (e - p) p q h1 (by omega) h3 (by
    by_cases e2 : q = e
    · exact Or.inl (by omega)
    · exact Or.inr (fun h => h4 ⟨by omega, h⟩))
def pNum (tp : Nat → Int32) (b : Nat) : Nat → Int32
  | 0 => 0
  | n + 1 => 10 * pNum tp b n + tp (b + n) - 48
def pPB (σ : mS) (p b : Nat) : mS := mm_st (mm_st σ 25 (nI p)) 27 (nI b)
theorem pPB_25 (σ : mS) (p b q : Nat) : mm_st (pPB σ p b) 25 (nI q) = pPB σ q b := by
  unfold pPB
  rw [mm_st_cm _ (by decide), mm_st_st]
theorem pPB_b (σ : mS) (p b q z : Nat) : pPB (pPB σ p b) q z = pPB σ q z := by
  unfold pPB
  rw [mm_st_cm (mm_st σ 25 (nI p)) (k := 27) (j := 25) (by decide), mm_st_st, mm_st_st]

set_option maxHeartbeats 1000000 in
set_option maxRecDepth 100000 in
theorem c_X4_isAt (l : Launch) (σ : mS) (lo hi : Int32) {pt en : Nat} (h25 : σ.1 25 = nI pt) (h26 : σ.1 26 = nI en) (hpe : pt ≤ en) (he : en ≤ 400) : mm_Ci l yX4_isAt cX4_isAt 3 (some .boolean) 1 [.int lo, .int hi] σ (fun r u => σ = u ∧ ((1 = r ∧ (pt < en ∧ lo ≤ σ.2 23 pt ∧ σ.2 23 pt ≤ hi)) ∨ (0 = r ∧ ¬ (pt < en ∧ lo ≤ σ.2 23 pt ∧ σ.2 23 pt ≤ hi)))) := by
  refine mm_ofi (by decide) rfl (Nat.le_of_ble_eq_true rfl) ?_
  intro p e s m args below meth c G A ad ls X hH hl
  obtain ⟨hx, hb, hml, hT, hr, hlocks⟩ := id X
  have hl : lv_has ls 3 [(0, .ref (ad 0)), (1, .int lo), (2, .int hi)] := hl
  refine lv_aload_n hx hb dX4_isAt_0 rfl (lv_at hl 0 rfl) ?_
  refine mm_get (v := .int (σ.1 25)) hx hb hT hH 25 (by decide) rfl q806 rfl dX4_isAt_1 ?_
  refine lv_as h25 ?_
  refine lv_aload_n hx hb dX4_isAt_4 rfl (lv_at hl 0 rfl) ?_
  refine mm_get (v := .int (σ.1 26)) hx hb hT hH 26 (by decide) rfl q807 rfl dX4_isAt_5 ?_
  refine lv_as h26 ?_
  refine lv_icmp_ge (tgt := 41) hx hb dX4_isAt_8 (by decide) (fun c_8 => ?_) (fun c_8 => ?_)
  · skip
    have c_8 : en ≤ pt := (nI_leI (a := en) (b := pt) (by omega) (by omega)).mp c_8
    refine lv_iconst (v := 0) hx hb dX4_isAt_41 (by decide) ?_
    exact mm_ri hx hb hr hlocks hT hH rfl dX4_isAt_42 (⟨rfl, Or.inr ⟨rfl, fun h => by omega⟩⟩)
  · skip
    have c_8 : ¬ (en ≤ pt) := fun h => c_8 ((nI_leI (a := en) (b := pt) (by omega) (by omega)).mpr h)
    refine lv_aload_n hx hb dX4_isAt_11 rfl (lv_at hl 0 rfl) ?_
    refine mm_get (v := .ref (ad 23)) hx hb hT hH 23 (by decide) rfl q804 rfl dX4_isAt_12 ?_
    refine lv_aload_n hx hb dX4_isAt_15 rfl (lv_at hl 0 rfl) ?_
    refine mm_get (v := .int (σ.1 25)) hx hb hT hH 25 (by decide) rfl q806 rfl dX4_isAt_16 ?_
    refine lv_as h25 ?_
    refine mm_bld (v := σ.2 23 pt) hx hb hT hH 23 (by decide) rfl pt rfl (show pt < 400 by omega) rfl dX4_isAt_19 ?_
    refine lv_iload_n hx hb dX4_isAt_20 rfl (lv_at hl 1 rfl) ?_
    refine lv_icmp_lt (tgt := 41) hx hb dX4_isAt_21 (by decide) (fun c_21 => ?_) (fun c_21 => ?_)
    · skip
      refine lv_iconst (v := 0) hx hb dX4_isAt_41 (by decide) ?_
      exact mm_ri hx hb hr hlocks hT hH rfl dX4_isAt_42 (⟨rfl, Or.inr ⟨rfl, fun h => absurd h.2.1 (Int32.not_le.mpr c_21)⟩⟩)
    · skip
      refine lv_aload_n hx hb dX4_isAt_24 rfl (lv_at hl 0 rfl) ?_
      refine mm_get (v := .ref (ad 23)) hx hb hT hH 23 (by decide) rfl q804 rfl dX4_isAt_25 ?_
      refine lv_aload_n hx hb dX4_isAt_28 rfl (lv_at hl 0 rfl) ?_
      refine mm_get (v := .int (σ.1 25)) hx hb hT hH 25 (by decide) rfl q806 rfl dX4_isAt_29 ?_
      refine lv_as h25 ?_
      refine mm_bld (v := σ.2 23 pt) hx hb hT hH 23 (by decide) rfl pt rfl (show pt < 400 by omega) rfl dX4_isAt_32 ?_
      refine lv_iload_n hx hb dX4_isAt_33 rfl (lv_at hl 2 rfl) ?_
      refine lv_icmp_gt (tgt := 41) hx hb dX4_isAt_34 (by decide) (fun c_34 => ?_) (fun c_34 => ?_)
      · skip
        refine lv_iconst (v := 0) hx hb dX4_isAt_41 (by decide) ?_
        exact mm_ri hx hb hr hlocks hT hH rfl dX4_isAt_42 (⟨rfl, Or.inr ⟨rfl, fun h => absurd h.2.2 (Int32.not_le.mpr c_34)⟩⟩)
      · skip
        refine lv_iconst (v := 1) hx hb dX4_isAt_37 (by decide) ?_
        refine lv_goto (tgt := 42) hx hb dX4_isAt_38 (by decide) ?_
        exact mm_ri hx hb hr hlocks hT hH rfl dX4_isAt_42 (⟨rfl, Or.inl ⟨rfl, by omega, in_ge c_21, in_ge c_34⟩⟩)

set_option maxHeartbeats 1000000 in
set_option maxRecDepth 100000 in
theorem lp_X4_blanks {p : Program} {l : Launch} {e : Env} {s : State} {m : MethodId} {args : Array Value} {below : List Frame} {meth : Method} {c : Code} {Q : State → Prop} {G : gw_G} {A : Nat → Prop} {H0 : Heap} {ad : Nat → Nat} (σ : mS) {pt en : Nat} (h25 : σ.1 25 = nI pt) (h26 : σ.1 26 = nI en) (hpe : pt ≤ en) (he : en ≤ 400) (X : gx_X RX4 cX4_blanks 1 none G p s m args meth c) (K : (∀ (H : Heap) (locs : List Loc) (ls : Array Slot), mm_H G A H0 H locs ad (mm_st σ 25 (nI (pSkip (σ.2 23) 32 32 en pt))) → lv_has ls 1 [(0, .ref (ad 0))] → W p l e (mm_rm 2) s m args below meth c H locs 0 0 Q (F0 m 24 ls []))) : ∀ (n : Nat) (i : Nat), en < i + n → pt ≤ i → i ≤ en → (∀ j, pt ≤ j → j < i → 32 ≤ σ.2 23 j ∧ σ.2 23 j ≤ 32) → ∀ (H : Heap) (locs : List Loc) (ls : Array Slot), mm_H G A H0 H locs ad (mm_st σ 25 (nI i)) → lv_has ls 1 [(0, .ref (ad 0))] → W p l e (mm_rm 2) s m args below meth c H locs 0 0 Q (F0 m 0 ls []) := by
  obtain ⟨hx, hb, hml, hT, hr, hlocks⟩ := id X
  intro n
  induction n with
  | zero =>
    intro i h0 hi1 hi hall
    exact absurd h0 (by omega)
  | succ n ih =>
    intro i h0 hi1 hi hall H locs ls hH hl
    refine lv_aload_n hx hb dX4_blanks_0 rfl (lv_at hl 0 rfl) ?_
    refine lv_bipush (v := 32) hx hb dX4_blanks_1 (by decide) ?_
    refine lv_bipush (v := 32) hx hb dX4_blanks_3 (by decide) ?_
    refine mm_cVi (n := 2) (c_X4_isAt l (mm_st σ 25 (nI i)) 32 32 (pt := i) (en := en) rfl h26 (by omega) he) hx hb hml hT hH (lw_V q1045 q1047 qs28 q39 q1048) (by decide +kernel) ⟨Nat.le_of_ble_eq_true rfl, Nat.le_of_ble_eq_true rfl⟩ rfl hl.1 rfl (Nat.le_of_ble_eq_true rfl) dX4_blanks_5 ⟨Nat.le_refl _, Nat.le_refl _⟩ (fun r_5 u_5 H locs hp_5 hH => ?_)
    obtain ⟨rfl, hp_5⟩ := hp_5
    rcases hp_5 with ⟨rfl, h_5⟩ | ⟨rfl, h_5⟩
    · skip
      refine lv_if_eq (tgt := 24) hx hb dX4_blanks_8 (by decide) (fun c_8 => ?_) (fun c_8 => ?_)
      · skip
        exact absurd c_8 (by decide)
      · skip
        refine lv_aload_n hx hb dX4_blanks_11 rfl (lv_at hl 0 rfl) ?_
        refine lv_dup hx hb dX4_blanks_12 rfl ?_
        refine mm_get (v := .int ((mm_st σ 25 (nI i)).1 25)) hx hb hT hH 25 (by decide) rfl q806 rfl dX4_blanks_13 ?_
        refine lv_as rfl ?_
        refine lv_iconst (v := 1) hx hb dX4_blanks_16 (by decide) ?_
        refine lv_iadd hx hb dX4_blanks_17 ?_
        refine lv_as (nI_add i 1) ?_
        refine mm_put hx hb hT hH 25 (by decide) (by decide) rfl rfl q806 rfl dX4_blanks_18 (fun H locs hH => ?_)
        refine lv_goto (tgt := 0) hx hb dX4_blanks_21 (by decide) ?_
        rw [mm_st_st] at hH
        exact ih (i + 1) (by omega) (by omega) (by omega) (fun j h1 h2 => by rcases Nat.lt_or_ge j i with y | y; exact hall j h1 y; rw [show j = i by omega]; exact h_5.2) _ _ _ hH (lv_sub hl [0] rfl)
    · skip
      obtain rfl : pSkip (σ.2 23) 32 32 en pt = i := pSkip_eq hi1 hi hall h_5
      refine lv_if_eq (tgt := 24) hx hb dX4_blanks_8 (by decide) (fun c_8 => ?_) (fun c_8 => ?_)
      · skip
        exact K _ _ _ hH (lv_sub hl [0] rfl)
      · skip
        exact absurd c_8 (by decide)

set_option maxHeartbeats 1000000 in
set_option maxRecDepth 100000 in
theorem c_X4_blanks (l : Launch) (σ : mS) {pt en : Nat} (h25 : σ.1 25 = nI pt) (h26 : σ.1 26 = nI en) (hpe : pt ≤ en) (he : en ≤ 400) : mm_Cv l yX4_blanks cX4_blanks 1 2 [] σ (fun u => pPB σ (pSkip (σ.2 23) 32 32 en pt) (pSkip (σ.2 23) 32 32 en pt) = u) := by
  refine mm_ofv (by decide) rfl (Nat.le_of_ble_eq_true rfl) ?_
  intro p e s m args below meth c G A ad ls X hH hl
  obtain ⟨hx, hb, hml, hT, hr, hlocks⟩ := id X
  have hl : lv_has ls 1 [(0, .ref (ad 0))] := hl
  rw [← mm_st_id h25] at hH
  refine lp_X4_blanks σ h25 h26 hpe he X ?_ (en + 1) pt (by omega) (Nat.le_refl _) hpe (fun j h1 h2 => by omega) _ _ _ hH hl
  intro H locs ls hH hl
  refine lv_aload_n hx hb dX4_blanks_24 rfl (lv_at hl 0 rfl) ?_
  refine lv_aload_n hx hb dX4_blanks_25 rfl (lv_at hl 0 rfl) ?_
  refine mm_get (v := .int ((mm_st σ 25 (nI (pSkip (σ.2 23) 32 32 en pt))).1 25)) hx hb hT hH 25 (by decide) rfl q806 rfl dX4_blanks_26 ?_
  refine lv_as rfl ?_
  refine mm_put hx hb hT hH 27 (by decide) (by decide) rfl rfl q808 rfl dX4_blanks_29 (fun H locs hH => ?_)
  exact mm_rv hx hb hr hlocks hT hH dX4_blanks_32 rfl

set_option maxHeartbeats 1000000 in
set_option maxRecDepth 100000 in
theorem lp_X4_word {p : Program} {l : Launch} {e : Env} {s : State} {m : MethodId} {args : Array Value} {below : List Frame} {meth : Method} {c : Code} {Q : State → Prop} {G : gw_G} {A : Nat → Prop} {H0 : Heap} {ad : Nat → Nat} (σ : mS) {pt en : Nat} (h25 : σ.1 25 = nI pt) (h26 : σ.1 26 = nI en) (hpe : pt ≤ en) (he : en ≤ 400) (X : gx_X RX4 cX4_word 1 none G p s m args meth c) (K : (∀ (H : Heap) (locs : List Loc) (ls : Array Slot), mm_H G A H0 H locs ad (pPB σ (pSkip (σ.2 23) 97 122 en (pSkip (σ.2 23) 32 32 en pt)) (pSkip (σ.2 23) 32 32 en pt)) → lv_has ls 1 [(0, .ref (ad 0))] → W p l e (mm_rm 3) s m args below meth c H locs 0 0 Q (F0 m 28 ls []))) : ∀ (n : Nat) (i : Nat), en < i + n → (pSkip (σ.2 23) 32 32 en pt) ≤ i → i ≤ en → (∀ j, (pSkip (σ.2 23) 32 32 en pt) ≤ j → j < i → 97 ≤ σ.2 23 j ∧ σ.2 23 j ≤ 122) → ∀ (H : Heap) (locs : List Loc) (ls : Array Slot), mm_H G A H0 H locs ad (pPB σ i (pSkip (σ.2 23) 32 32 en pt)) → lv_has ls 1 [(0, .ref (ad 0))] → W p l e (mm_rm 3) s m args below meth c H locs 0 0 Q (F0 m 4 ls []) := by
  obtain ⟨hx, hb, hml, hT, hr, hlocks⟩ := id X
  intro n
  induction n with
  | zero =>
    intro i h0 hi1 hi hall
    exact absurd h0 (by omega)
  | succ n ih =>
    intro i h0 hi1 hi hall H locs ls hH hl
    refine lv_aload_n hx hb dX4_word_4 rfl (lv_at hl 0 rfl) ?_
    refine lv_bipush (v := 97) hx hb dX4_word_5 (by decide) ?_
    refine lv_bipush (v := 122) hx hb dX4_word_7 (by decide) ?_
    refine mm_cVi (n := 2) (c_X4_isAt l (pPB σ i (pSkip (σ.2 23) 32 32 en pt)) 97 122 (pt := i) (en := en) rfl h26 (by omega) he) hx hb hml hT hH (lw_V q1045 q1047 qs28 q39 q1048) (by decide +kernel) ⟨Nat.le_of_ble_eq_true rfl, Nat.le_of_ble_eq_true rfl⟩ rfl hl.1 rfl (Nat.le_of_ble_eq_true rfl) dX4_word_9 ⟨Nat.le_refl _, Nat.le_refl _⟩ (fun r_9 u_9 H locs hp_9 hH => ?_)
    obtain ⟨rfl, hp_9⟩ := hp_9
    rcases hp_9 with ⟨rfl, h_9⟩ | ⟨rfl, h_9⟩
    · skip
      refine lv_if_eq (tgt := 28) hx hb dX4_word_12 (by decide) (fun c_12 => ?_) (fun c_12 => ?_)
      · skip
        exact absurd c_12 (by decide)
      · skip
        refine lv_aload_n hx hb dX4_word_15 rfl (lv_at hl 0 rfl) ?_
        refine lv_dup hx hb dX4_word_16 rfl ?_
        refine mm_get (v := .int ((pPB σ i (pSkip (σ.2 23) 32 32 en pt)).1 25)) hx hb hT hH 25 (by decide) rfl q806 rfl dX4_word_17 ?_
        refine lv_as rfl ?_
        refine lv_iconst (v := 1) hx hb dX4_word_20 (by decide) ?_
        refine lv_iadd hx hb dX4_word_21 ?_
        refine lv_as (nI_add i 1) ?_
        refine mm_put hx hb hT hH 25 (by decide) (by decide) rfl rfl q806 rfl dX4_word_22 (fun H locs hH => ?_)
        refine lv_goto (tgt := 4) hx hb dX4_word_25 (by decide) ?_
        rw [pPB_25] at hH
        exact ih (i + 1) (by omega) (by omega) (by omega) (fun j h1 h2 => by rcases Nat.lt_or_ge j i with y | y; exact hall j h1 y; rw [show j = i by omega]; exact h_9.2) _ _ _ hH (lv_sub hl [0] rfl)
    · skip
      obtain rfl : (pSkip (σ.2 23) 97 122 en (pSkip (σ.2 23) 32 32 en pt)) = i := pSkip_eq hi1 hi hall h_9
      refine lv_if_eq (tgt := 28) hx hb dX4_word_12 (by decide) (fun c_12 => ?_) (fun c_12 => ?_)
      · skip
        exact K _ _ _ hH (lv_sub hl [0] rfl)
      · skip
        exact absurd c_12 (by decide)

set_option maxHeartbeats 1000000 in
set_option maxRecDepth 100000 in
theorem c_X4_word (l : Launch) (σ : mS) {pt en : Nat} (h25 : σ.1 25 = nI pt) (h26 : σ.1 26 = nI en) (hpe : pt ≤ en) (he : en ≤ 400) : mm_Cv l yX4_word cX4_word 1 3 [] σ (fun u => pPB σ (pSkip (σ.2 23) 97 122 en (pSkip (σ.2 23) 32 32 en pt)) (pSkip (σ.2 23) 32 32 en pt) = u) := by
  refine mm_ofv (by decide) rfl (Nat.le_of_ble_eq_true rfl) ?_
  intro p e s m args below meth c G A ad ls X hH hl
  obtain ⟨hx, hb, hml, hT, hr, hlocks⟩ := id X
  have hl : lv_has ls 1 [(0, .ref (ad 0))] := hl
  have hbb := pSkip_b (tp := σ.2 23) (lo := 32) (hi := 32) hpe
  refine lv_aload_n hx hb dX4_word_0 rfl (lv_at hl 0 rfl) ?_
  refine mm_cVv (n := 0) (c_X4_blanks l σ (pt := pt) (en := en) h25 h26 (by omega) he) hx hb hml hT hH (lw_V q1041 q1043 qs27 q39 q1044) (by decide +kernel) ⟨Nat.le_of_ble_eq_true rfl, Nat.le_of_ble_eq_true rfl⟩ rfl hl.1 rfl (Nat.le_of_ble_eq_true rfl) dX4_word_1 ⟨Nat.le_refl _, Nat.le_refl _⟩ (fun u_1 H locs hp_1 hH => ?_)
  obtain rfl := hp_1
  refine lp_X4_word σ h25 h26 hpe he X ?_ (en + 1) (pSkip (σ.2 23) 32 32 en pt) (by omega) (Nat.le_refl _) (by omega) (fun j h1 h2 => by omega) _ _ _ hH (lv_sub hl [0] rfl)
  intro H locs ls hH hl
  exact mm_rv hx hb hr hlocks hT hH dX4_word_28 rfl

set_option maxHeartbeats 1000000 in
set_option maxRecDepth 100000 in
theorem lp_X4_number {p : Program} {l : Launch} {e : Env} {s : State} {m : MethodId} {args : Array Value} {below : List Frame} {meth : Method} {c : Code} {Q : State → Prop} {G : gw_G} {A : Nat → Prop} {H0 : Heap} {ad : Nat → Nat} (σ : mS) {pt en : Nat} (h25 : σ.1 25 = nI pt) (h26 : σ.1 26 = nI en) (hpe : pt ≤ en) (he : en ≤ 400) (to : Nat) (hi : Int32) (X : gx_X RX4 cX4_number 4 (some .boolean) G p s m args meth c) (K : (∀ (H : Heap) (locs : List Loc) (ls : Array Slot), mm_H G A H0 H locs ad (pPB σ (pSkip (σ.2 23) 48 57 en (pSkip (σ.2 23) 32 32 en pt)) (pSkip (σ.2 23) 32 32 en pt)) → lv_has ls 4 [(0, .ref (ad 0)), (1, .int (nI to)), (2, .int hi), (3, .int (pNum (σ.2 23) (pSkip (σ.2 23) 32 32 en pt) (min 4 ((pSkip (σ.2 23) 48 57 en (pSkip (σ.2 23) 32 32 en pt)) - (pSkip (σ.2 23) 32 32 en pt)))))] → W p l e (mm_rm 3) s m args below meth c H locs 0 0 Q (F0 m 65 ls []))) : ∀ (n : Nat) (i : Nat), en < i + n → (pSkip (σ.2 23) 32 32 en pt) ≤ i → i ≤ en → (∀ j, (pSkip (σ.2 23) 32 32 en pt) ≤ j → j < i → 48 ≤ σ.2 23 j ∧ σ.2 23 j ≤ 57) → ∀ (H : Heap) (locs : List Loc) (ls : Array Slot), mm_H G A H0 H locs ad (pPB σ i (pSkip (σ.2 23) 32 32 en pt)) → lv_has ls 4 [(0, .ref (ad 0)), (1, .int (nI to)), (2, .int hi), (3, .int (pNum (σ.2 23) (pSkip (σ.2 23) 32 32 en pt) (min 4 (i - (pSkip (σ.2 23) 32 32 en pt)))))] → W p l e (mm_rm 3) s m args below meth c H locs 0 0 Q (F0 m 6 ls []) := by
  obtain ⟨hx, hb, hml, hT, hr, hlocks⟩ := id X
  intro n
  induction n with
  | zero =>
    intro i h0 hi1 hi2 hall
    exact absurd h0 (by omega)
  | succ n ih =>
    intro i h0 hi1 hi2 hall H locs ls hH hl
    refine lv_aload_n hx hb dX4_number_6 rfl (lv_at hl 0 rfl) ?_
    refine lv_bipush (v := 48) hx hb dX4_number_7 (by decide) ?_
    refine lv_bipush (v := 57) hx hb dX4_number_9 (by decide) ?_
    refine mm_cVi (n := 2) (c_X4_isAt l (pPB σ i (pSkip (σ.2 23) 32 32 en pt)) 48 57 (pt := i) (en := en) rfl h26 (by omega) he) hx hb hml hT hH (lw_V q1045 q1047 qs28 q39 q1048) (by decide +kernel) ⟨Nat.le_of_ble_eq_true rfl, Nat.le_of_ble_eq_true rfl⟩ rfl hl.1 rfl (Nat.le_of_ble_eq_true rfl) dX4_number_11 ⟨Nat.le_refl _, Nat.le_refl _⟩ (fun r_11 u_11 H locs hp_11 hH => ?_)
    obtain ⟨rfl, hp_11⟩ := hp_11
    rcases hp_11 with ⟨rfl, h_11⟩ | ⟨rfl, h_11⟩
    · skip
      refine lv_if_eq (tgt := 65) hx hb dX4_number_14 (by decide) (fun c_14 => ?_) (fun c_14 => ?_)
      · skip
        exact absurd c_14 (by decide)
      · skip
        refine lv_aload_n hx hb dX4_number_17 rfl (lv_at hl 0 rfl) ?_
        refine mm_get (v := .int ((pPB σ i (pSkip (σ.2 23) 32 32 en pt)).1 25)) hx hb hT hH 25 (by decide) rfl q806 rfl dX4_number_18 ?_
        refine lv_as rfl ?_
        refine lv_aload_n hx hb dX4_number_21 rfl (lv_at hl 0 rfl) ?_
        refine mm_get (v := .int ((pPB σ i (pSkip (σ.2 23) 32 32 en pt)).1 27)) hx hb hT hH 27 (by decide) rfl q808 rfl dX4_number_22 ?_
        refine lv_as rfl ?_
        refine lv_isub hx hb dX4_number_25 ?_
        refine lv_as (z := nI (i - (pSkip (σ.2 23) 32 32 en pt))) (pk_sub hi1) ?_
        refine lv_iconst (v := 4) hx hb dX4_number_26 (by decide) ?_
        refine lv_icmp_ge (tgt := 50) hx hb dX4_number_27 (by decide) (fun c_27 => ?_) (fun c_27 => ?_)
        · skip
          have c_27 : 4 ≤ (i - (pSkip (σ.2 23) 32 32 en pt)) := (nI_leI (a := 4) (b := (i - (pSkip (σ.2 23) 32 32 en pt))) (by omega) (by omega)).mp c_27
          refine lv_iload_n hx hb dX4_number_50 rfl (lv_at hl 3 rfl) ?_
          refine lv_istore_n (lv' := [(3, .int (pNum (σ.2 23) (pSkip (σ.2 23) 32 32 en pt) (min 4 (i - (pSkip (σ.2 23) 32 32 en pt))))), (0, .ref (ad 0)), (1, .int (nI to)), (2, .int hi)]) hx hb dX4_number_51 rfl hl (by decide) rfl (fun ls hl => ?_)
          refine lv_aload_n hx hb dX4_number_52 rfl (lv_at hl 1 rfl) ?_
          refine lv_dup hx hb dX4_number_53 rfl ?_
          refine mm_get (v := .int ((pPB σ i (pSkip (σ.2 23) 32 32 en pt)).1 25)) hx hb hT hH 25 (by decide) rfl q806 rfl dX4_number_54 ?_
          refine lv_as rfl ?_
          refine lv_iconst (v := 1) hx hb dX4_number_57 (by decide) ?_
          refine lv_iadd hx hb dX4_number_58 ?_
          refine lv_as (nI_add i 1) ?_
          refine mm_put hx hb hT hH 25 (by decide) (by decide) rfl rfl q806 rfl dX4_number_59 (fun H locs hH => ?_)
          refine lv_goto (tgt := 6) hx hb dX4_number_62 (by decide) ?_
          rw [pPB_25] at hH
          have ev : pNum (σ.2 23) (pSkip (σ.2 23) 32 32 en pt) (min 4 ((i + 1) - (pSkip (σ.2 23) 32 32 en pt))) = pNum (σ.2 23) (pSkip (σ.2 23) 32 32 en pt) (min 4 (i - (pSkip (σ.2 23) 32 32 en pt))) := by rw [show min 4 (i + 1 - (pSkip (σ.2 23) 32 32 en pt)) = min 4 (i - (pSkip (σ.2 23) 32 32 en pt)) by omega]
          have hl := lv_sub (l' := [(0, .ref (ad 0)), (1, .int (nI to)), (2, .int hi), (3, .int (pNum (σ.2 23) (pSkip (σ.2 23) 32 32 en pt) (min 4 (i - (pSkip (σ.2 23) 32 32 en pt)))))]) hl [1, 2, 3, 0] rfl
          rw [← ev] at hl
          exact ih (i + 1) (by omega) (by omega) (by omega) (fun j h1 h2 => by rcases Nat.lt_or_ge j i with y | y; exact hall j h1 y; rw [show j = i by omega]; exact h_11.2) _ _ _ hH hl
        · skip
          have c_27 : ¬ (4 ≤ (i - (pSkip (σ.2 23) 32 32 en pt))) := fun h => c_27 ((nI_leI (a := 4) (b := (i - (pSkip (σ.2 23) 32 32 en pt))) (by omega) (by omega)).mpr h)
          refine lv_bipush (v := 10) hx hb dX4_number_30 (by decide) ?_
          refine lv_iload_n hx hb dX4_number_32 rfl (lv_at hl 3 rfl) ?_
          refine lv_imul hx hb dX4_number_33 ?_
          refine lv_aload_n hx hb dX4_number_34 rfl (lv_at hl 0 rfl) ?_
          refine mm_get (v := .ref (ad 23)) hx hb hT hH 23 (by decide) rfl q804 rfl dX4_number_35 ?_
          refine lv_aload_n hx hb dX4_number_38 rfl (lv_at hl 0 rfl) ?_
          refine mm_get (v := .int ((pPB σ i (pSkip (σ.2 23) 32 32 en pt)).1 25)) hx hb hT hH 25 (by decide) rfl q806 rfl dX4_number_39 ?_
          refine lv_as rfl ?_
          refine mm_bld (v := σ.2 23 i) hx hb hT hH 23 (by decide) rfl i rfl (show i < 400 by omega) rfl dX4_number_42 ?_
          refine lv_iadd hx hb dX4_number_43 ?_
          refine lv_bipush (v := 48) hx hb dX4_number_44 (by decide) ?_
          refine lv_isub hx hb dX4_number_46 ?_
          refine lv_goto (tgt := 51) hx hb dX4_number_47 (by decide) ?_
          refine lv_istore_n (lv' := [(3, .int (((10 * (pNum (σ.2 23) (pSkip (σ.2 23) 32 32 en pt) (min 4 (i - (pSkip (σ.2 23) 32 32 en pt))))) + (σ.2 23 i)) - 48)), (0, .ref (ad 0)), (1, .int (nI to)), (2, .int hi)]) hx hb dX4_number_51 rfl hl (by decide) rfl (fun ls hl => ?_)
          refine lv_aload_n hx hb dX4_number_52 rfl (lv_at hl 1 rfl) ?_
          refine lv_dup hx hb dX4_number_53 rfl ?_
          refine mm_get (v := .int ((pPB σ i (pSkip (σ.2 23) 32 32 en pt)).1 25)) hx hb hT hH 25 (by decide) rfl q806 rfl dX4_number_54 ?_
          refine lv_as rfl ?_
          refine lv_iconst (v := 1) hx hb dX4_number_57 (by decide) ?_
          refine lv_iadd hx hb dX4_number_58 ?_
          refine lv_as (nI_add i 1) ?_
          refine mm_put hx hb hT hH 25 (by decide) (by decide) rfl rfl q806 rfl dX4_number_59 (fun H locs hH => ?_)
          refine lv_goto (tgt := 6) hx hb dX4_number_62 (by decide) ?_
          rw [pPB_25] at hH
          have ev : pNum (σ.2 23) (pSkip (σ.2 23) 32 32 en pt) (min 4 ((i + 1) - (pSkip (σ.2 23) 32 32 en pt))) = ((10 * (pNum (σ.2 23) (pSkip (σ.2 23) 32 32 en pt) (min 4 (i - (pSkip (σ.2 23) 32 32 en pt))))) + (σ.2 23 i)) - 48 := by rw [show min 4 (i + 1 - (pSkip (σ.2 23) 32 32 en pt)) = (i - (pSkip (σ.2 23) 32 32 en pt)) + 1 by omega, pNum, show min 4 (i - (pSkip (σ.2 23) 32 32 en pt)) = i - (pSkip (σ.2 23) 32 32 en pt) by omega, show (pSkip (σ.2 23) 32 32 en pt) + (i - (pSkip (σ.2 23) 32 32 en pt)) = i by omega]
          have hl := lv_sub (l' := [(0, .ref (ad 0)), (1, .int (nI to)), (2, .int hi), (3, .int (((10 * (pNum (σ.2 23) (pSkip (σ.2 23) 32 32 en pt) (min 4 (i - (pSkip (σ.2 23) 32 32 en pt))))) + (σ.2 23 i)) - 48))]) hl [1, 2, 3, 0] rfl
          rw [← ev] at hl
          exact ih (i + 1) (by omega) (by omega) (by omega) (fun j h1 h2 => by rcases Nat.lt_or_ge j i with y | y; exact hall j h1 y; rw [show j = i by omega]; exact h_11.2) _ _ _ hH hl
    · skip
      obtain rfl : (pSkip (σ.2 23) 48 57 en (pSkip (σ.2 23) 32 32 en pt)) = i := pSkip_eq hi1 hi2 hall h_11
      refine lv_if_eq (tgt := 65) hx hb dX4_number_14 (by decide) (fun c_14 => ?_) (fun c_14 => ?_)
      · skip
        exact K _ _ _ hH (lv_sub hl [0, 1, 2, 3] rfl)
      · skip
        exact absurd c_14 (by decide)

set_option maxHeartbeats 1000000 in
set_option maxRecDepth 100000 in
theorem c_X4_number (l : Launch) (σ : mS) {pt en : Nat} (h25 : σ.1 25 = nI pt) (h26 : σ.1 26 = nI en) (hpe : pt ≤ en) (he : en ≤ 400) (to : Nat) (hto : to < 4) (hi : Int32) : mm_Ci l yX4_number cX4_number 4 (some .boolean) 3 [.int (nI to), .int hi] σ (fun r u => mm_ar (pPB σ (pSkip (σ.2 23) 48 57 en (pSkip (σ.2 23) 32 32 en pt)) (pSkip (σ.2 23) 32 32 en pt)) 22 to (pNum (σ.2 23) (pSkip (σ.2 23) 32 32 en pt) (min 4 ((pSkip (σ.2 23) 48 57 en (pSkip (σ.2 23) 32 32 en pt)) - (pSkip (σ.2 23) 32 32 en pt)))) = u ∧ ((1 = r ∧ ((pSkip (σ.2 23) 32 32 en pt) < (pSkip (σ.2 23) 48 57 en (pSkip (σ.2 23) 32 32 en pt)) ∧ (pSkip (σ.2 23) 48 57 en (pSkip (σ.2 23) 32 32 en pt)) - (pSkip (σ.2 23) 32 32 en pt) < 5 ∧ pNum (σ.2 23) (pSkip (σ.2 23) 32 32 en pt) (min 4 ((pSkip (σ.2 23) 48 57 en (pSkip (σ.2 23) 32 32 en pt)) - (pSkip (σ.2 23) 32 32 en pt))) ≤ hi)) ∨ (0 = r ∧ ¬ ((pSkip (σ.2 23) 32 32 en pt) < (pSkip (σ.2 23) 48 57 en (pSkip (σ.2 23) 32 32 en pt)) ∧ (pSkip (σ.2 23) 48 57 en (pSkip (σ.2 23) 32 32 en pt)) - (pSkip (σ.2 23) 32 32 en pt) < 5 ∧ pNum (σ.2 23) (pSkip (σ.2 23) 32 32 en pt) (min 4 ((pSkip (σ.2 23) 48 57 en (pSkip (σ.2 23) 32 32 en pt)) - (pSkip (σ.2 23) 32 32 en pt))) ≤ hi)))) := by
  refine mm_ofi (by decide) rfl (Nat.le_of_ble_eq_true rfl) ?_
  intro p e s m args below meth c G A ad ls X hH hl
  obtain ⟨hx, hb, hml, hT, hr, hlocks⟩ := id X
  have hl : lv_has ls 4 [(0, .ref (ad 0)), (1, .int (nI to)), (2, .int hi)] := hl
  have hbb := pSkip_b (tp := σ.2 23) (lo := 32) (hi := 32) hpe
  refine lv_aload_n hx hb dX4_number_0 rfl (lv_at hl 0 rfl) ?_
  refine mm_cVv (n := 0) (c_X4_blanks l σ (pt := pt) (en := en) h25 h26 (by omega) he) hx hb hml hT hH (lw_V q1041 q1043 qs27 q39 q1044) (by decide +kernel) ⟨Nat.le_of_ble_eq_true rfl, Nat.le_of_ble_eq_true rfl⟩ rfl hl.1 rfl (Nat.le_of_ble_eq_true rfl) dX4_number_1 ⟨Nat.le_refl _, Nat.le_refl _⟩ (fun u_1 H locs hp_1 hH => ?_)
  obtain rfl := hp_1
  refine lv_iconst (v := 0) hx hb dX4_number_4 (by decide) ?_
  refine lv_istore_n (lv' := [(3, .int 0), (0, .ref (ad 0)), (1, .int (nI to)), (2, .int hi)]) hx hb dX4_number_5 rfl hl (by decide) rfl (fun ls hl => ?_)
  have h00 : pNum (σ.2 23) (pSkip (σ.2 23) 32 32 en pt) (min 4 ((pSkip (σ.2 23) 32 32 en pt) - (pSkip (σ.2 23) 32 32 en pt))) = 0 := by rw [show min 4 ((pSkip (σ.2 23) 32 32 en pt) - (pSkip (σ.2 23) 32 32 en pt)) = 0 by omega]; rfl
  have hl := lv_sub (l' := [(0, .ref (ad 0)), (1, .int (nI to)), (2, .int hi), (3, .int 0)]) hl [1, 2, 3, 0] rfl
  rw [← h00] at hl
  refine lp_X4_number σ h25 h26 hpe he to hi X ?_ (en + 1) (pSkip (σ.2 23) 32 32 en pt) (by omega) (Nat.le_refl _) (by omega) (fun j h1 h2 => by omega) _ _ _ hH hl
  intro H locs ls hH hl
  have hq := pSkip_b (tp := σ.2 23) (lo := 48) (hi := 57) (e := en) (p := (pSkip (σ.2 23) 32 32 en pt)) (by omega)
  refine lv_aload_n hx hb dX4_number_65 rfl (lv_at hl 0 rfl) ?_
  refine mm_get (v := .ref (ad 22)) hx hb hT hH 22 (by decide) rfl q803 rfl dX4_number_66 ?_
  refine lv_iload_n hx hb dX4_number_69 rfl (lv_at hl 1 rfl) ?_
  refine lv_iload_n hx hb dX4_number_70 rfl (lv_at hl 3 rfl) ?_
  refine mm_ist hx hb hT hH 22 (by decide) rfl to rfl (show to < 4 by omega) dX4_number_71 (fun H locs hH => ?_)
  refine lv_aload_n hx hb dX4_number_72 rfl (lv_at hl 0 rfl) ?_
  refine mm_get (v := .int ((pPB σ (pSkip (σ.2 23) 48 57 en (pSkip (σ.2 23) 32 32 en pt)) (pSkip (σ.2 23) 32 32 en pt)).1 25)) hx hb hT hH 25 (by decide) rfl q806 rfl dX4_number_73 ?_
  refine lv_as rfl ?_
  refine lv_aload_n hx hb dX4_number_76 rfl (lv_at hl 0 rfl) ?_
  refine mm_get (v := .int ((pPB σ (pSkip (σ.2 23) 48 57 en (pSkip (σ.2 23) 32 32 en pt)) (pSkip (σ.2 23) 32 32 en pt)).1 27)) hx hb hT hH 27 (by decide) rfl q808 rfl dX4_number_77 ?_
  refine lv_as rfl ?_
  refine lv_icmp_le (tgt := 105) hx hb dX4_number_80 (by decide) (fun c_80 => ?_) (fun c_80 => ?_)
  · skip
    have c_80 : (pSkip (σ.2 23) 48 57 en (pSkip (σ.2 23) 32 32 en pt)) ≤ (pSkip (σ.2 23) 32 32 en pt) := (nI_leI (a := (pSkip (σ.2 23) 48 57 en (pSkip (σ.2 23) 32 32 en pt))) (b := (pSkip (σ.2 23) 32 32 en pt)) (by omega) (by omega)).mp c_80
    refine lv_iconst (v := 0) hx hb dX4_number_105 (by decide) ?_
    exact mm_ri hx hb hr hlocks hT hH rfl dX4_number_106 (⟨rfl, Or.inr ⟨rfl, fun h => by omega⟩⟩)
  · skip
    have c_80 : ¬ ((pSkip (σ.2 23) 48 57 en (pSkip (σ.2 23) 32 32 en pt)) ≤ (pSkip (σ.2 23) 32 32 en pt)) := fun h => c_80 ((nI_leI (a := (pSkip (σ.2 23) 48 57 en (pSkip (σ.2 23) 32 32 en pt))) (b := (pSkip (σ.2 23) 32 32 en pt)) (by omega) (by omega)).mpr h)
    refine lv_aload_n hx hb dX4_number_83 rfl (lv_at hl 0 rfl) ?_
    refine mm_get (v := .int ((pPB σ (pSkip (σ.2 23) 48 57 en (pSkip (σ.2 23) 32 32 en pt)) (pSkip (σ.2 23) 32 32 en pt)).1 25)) hx hb hT hH 25 (by decide) rfl q806 rfl dX4_number_84 ?_
    refine lv_as rfl ?_
    refine lv_aload_n hx hb dX4_number_87 rfl (lv_at hl 0 rfl) ?_
    refine mm_get (v := .int ((pPB σ (pSkip (σ.2 23) 48 57 en (pSkip (σ.2 23) 32 32 en pt)) (pSkip (σ.2 23) 32 32 en pt)).1 27)) hx hb hT hH 27 (by decide) rfl q808 rfl dX4_number_88 ?_
    refine lv_as rfl ?_
    refine lv_isub hx hb dX4_number_91 ?_
    refine lv_as (z := nI ((pSkip (σ.2 23) 48 57 en (pSkip (σ.2 23) 32 32 en pt)) - (pSkip (σ.2 23) 32 32 en pt))) (pk_sub (by omega)) ?_
    refine lv_iconst (v := 5) hx hb dX4_number_92 (by decide) ?_
    refine lv_icmp_ge (tgt := 105) hx hb dX4_number_93 (by decide) (fun c_93 => ?_) (fun c_93 => ?_)
    · skip
      have c_93 : 5 ≤ ((pSkip (σ.2 23) 48 57 en (pSkip (σ.2 23) 32 32 en pt)) - (pSkip (σ.2 23) 32 32 en pt)) := (nI_leI (a := 5) (b := ((pSkip (σ.2 23) 48 57 en (pSkip (σ.2 23) 32 32 en pt)) - (pSkip (σ.2 23) 32 32 en pt))) (by omega) (by omega)).mp c_93
      refine lv_iconst (v := 0) hx hb dX4_number_105 (by decide) ?_
      exact mm_ri hx hb hr hlocks hT hH rfl dX4_number_106 (⟨rfl, Or.inr ⟨rfl, fun h => by omega⟩⟩)
    · skip
      have c_93 : ¬ (5 ≤ ((pSkip (σ.2 23) 48 57 en (pSkip (σ.2 23) 32 32 en pt)) - (pSkip (σ.2 23) 32 32 en pt))) := fun h => c_93 ((nI_leI (a := 5) (b := ((pSkip (σ.2 23) 48 57 en (pSkip (σ.2 23) 32 32 en pt)) - (pSkip (σ.2 23) 32 32 en pt))) (by omega) (by omega)).mpr h)
      refine lv_iload_n hx hb dX4_number_96 rfl (lv_at hl 3 rfl) ?_
      refine lv_iload_n hx hb dX4_number_97 rfl (lv_at hl 2 rfl) ?_
      refine lv_icmp_gt (tgt := 105) hx hb dX4_number_98 (by decide) (fun c_98 => ?_) (fun c_98 => ?_)
      · skip
        refine lv_iconst (v := 0) hx hb dX4_number_105 (by decide) ?_
        exact mm_ri hx hb hr hlocks hT hH rfl dX4_number_106 (⟨rfl, Or.inr ⟨rfl, fun h => absurd h.2.2 (Int32.not_le.mpr c_98)⟩⟩)
      · skip
        refine lv_iconst (v := 1) hx hb dX4_number_101 (by decide) ?_
        refine lv_goto (tgt := 106) hx hb dX4_number_102 (by decide) ?_
        exact mm_ri hx hb hr hlocks hT hH rfl dX4_number_106 (⟨rfl, Or.inl ⟨rfl, by omega, by omega, in_ge c_98⟩⟩)
