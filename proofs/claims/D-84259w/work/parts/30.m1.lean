set_option maxHeartbeats 4000000 in
set_option maxRecDepth 100000 in
theorem c_X4_in (l : Launch) (v a b : Int32) : ss_Ci l yX4_in cX4_in 3 (some .boolean) 1 [.int v, .int a, .int b] (fun r => (1 = r ∧ (a ≤ v ∧ v ≤ b)) ∨ (0 = r ∧ ¬ (a ≤ v ∧ v ≤ b))) := by
  refine ss_ofi (by decide) (Nat.le_of_ble_eq_true rfl) ?_
  intro p e s m args below meth c ls X hl
  obtain ⟨hx, hb, hml, ho, hts, hr, hlocks⟩ := X
  have hl : lv_has ls 3 [(0, .int v), (1, .int a), (2, .int b)] := hl
  refine lv_iload_n hx hb dX4_in_0 rfl (lv_at hl 0 rfl) ?_
  refine lv_iload_n hx hb dX4_in_1 rfl (lv_at hl 1 rfl) ?_
  refine lv_icmp_lt (tgt := 14) hx hb dX4_in_2 (by decide) (fun c_2 => ?_) (fun c_2 => ?_)
  · skip
    refine lv_iconst (v := 0) hx hb dX4_in_14 (by decide) ?_
    exact ss_ri hx hb hr hlocks rfl dX4_in_15 (Or.inr ⟨rfl, fun h => absurd h.1 (Int32.not_le.mpr c_2)⟩)
  · skip
    refine lv_iload_n hx hb dX4_in_5 rfl (lv_at hl 0 rfl) ?_
    refine lv_iload_n hx hb dX4_in_6 rfl (lv_at hl 2 rfl) ?_
    refine lv_icmp_gt (tgt := 14) hx hb dX4_in_7 (by decide) (fun c_7 => ?_) (fun c_7 => ?_)
    · skip
      refine lv_iconst (v := 0) hx hb dX4_in_14 (by decide) ?_
      exact ss_ri hx hb hr hlocks rfl dX4_in_15 (Or.inr ⟨rfl, fun h => absurd h.2 (Int32.not_le.mpr c_7)⟩)
    · skip
      refine lv_iconst (v := 1) hx hb dX4_in_10 (by decide) ?_
      refine lv_goto (tgt := 15) hx hb dX4_in_11 (by decide) ?_
      exact ss_ri hx hb hr hlocks rfl dX4_in_15 (Or.inl ⟨rfl, in_ge c_2, in_ge c_7⟩)

set_option maxHeartbeats 4000000 in
set_option maxRecDepth 100000 in
theorem c_X4_noOwner (l : Launch) (v : Int32) : ss_Ci l yX4_noOwner cX4_noOwner 1 (some .boolean) 2 [.int v] (fun r => (1 = r ∧ ¬ (0 ≤ v ∧ v ≤ 30)) ∨ (0 = r ∧ (0 ≤ v ∧ v ≤ 30))) := by
  refine ss_ofi (by decide) (Nat.le_of_ble_eq_true rfl) ?_
  intro p e s m args below meth c ls X hl
  obtain ⟨hx, hb, hml, ho, hts, hr, hlocks⟩ := X
  have hl : lv_has ls 1 [(0, .int v)] := hl
  refine lv_iload_n hx hb dX4_noOwner_0 rfl (lv_at hl 0 rfl) ?_
  refine lv_iconst (v := 0) hx hb dX4_noOwner_1 (by decide) ?_
  refine lv_bipush (v := 30) hx hb dX4_noOwner_2 (by decide) ?_
  refine ss_ci (n := 3) (c_X4_in l v 0 30) hx hb hml ho hts (lw_S q899 q900 q39 q901) (by decide +kernel) ⟨Nat.le_of_ble_eq_true rfl, Nat.le_of_ble_eq_true rfl⟩ rfl hl.1 rfl (Nat.le_of_ble_eq_true rfl) dX4_noOwner_4 ⟨Nat.le_refl _, Nat.le_refl _⟩ (fun r_4 hp_4 => ?_)
  rcases hp_4 with ⟨rfl, h_4⟩ | ⟨rfl, h_4⟩
  · skip
    refine lv_if_ne (tgt := 14) hx hb dX4_noOwner_7 (by decide) (fun c_7 => ?_) (fun c_7 => ?_)
    · skip
      refine lv_iconst (v := 0) hx hb dX4_noOwner_14 (by decide) ?_
      exact ss_ri hx hb hr hlocks rfl dX4_noOwner_15 (Or.inr ⟨rfl, h_4⟩)
    · skip
      exact absurd c_7 (by decide)
  · skip
    refine lv_if_ne (tgt := 14) hx hb dX4_noOwner_7 (by decide) (fun c_7 => ?_) (fun c_7 => ?_)
    · skip
      exact absurd c_7 (by decide)
    · skip
      refine lv_iconst (v := 1) hx hb dX4_noOwner_10 (by decide) ?_
      refine lv_goto (tgt := 15) hx hb dX4_noOwner_11 (by decide) ?_
      exact ss_ri hx hb hr hlocks rfl dX4_noOwner_15 (Or.inl ⟨rfl, h_4⟩)

def pStep (x y u v : Int32) : Int32 := if (if 0 ≤ x - u then x - u else 0 - (x - u)) < (if 0 ≤ y - v then y - v else 0 - (y - v)) then (if 0 ≤ y - v then y - v else 0 - (y - v)) else (if 0 ≤ x - u then x - u else 0 - (x - u))

set_option maxHeartbeats 4000000 in
set_option maxRecDepth 100000 in
theorem c_X4_steps (l : Launch) (x y u v : Int32) : ss_Ci l yX4_steps cX4_steps 4 (some .int) 2 [.int x, .int y, .int u, .int v] (fun r => pStep x y u v = r) := by
  refine ss_ofi (by decide) (Nat.le_of_ble_eq_true rfl) ?_
  intro p e s m args below meth c ls X hl
  obtain ⟨hx, hb, hml, ho, hts, hr, hlocks⟩ := X
  have hl : lv_has ls 4 [(0, .int x), (1, .int y), (2, .int u), (3, .int v)] := hl
  refine lv_iload_n hx hb dX4_steps_0 rfl (lv_at hl 0 rfl) ?_
  refine lv_iload_n hx hb dX4_steps_1 rfl (lv_at hl 2 rfl) ?_
  refine lv_isub hx hb dX4_steps_2 ?_
  refine va_mabs hx hb (hml.trans hl.1.symm) ho (hts _ q929) (hts _ q306) (hts _ q48) (hts _ q307) (by decide) (Nat.le_of_ble_eq_true rfl) (Nat.zero_le _) (Nat.zero_le _) dX4_steps_3 ?_
  refine lv_iload_n hx hb dX4_steps_6 rfl (lv_at hl 1 rfl) ?_
  refine lv_iload_n hx hb dX4_steps_7 rfl (lv_at hl 3 rfl) ?_
  refine lv_isub hx hb dX4_steps_8 ?_
  refine va_mabs hx hb (hml.trans hl.1.symm) ho (hts _ q929) (hts _ q306) (hts _ q48) (hts _ q307) (by decide) (Nat.le_of_ble_eq_true rfl) (Nat.zero_le _) (Nat.zero_le _) dX4_steps_9 ?_
  refine va_mmax hx hb (hml.trans hl.1.symm) ho (hts _ q930) (hts _ q267) (hts _ q48) (hts _ q268) (by decide) (Nat.le_of_ble_eq_true rfl) (Nat.zero_le _) (Nat.zero_le _) dX4_steps_12 ?_
  exact ss_ri hx hb hr hlocks rfl dX4_steps_15 rfl

set_option maxHeartbeats 4000000 in
set_option maxRecDepth 100000 in
theorem c_X4_thrown (l : Launch) (σ : mS) : mm_Ci l yX4_thrown cX4_thrown 1 (some .int) 1 [] σ (fun r u => σ = u ∧ σ.1 0 = r) := by
  refine mm_ofi (by decide) rfl (Nat.le_of_ble_eq_true rfl) ?_
  intro p e s m args below meth c G A ad ls X hH hl
  obtain ⟨hx, hb, hml, hT, hr, hlocks⟩ := id X
  have hl : lv_has ls 1 [(0, .ref (ad 0))] := hl
  refine lv_aload_n hx hb dX4_thrown_0 rfl (lv_at hl 0 rfl) ?_
  refine mm_get (v := .int (σ.1 0)) hx hb hT hH 0 (by decide) rfl q781 rfl dX4_thrown_1 ?_
  exact mm_ri hx hb hr hlocks hT hH rfl dX4_thrown_4 (⟨rfl, rfl⟩)

set_option maxHeartbeats 4000000 in
set_option maxRecDepth 100000 in
theorem c_X4_throwsIf1 (l : Launch) (σ : mS) (k : Int32) : mm_Ci l yX4_throwsIf cX4_throwsIf 3 (some .boolean) 1 [.int 1, .int k] σ (fun r u => mm_st σ 0 k = u ∧ 1 = r) := by
  refine mm_ofi (by decide) rfl (Nat.le_of_ble_eq_true rfl) ?_
  intro p e s m args below meth c G A ad ls X hH hl
  obtain ⟨hx, hb, hml, hT, hr, hlocks⟩ := id X
  have hl : lv_has ls 3 [(0, .ref (ad 0)), (1, .int 1), (2, .int k)] := hl
  refine lv_iload_n hx hb dX4_throwsIf_0 rfl (lv_at hl 1 rfl) ?_
  refine lv_if_eq (tgt := 9) hx hb dX4_throwsIf_1 (by decide) (fun c_1 => ?_) (fun c_1 => ?_)
  · skip
    exact absurd c_1 (by decide)
  · skip
    refine lv_aload_n hx hb dX4_throwsIf_4 rfl (lv_at hl 0 rfl) ?_
    refine lv_iload_n hx hb dX4_throwsIf_5 rfl (lv_at hl 2 rfl) ?_
    refine mm_put hx hb hT hH 0 (by decide) (by decide) rfl rfl q781 rfl dX4_throwsIf_6 (fun H locs hH => ?_)
    refine lv_iload_n hx hb dX4_throwsIf_9 rfl (lv_at hl 1 rfl) ?_
    exact mm_ri hx hb hr hlocks hT hH rfl dX4_throwsIf_10 (⟨rfl, rfl⟩)

set_option maxHeartbeats 4000000 in
set_option maxRecDepth 100000 in
theorem c_X4_throwsIf0 (l : Launch) (σ : mS) (k : Int32) : mm_Ci l yX4_throwsIf cX4_throwsIf 3 (some .boolean) 1 [.int 0, .int k] σ (fun r u => σ = u ∧ 0 = r) := by
  refine mm_ofi (by decide) rfl (Nat.le_of_ble_eq_true rfl) ?_
  intro p e s m args below meth c G A ad ls X hH hl
  obtain ⟨hx, hb, hml, hT, hr, hlocks⟩ := id X
  have hl : lv_has ls 3 [(0, .ref (ad 0)), (1, .int 0), (2, .int k)] := hl
  refine lv_iload_n hx hb dX4_throwsIf_0 rfl (lv_at hl 1 rfl) ?_
  refine lv_if_eq (tgt := 9) hx hb dX4_throwsIf_1 (by decide) (fun c_1 => ?_) (fun c_1 => ?_)
  · skip
    refine lv_iload_n hx hb dX4_throwsIf_9 rfl (lv_at hl 1 rfl) ?_
    exact mm_ri hx hb hr hlocks hT hH rfl dX4_throwsIf_10 (⟨rfl, rfl⟩)
  · skip
    exact absurd c_1 (by decide)
