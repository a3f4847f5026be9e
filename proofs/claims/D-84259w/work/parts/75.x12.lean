/-- what a wrapper answers: 0 and the answer in out, or the exception's number -/
def wOut (P : Option Value → xS → Prop) (T : Nat → xS → Prop) (cd : Nat → Nat) (f : Int32 → Int64) (r : Option Value) (u : xS) : Prop := (∃ v u0, P (some (.int v)) u0 ∧ xs_lg u0 1 0 (f v) = u ∧ some (.int 0) = r) ∨ (∃ k, T k u ∧ some (.int (nI (cd k))) = r)
def wOutV (P : Option Value → xS → Prop) (T : Nat → xS → Prop) (cd : Nat → Nat) (r : Option Value) (u : xS) : Prop := (P none u ∧ some (.int 0) = r) ∨ (∃ k, T k u ∧ some (.int (nI (cd k))) = r)

set_option maxHeartbeats 1000000 in
set_option maxRecDepth 100000 in
theorem w_X0_ground (l : Launch) (σ : xS) (p0 p1 : Int32) (P : Option Value → xS → Prop) (T : Nat → xS → Prop) (hC : xx_C l yX1_ground (Cond.code yX1_ground cX1_ground 3 none) 7 8 100 (fun ad => [.ref (ad 0), .int p0, .int p1]) σ P T) (hP : ∀ v u, P v u → none = v) (hTk : ∀ k u, T k u → k = 3) : xx_C l yX0_ground (Cond.codeWith yX0_ground cX0_ground 4 (some .int) [(0, 6, 9, 13)]) 10 8 100 (fun ad => [.ref (ad 0), .int p0, .int p1]) σ (wOutV P T (fun z => if z = 3 then 1 else 0)) (fun _ _ => False) := by
  refine xx_ofW (by decide) (fun ad => Nat.le_of_ble_eq_true rfl) ?_
  intro p e s m args below meth c G A ad wk wv ls X hE hH hl
  obtain ⟨hx, hb, hml, hT, hr, hlocks, hxc, hA⟩ := id X
  have hl : lv_has ls 4 [(0, .ref (ad 0)), (1, .int p0), (2, .int p1)] := hl
  refine lv_aload_n hx hb dX0_ground_0 rfl (lv_at hl 0 rfl) ?_
  refine lv_iload_n hx hb dX0_ground_1 rfl (lv_at hl 1 rfl) ?_
  refine lv_iload_n hx hb dX0_ground_2 rfl (lv_at hl 2 rfl) ?_
  refine xx_call (yy_V (n := 2) 0 (hC G A ad wk wv) hx hb hml hT hxc hA hH xx_0 rfl q317 (ex_code_of hT.2.1 q317) q315 q316 q33 q314 (by decide +kernel) ⟨Nat.le_of_ble_eq_true rfl, Nat.le_of_ble_eq_true rfl⟩ rfl hl.1 rfl (Nat.le_of_ble_eq_true rfl) dX0_ground_3 ⟨Nat.le_of_ble_eq_true rfl, Nat.le_of_ble_eq_true rfl⟩) hH (fun v u ad1 H locs hext hH hp => ?_) (fun a k u ad1 H locs hext hH hp hI h6 => ?_)
  rotate_left
  · rcases hTk k u hp with rfl
    · refine WT.caught (pc := 9) rfl (fun Z hTH hpl => ex_find (own := RX0) (cls := (fun z => if z = 13 then 3 else 0)) (k := 3) hpl hT.1 hT.2.1 hxc.1.2 (by rw [hTH]; exact hI) [(0, 6, 9, 13)] c.exceptionTable.toList hE ?_ rfl) ?_
      · intro x hx
        simp only [List.mem_cons, List.not_mem_nil, or_false] at hx
        rcases hx with rfl
        exact ⟨by decide, q313, by decide⟩
      · skip
        refine lv_astore_n (lv' := [(3, .ref a), (0, .ref (ad 0)), (1, .int p0), (2, .int p1)]) hx hb dX0_ground_9 rfl hl (by decide) rfl (fun ls hl => ?_)
        refine lv_iconst (v := 1) hx hb dX0_ground_10 (by decide) ?_
        exact xx_ri hx hb hr hlocks hT hH hext rfl dX0_ground_11 (Or.inr ⟨3, hp, rfl⟩) (Nat.le_of_ble_eq_true rfl) (Nat.le_of_ble_eq_true rfl)
  obtain rfl := hP _ _ hp
  refine lv_goto (tgt := 12) hx hb dX0_ground_6 (by decide) ?_
  refine lv_iconst (v := 0) hx hb dX0_ground_12 (by decide) ?_
  exact xx_ri hx hb hr hlocks hT hH hext rfl dX0_ground_13 (Or.inl ⟨hp, rfl⟩) (Nat.le_of_ble_eq_true rfl) (Nat.le_of_ble_eq_true rfl)

set_option maxHeartbeats 1000000 in
set_option maxRecDepth 100000 in
theorem w_X0_years (l : Launch) (σ : xS) (p0 : Int32) (P : Option Value → xS → Prop) (T : Nat → xS → Prop) (hC : xx_C l yX1_years (Cond.code yX1_years cX1_years 2 (some .int)) 7 8 100 (fun ad => [.ref (ad 0), .int p0]) σ P T) (hP : ∀ v u, P v u → ∃ r, some (.int r) = v) (hTk : ∀ k u, T k u → k = 3) : xx_C l yX0_years (Cond.codeWith yX0_years cX0_years 4 (some .int) [(0, 9, 12, 13)]) 10 8 100 (fun ad => [.ref (ad 0), .int p0, .ref (ad 7)]) σ (wOut P T (fun z => if z = 3 then 1 else 0) (fun v => v.toInt64)) (fun _ _ => False) := by
  refine xx_ofW (by decide) (fun ad => Nat.le_of_ble_eq_true rfl) ?_
  intro p e s m args below meth c G A ad wk wv ls X hE hH hl
  obtain ⟨hx, hb, hml, hT, hr, hlocks, hxc, hA⟩ := id X
  have hl : lv_has ls 4 [(0, .ref (ad 0)), (1, .int p0), (2, .ref (ad 7))] := hl
  refine lv_aload_n hx hb dX0_years_0 rfl (lv_at hl 2 rfl) ?_
  refine lv_iconst (v := 0) hx hb dX0_years_1 (by decide) ?_
  refine lv_aload_n hx hb dX0_years_2 rfl (lv_at hl 0 rfl) ?_
  refine lv_iload_n hx hb dX0_years_3 rfl (lv_at hl 1 rfl) ?_
  refine xx_call (yy_V (n := 1) 0 (hC G A ad wk wv) hx hb hml hT hxc hA hH xx_0 rfl q567 (ex_code_of hT.2.1 q567) q565 q566 q33 q564 (by decide +kernel) ⟨Nat.le_of_ble_eq_true rfl, Nat.le_of_ble_eq_true rfl⟩ rfl hl.1 rfl (Nat.le_of_ble_eq_true rfl) dX0_years_4 ⟨Nat.le_of_ble_eq_true rfl, Nat.le_of_ble_eq_true rfl⟩) hH (fun v u ad1 H locs hext hH hp => ?_) (fun a k u ad1 H locs hext hH hp hI h6 => ?_)
  rotate_left
  · rcases hTk k u hp with rfl
    · refine WT.caught (pc := 12) rfl (fun Z hTH hpl => ex_find (own := RX0) (cls := (fun z => if z = 13 then 3 else 0)) (k := 3) hpl hT.1 hT.2.1 hxc.1.2 (by rw [hTH]; exact hI) [(0, 9, 12, 13)] c.exceptionTable.toList hE ?_ rfl) ?_
      · intro x hx
        simp only [List.mem_cons, List.not_mem_nil, or_false] at hx
        rcases hx with rfl
        exact ⟨by decide, q313, by decide⟩
      · skip
        refine lv_astore_n (lv' := [(3, .ref a), (0, .ref (ad 0)), (1, .int p0), (2, .ref (ad 7))]) hx hb dX0_years_12 rfl hl (by decide) rfl (fun ls hl => ?_)
        refine lv_iconst (v := 1) hx hb dX0_years_13 (by decide) ?_
        exact xx_ri hx hb hr hlocks hT hH hext rfl dX0_years_14 (Or.inr ⟨3, hp, rfl⟩) (Nat.le_of_ble_eq_true rfl) (Nat.le_of_ble_eq_true rfl)
  obtain ⟨r, rfl⟩ := hP _ _ hp
  refine lv_i2l (v := r.toInt64) hx hb dX0_years_7 rfl ?_
  refine lv_ref2 (a' := ad1 7) (hext 7 _ xx_7).symm ?_
  refine xx_lso hx hb hT hH dX0_years_8 (fun H locs hH => ?_)
  refine lv_goto (tgt := 15) hx hb dX0_years_9 (by decide) ?_
  refine lv_iconst (v := 0) hx hb dX0_years_15 (by decide) ?_
  exact xx_ri hx hb hr hlocks hT hH hext rfl dX0_years_16 (Or.inl ⟨r, u, hp, rfl, rfl⟩) (Nat.le_of_ble_eq_true rfl) (Nat.le_of_ble_eq_true rfl)

set_option maxHeartbeats 1000000 in
set_option maxRecDepth 100000 in
theorem w_X0_minutes (l : Launch) (σ : xS) (p0 : Int32) (P : Option Value → xS → Prop) (T : Nat → xS → Prop) (hC : xx_C l yX1_minutes (Cond.code yX1_minutes cX1_minutes 2 (some .int)) 7 8 100 (fun ad => [.ref (ad 0), .int p0]) σ P T) (hP : ∀ v u, P v u → ∃ r, some (.int r) = v) (hTk : ∀ k u, T k u → k = 3) : xx_C l yX0_minutes (Cond.codeWith yX0_minutes cX0_minutes 4 (some .int) [(0, 9, 12, 13)]) 10 8 100 (fun ad => [.ref (ad 0), .int p0, .ref (ad 7)]) σ (wOut P T (fun z => if z = 3 then 1 else 0) (fun v => v.toInt64)) (fun _ _ => False) := by
  refine xx_ofW (by decide) (fun ad => Nat.le_of_ble_eq_true rfl) ?_
  intro p e s m args below meth c G A ad wk wv ls X hE hH hl
  obtain ⟨hx, hb, hml, hT, hr, hlocks, hxc, hA⟩ := id X
  have hl : lv_has ls 4 [(0, .ref (ad 0)), (1, .int p0), (2, .ref (ad 7))] := hl
  refine lv_aload_n hx hb dX0_minutes_0 rfl (lv_at hl 2 rfl) ?_
  refine lv_iconst (v := 0) hx hb dX0_minutes_1 (by decide) ?_
  refine lv_aload_n hx hb dX0_minutes_2 rfl (lv_at hl 0 rfl) ?_
  refine lv_iload_n hx hb dX0_minutes_3 rfl (lv_at hl 1 rfl) ?_
  refine xx_call (yy_V (n := 1) 0 (hC G A ad wk wv) hx hb hml hT hxc hA hH xx_0 rfl q636 (ex_code_of hT.2.1 q636) q634 q635 q33 q633 (by decide +kernel) ⟨Nat.le_of_ble_eq_true rfl, Nat.le_of_ble_eq_true rfl⟩ rfl hl.1 rfl (Nat.le_of_ble_eq_true rfl) dX0_minutes_4 ⟨Nat.le_of_ble_eq_true rfl, Nat.le_of_ble_eq_true rfl⟩) hH (fun v u ad1 H locs hext hH hp => ?_) (fun a k u ad1 H locs hext hH hp hI h6 => ?_)
  rotate_left
  · rcases hTk k u hp with rfl
    · refine WT.caught (pc := 12) rfl (fun Z hTH hpl => ex_find (own := RX0) (cls := (fun z => if z = 13 then 3 else 0)) (k := 3) hpl hT.1 hT.2.1 hxc.1.2 (by rw [hTH]; exact hI) [(0, 9, 12, 13)] c.exceptionTable.toList hE ?_ rfl) ?_
      · intro x hx
        simp only [List.mem_cons, List.not_mem_nil, or_false] at hx
        rcases hx with rfl
        exact ⟨by decide, q313, by decide⟩
      · skip
        refine lv_astore_n (lv' := [(3, .ref a), (0, .ref (ad 0)), (1, .int p0), (2, .ref (ad 7))]) hx hb dX0_minutes_12 rfl hl (by decide) rfl (fun ls hl => ?_)
        refine lv_iconst (v := 1) hx hb dX0_minutes_13 (by decide) ?_
        exact xx_ri hx hb hr hlocks hT hH hext rfl dX0_minutes_14 (Or.inr ⟨3, hp, rfl⟩) (Nat.le_of_ble_eq_true rfl) (Nat.le_of_ble_eq_true rfl)
  obtain ⟨r, rfl⟩ := hP _ _ hp
  refine lv_i2l (v := r.toInt64) hx hb dX0_minutes_7 rfl ?_
  refine lv_ref2 (a' := ad1 7) (hext 7 _ xx_7).symm ?_
  refine xx_lso hx hb hT hH dX0_minutes_8 (fun H locs hH => ?_)
  refine lv_goto (tgt := 15) hx hb dX0_minutes_9 (by decide) ?_
  refine lv_iconst (v := 0) hx hb dX0_minutes_15 (by decide) ?_
  exact xx_ri hx hb hr hlocks hT hH hext rfl dX0_minutes_16 (Or.inl ⟨r, u, hp, rfl, rfl⟩) (Nat.le_of_ble_eq_true rfl) (Nat.le_of_ble_eq_true rfl)

set_option maxHeartbeats 1000000 in
set_option maxRecDepth 100000 in
theorem w_X0_says (l : Launch) (σ : xS) (p0 : Int32) (P : Option Value → xS → Prop) (T : Nat → xS → Prop) (hC : xx_C l yX1_says (Cond.code yX1_says cX1_says 2 (some .int)) 7 8 100 (fun ad => [.ref (ad 0), .int p0]) σ P T) (hP : ∀ v u, P v u → ∃ r, some (.int r) = v) (hTk : ∀ k u, T k u → k = 5) : xx_C l yX0_says (Cond.codeWith yX0_says cX0_says 4 (some .int) [(0, 9, 12, 75)]) 10 8 100 (fun ad => [.ref (ad 0), .int p0, .ref (ad 7)]) σ (wOut P T (fun z => if z = 5 then 1 else 0) (fun v => v.toInt64)) (fun _ _ => False) := by
  refine xx_ofW (by decide) (fun ad => Nat.le_of_ble_eq_true rfl) ?_
  intro p e s m args below meth c G A ad wk wv ls X hE hH hl
  obtain ⟨hx, hb, hml, hT, hr, hlocks, hxc, hA⟩ := id X
  have hl : lv_has ls 4 [(0, .ref (ad 0)), (1, .int p0), (2, .ref (ad 7))] := hl
  refine lv_aload_n hx hb dX0_says_0 rfl (lv_at hl 2 rfl) ?_
  refine lv_iconst (v := 0) hx hb dX0_says_1 (by decide) ?_
  refine lv_aload_n hx hb dX0_says_2 rfl (lv_at hl 0 rfl) ?_
  refine lv_iload_n hx hb dX0_says_3 rfl (lv_at hl 1 rfl) ?_
  refine xx_call (yy_V (n := 1) 0 (hC G A ad wk wv) hx hb hml hT hxc hA hH xx_0 rfl q759 (ex_code_of hT.2.1 q759) q757 q758 q33 q756 (by decide +kernel) ⟨Nat.le_of_ble_eq_true rfl, Nat.le_of_ble_eq_true rfl⟩ rfl hl.1 rfl (Nat.le_of_ble_eq_true rfl) dX0_says_4 ⟨Nat.le_of_ble_eq_true rfl, Nat.le_of_ble_eq_true rfl⟩) hH (fun v u ad1 H locs hext hH hp => ?_) (fun a k u ad1 H locs hext hH hp hI h6 => ?_)
  rotate_left
  · rcases hTk k u hp with rfl
    · refine WT.caught (pc := 12) rfl (fun Z hTH hpl => ex_find (own := RX0) (cls := (fun z => if z = 75 then 5 else 0)) (k := 5) hpl hT.1 hT.2.1 hxc.1.2 (by rw [hTH]; exact hI) [(0, 9, 12, 75)] c.exceptionTable.toList hE ?_ rfl) ?_
      · intro x hx
        simp only [List.mem_cons, List.not_mem_nil, or_false] at hx
        rcases hx with rfl
        exact ⟨by decide, q652, by decide⟩
      · skip
        refine lv_astore_n (lv' := [(3, .ref a), (0, .ref (ad 0)), (1, .int p0), (2, .ref (ad 7))]) hx hb dX0_says_12 rfl hl (by decide) rfl (fun ls hl => ?_)
        refine lv_iconst (v := 1) hx hb dX0_says_13 (by decide) ?_
        exact xx_ri hx hb hr hlocks hT hH hext rfl dX0_says_14 (Or.inr ⟨5, hp, rfl⟩) (Nat.le_of_ble_eq_true rfl) (Nat.le_of_ble_eq_true rfl)
  obtain ⟨r, rfl⟩ := hP _ _ hp
  refine lv_i2l (v := r.toInt64) hx hb dX0_says_7 rfl ?_
  refine lv_ref2 (a' := ad1 7) (hext 7 _ xx_7).symm ?_
  refine xx_lso hx hb hT hH dX0_says_8 (fun H locs hH => ?_)
  refine lv_goto (tgt := 15) hx hb dX0_says_9 (by decide) ?_
  refine lv_iconst (v := 0) hx hb dX0_says_15 (by decide) ?_
  exact xx_ri hx hb hr hlocks hT hH hext rfl dX0_says_16 (Or.inl ⟨r, u, hp, rfl, rfl⟩) (Nat.le_of_ble_eq_true rfl) (Nat.le_of_ble_eq_true rfl)

set_option maxHeartbeats 1000000 in
set_option maxRecDepth 100000 in
theorem w_X0_field (l : Launch) (σ : xS) (p0 p1 p2 : Int32) (P : Option Value → xS → Prop) (T : Nat → xS → Prop) (hC : xx_C l yX1_field (Cond.code yX1_field cX1_field 4 (some .int)) 7 8 100 (fun ad => [.ref (ad 0), .int p0, .int p1, .int p2]) σ P T) (hP : ∀ v u, P v u → ∃ r, some (.int r) = v) (hTk : ∀ k u, T k u → k = 3) : xx_C l yX0_field (Cond.codeWith yX0_field cX0_field 6 (some .int) [(0, 12, 15, 13)]) 10 8 100 (fun ad => [.ref (ad 0), .int p0, .int p1, .int p2, .ref (ad 7)]) σ (wOut P T (fun z => if z = 3 then 1 else 0) (fun v => v.toInt64)) (fun _ _ => False) := by
  refine xx_ofW (by decide) (fun ad => Nat.le_of_ble_eq_true rfl) ?_
  intro p e s m args below meth c G A ad wk wv ls X hE hH hl
  obtain ⟨hx, hb, hml, hT, hr, hlocks, hxc, hA⟩ := id X
  have hl : lv_has ls 6 [(0, .ref (ad 0)), (1, .int p0), (2, .int p1), (3, .int p2), (4, .ref (ad 7))] := hl
  refine lv_aload hx hb dX0_field_0 (lv_at hl 4 rfl) ?_
  refine lv_iconst (v := 0) hx hb dX0_field_2 (by decide) ?_
  refine lv_aload_n hx hb dX0_field_3 rfl (lv_at hl 0 rfl) ?_
  refine lv_iload_n hx hb dX0_field_4 rfl (lv_at hl 1 rfl) ?_
  refine lv_iload_n hx hb dX0_field_5 rfl (lv_at hl 2 rfl) ?_
  refine lv_iload_n hx hb dX0_field_6 rfl (lv_at hl 3 rfl) ?_
  refine xx_call (yy_V (n := 3) 0 (hC G A ad wk wv) hx hb hml hT hxc hA hH xx_0 rfl q774 (ex_code_of hT.2.1 q774) q772 q773 q33 q771 (by decide +kernel) ⟨Nat.le_of_ble_eq_true rfl, Nat.le_of_ble_eq_true rfl⟩ rfl hl.1 rfl (Nat.le_of_ble_eq_true rfl) dX0_field_7 ⟨Nat.le_of_ble_eq_true rfl, Nat.le_of_ble_eq_true rfl⟩) hH (fun v u ad1 H locs hext hH hp => ?_) (fun a k u ad1 H locs hext hH hp hI h6 => ?_)
  rotate_left
  · rcases hTk k u hp with rfl
    · refine WT.caught (pc := 15) rfl (fun Z hTH hpl => ex_find (own := RX0) (cls := (fun z => if z = 13 then 3 else 0)) (k := 3) hpl hT.1 hT.2.1 hxc.1.2 (by rw [hTH]; exact hI) [(0, 12, 15, 13)] c.exceptionTable.toList hE ?_ rfl) ?_
      · intro x hx
        simp only [List.mem_cons, List.not_mem_nil, or_false] at hx
        rcases hx with rfl
        exact ⟨by decide, q313, by decide⟩
      · skip
        refine lv_astore (lv' := [(5, .ref a), (0, .ref (ad 0)), (1, .int p0), (2, .int p1), (3, .int p2), (4, .ref (ad 7))]) hx hb dX0_field_15 hl (by decide) rfl (fun ls hl => ?_)
        refine lv_iconst (v := 1) hx hb dX0_field_17 (by decide) ?_
        exact xx_ri hx hb hr hlocks hT hH hext rfl dX0_field_18 (Or.inr ⟨3, hp, rfl⟩) (Nat.le_of_ble_eq_true rfl) (Nat.le_of_ble_eq_true rfl)
  obtain ⟨r, rfl⟩ := hP _ _ hp
  refine lv_i2l (v := r.toInt64) hx hb dX0_field_10 rfl ?_
  refine lv_ref2 (a' := ad1 7) (hext 7 _ xx_7).symm ?_
  refine xx_lso hx hb hT hH dX0_field_11 (fun H locs hH => ?_)
  refine lv_goto (tgt := 19) hx hb dX0_field_12 (by decide) ?_
  refine lv_iconst (v := 0) hx hb dX0_field_19 (by decide) ?_
  exact xx_ri hx hb hr hlocks hT hH hext rfl dX0_field_20 (Or.inl ⟨r, u, hp, rfl, rfl⟩) (Nat.le_of_ble_eq_true rfl) (Nat.le_of_ble_eq_true rfl)

set_option maxHeartbeats 1000000 in
set_option maxRecDepth 100000 in
theorem w_X0_let (l : Launch) (σ : xS) (p0 p1 p2 p3 : Int32) (P : Option Value → xS → Prop) (T : Nat → xS → Prop) (hC : xx_C l yX1_let (Cond.code yX1_let cX1_let 6 none) 9 8 100 (fun ad => [.ref (ad 0), .int p0, .int p1, .int p2, .int p3]) σ P T) (hP : ∀ v u, P v u → none = v) (hTk : ∀ k u, T k u → k = 1 ∨ k = 2 ∨ k = 3) : xx_C l yX0_let (Cond.codeWith yX0_let cX0_let 6 (some .int) [(0, 9, 12, 25), (0, 9, 16, 27), (0, 9, 20, 13)]) 10 8 100 (fun ad => [.ref (ad 0), .int p0, .int p1, .int p2, .int p3]) σ (wOutV P T (fun z => if z = 1 then 1 else if z = 2 then 2 else if z = 3 then 3 else 0)) (fun _ _ => False) := by
  refine xx_ofW (by decide) (fun ad => Nat.le_of_ble_eq_true rfl) ?_
  intro p e s m args below meth c G A ad wk wv ls X hE hH hl
  obtain ⟨hx, hb, hml, hT, hr, hlocks, hxc, hA⟩ := id X
  have hl : lv_has ls 6 [(0, .ref (ad 0)), (1, .int p0), (2, .int p1), (3, .int p2), (4, .int p3)] := hl
  refine lv_aload_n hx hb dX0_let_0 rfl (lv_at hl 0 rfl) ?_
  refine lv_iload_n hx hb dX0_let_1 rfl (lv_at hl 1 rfl) ?_
  refine lv_iload_n hx hb dX0_let_2 rfl (lv_at hl 2 rfl) ?_
  refine lv_iload_n hx hb dX0_let_3 rfl (lv_at hl 3 rfl) ?_
  refine lv_iload hx hb dX0_let_4 (lv_at hl 4 rfl) ?_
  refine xx_call (yy_V (n := 4) 0 (hC G A ad wk wv) hx hb hml hT hxc hA hH xx_0 rfl q628 (ex_code_of hT.2.1 q628) q626 q627 q33 q625 (by decide +kernel) ⟨Nat.le_of_ble_eq_true rfl, Nat.le_of_ble_eq_true rfl⟩ rfl hl.1 rfl (Nat.le_of_ble_eq_true rfl) dX0_let_6 ⟨Nat.le_of_ble_eq_true rfl, Nat.le_of_ble_eq_true rfl⟩) hH (fun v u ad1 H locs hext hH hp => ?_) (fun a k u ad1 H locs hext hH hp hI h6 => ?_)
  rotate_left
  · rcases hTk k u hp with rfl | rfl | rfl
    · refine WT.caught (pc := 12) rfl (fun Z hTH hpl => ex_find (own := RX0) (cls := (fun z => if z = 25 then 1 else if z = 27 then 2 else if z = 13 then 3 else 0)) (k := 1) hpl hT.1 hT.2.1 hxc.1.2 (by rw [hTH]; exact hI) [(0, 9, 12, 25), (0, 9, 16, 27), (0, 9, 20, 13)] c.exceptionTable.toList hE ?_ rfl) ?_
      · intro x hx
        simp only [List.mem_cons, List.not_mem_nil, or_false] at hx
        rcases hx with rfl | rfl | rfl
        · exact ⟨by decide, q398, by decide⟩
        · exact ⟨by decide, q430, by decide⟩
        · exact ⟨by decide, q313, by decide⟩
      · skip
        refine lv_astore (lv' := [(5, .ref a), (0, .ref (ad 0)), (1, .int p0), (2, .int p1), (3, .int p2), (4, .int p3)]) hx hb dX0_let_12 hl (by decide) rfl (fun ls hl => ?_)
        refine lv_iconst (v := 1) hx hb dX0_let_14 (by decide) ?_
        exact xx_ri hx hb hr hlocks hT hH hext rfl dX0_let_15 (Or.inr ⟨1, hp, rfl⟩) (Nat.le_of_ble_eq_true rfl) (Nat.le_of_ble_eq_true rfl)
    · refine WT.caught (pc := 16) rfl (fun Z hTH hpl => ex_find (own := RX0) (cls := (fun z => if z = 25 then 1 else if z = 27 then 2 else if z = 13 then 3 else 0)) (k := 2) hpl hT.1 hT.2.1 hxc.1.2 (by rw [hTH]; exact hI) [(0, 9, 12, 25), (0, 9, 16, 27), (0, 9, 20, 13)] c.exceptionTable.toList hE ?_ rfl) ?_
      · intro x hx
        simp only [List.mem_cons, List.not_mem_nil, or_false] at hx
        rcases hx with rfl | rfl | rfl
        · exact ⟨by decide, q398, by decide⟩
        · exact ⟨by decide, q430, by decide⟩
        · exact ⟨by decide, q313, by decide⟩
      · skip
        refine lv_astore (lv' := [(5, .ref a), (0, .ref (ad 0)), (1, .int p0), (2, .int p1), (3, .int p2), (4, .int p3)]) hx hb dX0_let_16 hl (by decide) rfl (fun ls hl => ?_)
        refine lv_iconst (v := 2) hx hb dX0_let_18 (by decide) ?_
        exact xx_ri hx hb hr hlocks hT hH hext rfl dX0_let_19 (Or.inr ⟨2, hp, rfl⟩) (Nat.le_of_ble_eq_true rfl) (Nat.le_of_ble_eq_true rfl)
    · refine WT.caught (pc := 20) rfl (fun Z hTH hpl => ex_find (own := RX0) (cls := (fun z => if z = 25 then 1 else if z = 27 then 2 else if z = 13 then 3 else 0)) (k := 3) hpl hT.1 hT.2.1 hxc.1.2 (by rw [hTH]; exact hI) [(0, 9, 12, 25), (0, 9, 16, 27), (0, 9, 20, 13)] c.exceptionTable.toList hE ?_ rfl) ?_
      · intro x hx
        simp only [List.mem_cons, List.not_mem_nil, or_false] at hx
        rcases hx with rfl | rfl | rfl
        · exact ⟨by decide, q398, by decide⟩
        · exact ⟨by decide, q430, by decide⟩
        · exact ⟨by decide, q313, by decide⟩
      · skip
        refine lv_astore (lv' := [(5, .ref a), (0, .ref (ad 0)), (1, .int p0), (2, .int p1), (3, .int p2), (4, .int p3)]) hx hb dX0_let_20 hl (by decide) rfl (fun ls hl => ?_)
        refine lv_iconst (v := 3) hx hb dX0_let_22 (by decide) ?_
        exact xx_ri hx hb hr hlocks hT hH hext rfl dX0_let_23 (Or.inr ⟨3, hp, rfl⟩) (Nat.le_of_ble_eq_true rfl) (Nat.le_of_ble_eq_true rfl)
  obtain rfl := hP _ _ hp
  refine lv_goto (tgt := 24) hx hb dX0_let_9 (by decide) ?_
  refine lv_iconst (v := 0) hx hb dX0_let_24 (by decide) ?_
  exact xx_ri hx hb hr hlocks hT hH hext rfl dX0_let_25 (Or.inl ⟨hp, rfl⟩) (Nat.le_of_ble_eq_true rfl) (Nat.le_of_ble_eq_true rfl)

set_option maxHeartbeats 1000000 in
set_option maxRecDepth 100000 in
theorem w_X0_share (l : Launch) (σ : xS) (p0 p1 : Int32) (P : Option Value → xS → Prop) (T : Nat → xS → Prop) (hC : xx_C l yX1_share (Cond.code yX1_share cX1_share 4 (some .int)) 8 8 100 (fun ad => [.ref (ad 0), .int p0, .int p1]) σ P T) (hP : ∀ v u, P v u → ∃ r, some (.int r) = v) (hTk : ∀ k u, T k u → k = 1 ∨ k = 5) : xx_C l yX0_share (Cond.codeWith yX0_share cX0_share 5 (some .int) [(0, 10, 13, 25), (0, 10, 17, 75)]) 10 8 100 (fun ad => [.ref (ad 0), .int p0, .int p1, .ref (ad 7)]) σ (wOut P T (fun z => if z = 1 then 1 else if z = 5 then 2 else 0) (fun v => v.toInt64)) (fun _ _ => False) := by
  refine xx_ofW (by decide) (fun ad => Nat.le_of_ble_eq_true rfl) ?_
  intro p e s m args below meth c G A ad wk wv ls X hE hH hl
  obtain ⟨hx, hb, hml, hT, hr, hlocks, hxc, hA⟩ := id X
  have hl : lv_has ls 5 [(0, .ref (ad 0)), (1, .int p0), (2, .int p1), (3, .ref (ad 7))] := hl
  refine lv_aload_n hx hb dX0_share_0 rfl (lv_at hl 3 rfl) ?_
  refine lv_iconst (v := 0) hx hb dX0_share_1 (by decide) ?_
  refine lv_aload_n hx hb dX0_share_2 rfl (lv_at hl 0 rfl) ?_
  refine lv_iload_n hx hb dX0_share_3 rfl (lv_at hl 1 rfl) ?_
  refine lv_iload_n hx hb dX0_share_4 rfl (lv_at hl 2 rfl) ?_
  refine xx_call (yy_V (n := 2) 0 (hC G A ad wk wv) hx hb hml hT hxc hA hH xx_0 rfl q656 (ex_code_of hT.2.1 q656) q654 q655 q33 q653 (by decide +kernel) ⟨Nat.le_of_ble_eq_true rfl, Nat.le_of_ble_eq_true rfl⟩ rfl hl.1 rfl (Nat.le_of_ble_eq_true rfl) dX0_share_5 ⟨Nat.le_of_ble_eq_true rfl, Nat.le_of_ble_eq_true rfl⟩) hH (fun v u ad1 H locs hext hH hp => ?_) (fun a k u ad1 H locs hext hH hp hI h6 => ?_)
  rotate_left
  · rcases hTk k u hp with rfl | rfl
    · refine WT.caught (pc := 13) rfl (fun Z hTH hpl => ex_find (own := RX0) (cls := (fun z => if z = 25 then 1 else if z = 75 then 5 else 0)) (k := 1) hpl hT.1 hT.2.1 hxc.1.2 (by rw [hTH]; exact hI) [(0, 10, 13, 25), (0, 10, 17, 75)] c.exceptionTable.toList hE ?_ rfl) ?_
      · intro x hx
        simp only [List.mem_cons, List.not_mem_nil, or_false] at hx
        rcases hx with rfl | rfl
        · exact ⟨by decide, q398, by decide⟩
        · exact ⟨by decide, q652, by decide⟩
      · skip
        refine lv_astore (lv' := [(4, .ref a), (0, .ref (ad 0)), (1, .int p0), (2, .int p1), (3, .ref (ad 7))]) hx hb dX0_share_13 hl (by decide) rfl (fun ls hl => ?_)
        refine lv_iconst (v := 1) hx hb dX0_share_15 (by decide) ?_
        exact xx_ri hx hb hr hlocks hT hH hext rfl dX0_share_16 (Or.inr ⟨1, hp, rfl⟩) (Nat.le_of_ble_eq_true rfl) (Nat.le_of_ble_eq_true rfl)
    · refine WT.caught (pc := 17) rfl (fun Z hTH hpl => ex_find (own := RX0) (cls := (fun z => if z = 25 then 1 else if z = 75 then 5 else 0)) (k := 5) hpl hT.1 hT.2.1 hxc.1.2 (by rw [hTH]; exact hI) [(0, 10, 13, 25), (0, 10, 17, 75)] c.exceptionTable.toList hE ?_ rfl) ?_
      · intro x hx
        simp only [List.mem_cons, List.not_mem_nil, or_false] at hx
        rcases hx with rfl | rfl
        · exact ⟨by decide, q398, by decide⟩
        · exact ⟨by decide, q652, by decide⟩
      · skip
        refine lv_astore (lv' := [(4, .ref a), (0, .ref (ad 0)), (1, .int p0), (2, .int p1), (3, .ref (ad 7))]) hx hb dX0_share_17 hl (by decide) rfl (fun ls hl => ?_)
        refine lv_iconst (v := 2) hx hb dX0_share_19 (by decide) ?_
        exact xx_ri hx hb hr hlocks hT hH hext rfl dX0_share_20 (Or.inr ⟨5, hp, rfl⟩) (Nat.le_of_ble_eq_true rfl) (Nat.le_of_ble_eq_true rfl)
  obtain ⟨r, rfl⟩ := hP _ _ hp
  refine lv_i2l (v := r.toInt64) hx hb dX0_share_8 rfl ?_
  refine lv_ref2 (a' := ad1 7) (hext 7 _ xx_7).symm ?_
  refine xx_lso hx hb hT hH dX0_share_9 (fun H locs hH => ?_)
  refine lv_goto (tgt := 21) hx hb dX0_share_10 (by decide) ?_
  refine lv_iconst (v := 0) hx hb dX0_share_21 (by decide) ?_
  exact xx_ri hx hb hr hlocks hT hH hext rfl dX0_share_22 (Or.inl ⟨r, u, hp, rfl, rfl⟩) (Nat.le_of_ble_eq_true rfl) (Nat.le_of_ble_eq_true rfl)

set_option maxHeartbeats 1000000 in
set_option maxRecDepth 100000 in
theorem w_X0_collapse (l : Launch) (σ : xS) (p0 p1 p2 : Int32) (P : Option Value → xS → Prop) (T : Nat → xS → Prop) (hC : xx_C l yX1_collapse (Cond.code yX1_collapse cX1_collapse 6 (some .boolean)) 8 8 100 (fun ad => [.ref (ad 0), .int p0, .int p1, .int p2]) σ P T) (hP : ∀ v u, P v u → some (.int 1) = v ∨ some (.int 0) = v) (hTk : ∀ k u, T k u → k = 1 ∨ k = 2) : xx_C l yX0_collapse (Cond.codeWith yX0_collapse cX0_collapse 6 (some .int) [(0, 19, 22, 25), (0, 19, 26, 27)]) 10 8 100 (fun ad => [.ref (ad 0), .int p0, .int p1, .int p2, .ref (ad 7)]) σ (wOut P T (fun z => if z = 1 then 1 else if z = 2 then 2 else 0) (fun v => if v = 1 then 1 else 0)) (fun _ _ => False) := by
  refine xx_ofW (by decide) (fun ad => Nat.le_of_ble_eq_true rfl) ?_
  intro p e s m args below meth c G A ad wk wv ls X hE hH hl
  obtain ⟨hx, hb, hml, hT, hr, hlocks, hxc, hA⟩ := id X
  have hl : lv_has ls 6 [(0, .ref (ad 0)), (1, .int p0), (2, .int p1), (3, .int p2), (4, .ref (ad 7))] := hl
  refine lv_aload hx hb dX0_collapse_0 (lv_at hl 4 rfl) ?_
  refine lv_iconst (v := 0) hx hb dX0_collapse_2 (by decide) ?_
  refine lv_aload_n hx hb dX0_collapse_3 rfl (lv_at hl 0 rfl) ?_
  refine lv_iload_n hx hb dX0_collapse_4 rfl (lv_at hl 1 rfl) ?_
  refine lv_iload_n hx hb dX0_collapse_5 rfl (lv_at hl 2 rfl) ?_
  refine lv_iload_n hx hb dX0_collapse_6 rfl (lv_at hl 3 rfl) ?_
  refine xx_call (yy_V (n := 3) 0 (hC G A ad wk wv) hx hb hml hT hxc hA hH xx_0 rfl q574 (ex_code_of hT.2.1 q574) q572 q573 q33 q571 (by decide +kernel) ⟨Nat.le_of_ble_eq_true rfl, Nat.le_of_ble_eq_true rfl⟩ rfl hl.1 rfl (Nat.le_of_ble_eq_true rfl) dX0_collapse_7 ⟨Nat.le_of_ble_eq_true rfl, Nat.le_of_ble_eq_true rfl⟩) hH (fun v u ad1 H locs hext hH hp => ?_) (fun a k u ad1 H locs hext hH hp hI h6 => ?_)
  rotate_left
  · rcases hTk k u hp with rfl | rfl
    · refine WT.caught (pc := 22) rfl (fun Z hTH hpl => ex_find (own := RX0) (cls := (fun z => if z = 25 then 1 else if z = 27 then 2 else 0)) (k := 1) hpl hT.1 hT.2.1 hxc.1.2 (by rw [hTH]; exact hI) [(0, 19, 22, 25), (0, 19, 26, 27)] c.exceptionTable.toList hE ?_ rfl) ?_
      · intro x hx
        simp only [List.mem_cons, List.not_mem_nil, or_false] at hx
        rcases hx with rfl | rfl
        · exact ⟨by decide, q398, by decide⟩
        · exact ⟨by decide, q430, by decide⟩
      · skip
        refine lv_astore (lv' := [(5, .ref a), (0, .ref (ad 0)), (1, .int p0), (2, .int p1), (3, .int p2), (4, .ref (ad 7))]) hx hb dX0_collapse_22 hl (by decide) rfl (fun ls hl => ?_)
        refine lv_iconst (v := 1) hx hb dX0_collapse_24 (by decide) ?_
        exact xx_ri hx hb hr hlocks hT hH hext rfl dX0_collapse_25 (Or.inr ⟨1, hp, rfl⟩) (Nat.le_of_ble_eq_true rfl) (Nat.le_of_ble_eq_true rfl)
    · refine WT.caught (pc := 26) rfl (fun Z hTH hpl => ex_find (own := RX0) (cls := (fun z => if z = 25 then 1 else if z = 27 then 2 else 0)) (k := 2) hpl hT.1 hT.2.1 hxc.1.2 (by rw [hTH]; exact hI) [(0, 19, 22, 25), (0, 19, 26, 27)] c.exceptionTable.toList hE ?_ rfl) ?_
      · intro x hx
        simp only [List.mem_cons, List.not_mem_nil, or_false] at hx
        rcases hx with rfl | rfl
        · exact ⟨by decide, q398, by decide⟩
        · exact ⟨by decide, q430, by decide⟩
      · skip
        refine lv_astore (lv' := [(5, .ref a), (0, .ref (ad 0)), (1, .int p0), (2, .int p1), (3, .int p2), (4, .ref (ad 7))]) hx hb dX0_collapse_26 hl (by decide) rfl (fun ls hl => ?_)
        refine lv_iconst (v := 2) hx hb dX0_collapse_28 (by decide) ?_
        exact xx_ri hx hb hr hlocks hT hH hext rfl dX0_collapse_29 (Or.inr ⟨2, hp, rfl⟩) (Nat.le_of_ble_eq_true rfl) (Nat.le_of_ble_eq_true rfl)
  rcases hP _ _ hp with rfl | rfl
  · skip
    refine lv_if_eq (tgt := 17) hx hb dX0_collapse_10 (by decide) (fun c_10 => ?_) (fun c_10 => ?_)
    · skip
      exact absurd c_10 (by decide)
    · skip
      refine lv_lconst (v := 1) hx hb dX0_collapse_13 (by decide) ?_
      refine lv_goto (tgt := 18) hx hb dX0_collapse_14 (by decide) ?_
      refine lv_ref2 (a' := ad1 7) (hext 7 _ xx_7).symm ?_
      refine xx_lso hx hb hT hH dX0_collapse_18 (fun H locs hH => ?_)
      refine lv_goto (tgt := 30) hx hb dX0_collapse_19 (by decide) ?_
      refine lv_iconst (v := 0) hx hb dX0_collapse_30 (by decide) ?_
      exact xx_ri hx hb hr hlocks hT hH hext rfl dX0_collapse_31 (Or.inl ⟨1, u, hp, rfl, rfl⟩) (Nat.le_of_ble_eq_true rfl) (Nat.le_of_ble_eq_true rfl)
  · skip
    refine lv_if_eq (tgt := 17) hx hb dX0_collapse_10 (by decide) (fun c_10 => ?_) (fun c_10 => ?_)
    · skip
      refine lv_lconst (v := 0) hx hb dX0_collapse_17 (by decide) ?_
      refine lv_ref2 (a' := ad1 7) (hext 7 _ xx_7).symm ?_
      refine xx_lso hx hb hT hH dX0_collapse_18 (fun H locs hH => ?_)
      refine lv_goto (tgt := 30) hx hb dX0_collapse_19 (by decide) ?_
      refine lv_iconst (v := 0) hx hb dX0_collapse_30 (by decide) ?_
      exact xx_ri hx hb hr hlocks hT hH hext rfl dX0_collapse_31 (Or.inl ⟨0, u, hp, rfl, rfl⟩) (Nat.le_of_ble_eq_true rfl) (Nat.le_of_ble_eq_true rfl)
    · skip
      exact absurd c_10 (by decide)

set_option maxHeartbeats 1000000 in
set_option maxRecDepth 100000 in
theorem w_X0_may (l : Launch) (σ : xS) (p0 : Int32) (P : Option Value → xS → Prop) (T : Nat → xS → Prop) (hC : xx_C l yX1_may (Cond.code yX1_may cX1_may 3 (some .boolean)) 8 8 100 (fun ad => [.ref (ad 0), .int p0]) σ P T) (hP : ∀ v u, P v u → some (.int 1) = v ∨ some (.int 0) = v) (hTk : ∀ k u, T k u → k = 1 ∨ k = 2) : xx_C l yX0_may (Cond.codeWith yX0_may cX0_may 4 (some .int) [(0, 16, 19, 25), (0, 16, 22, 27)]) 10 8 100 (fun ad => [.ref (ad 0), .int p0, .ref (ad 7)]) σ (wOut P T (fun z => if z = 1 then 1 else if z = 2 then 2 else 0) (fun v => if v = 1 then 1 else 0)) (fun _ _ => False) := by
  refine xx_ofW (by decide) (fun ad => Nat.le_of_ble_eq_true rfl) ?_
  intro p e s m args below meth c G A ad wk wv ls X hE hH hl
  obtain ⟨hx, hb, hml, hT, hr, hlocks, hxc, hA⟩ := id X
  have hl : lv_has ls 4 [(0, .ref (ad 0)), (1, .int p0), (2, .ref (ad 7))] := hl
  refine lv_aload_n hx hb dX0_may_0 rfl (lv_at hl 2 rfl) ?_
  refine lv_iconst (v := 0) hx hb dX0_may_1 (by decide) ?_
  refine lv_aload_n hx hb dX0_may_2 rfl (lv_at hl 0 rfl) ?_
  refine lv_iload_n hx hb dX0_may_3 rfl (lv_at hl 1 rfl) ?_
  refine xx_call (yy_V (n := 1) 0 (hC G A ad wk wv) hx hb hml hT hxc hA hH xx_0 rfl q503 (ex_code_of hT.2.1 q503) q501 q502 q33 q500 (by decide +kernel) ⟨Nat.le_of_ble_eq_true rfl, Nat.le_of_ble_eq_true rfl⟩ rfl hl.1 rfl (Nat.le_of_ble_eq_true rfl) dX0_may_4 ⟨Nat.le_of_ble_eq_true rfl, Nat.le_of_ble_eq_true rfl⟩) hH (fun v u ad1 H locs hext hH hp => ?_) (fun a k u ad1 H locs hext hH hp hI h6 => ?_)
  rotate_left
  · rcases hTk k u hp with rfl | rfl
    · refine WT.caught (pc := 19) rfl (fun Z hTH hpl => ex_find (own := RX0) (cls := (fun z => if z = 25 then 1 else if z = 27 then 2 else 0)) (k := 1) hpl hT.1 hT.2.1 hxc.1.2 (by rw [hTH]; exact hI) [(0, 16, 19, 25), (0, 16, 22, 27)] c.exceptionTable.toList hE ?_ rfl) ?_
      · intro x hx
        simp only [List.mem_cons, List.not_mem_nil, or_false] at hx
        rcases hx with rfl | rfl
        · exact ⟨by decide, q398, by decide⟩
        · exact ⟨by decide, q430, by decide⟩
      · skip
        refine lv_astore_n (lv' := [(3, .ref a), (0, .ref (ad 0)), (1, .int p0), (2, .ref (ad 7))]) hx hb dX0_may_19 rfl hl (by decide) rfl (fun ls hl => ?_)
        refine lv_iconst (v := 1) hx hb dX0_may_20 (by decide) ?_
        exact xx_ri hx hb hr hlocks hT hH hext rfl dX0_may_21 (Or.inr ⟨1, hp, rfl⟩) (Nat.le_of_ble_eq_true rfl) (Nat.le_of_ble_eq_true rfl)
    · refine WT.caught (pc := 22) rfl (fun Z hTH hpl => ex_find (own := RX0) (cls := (fun z => if z = 25 then 1 else if z = 27 then 2 else 0)) (k := 2) hpl hT.1 hT.2.1 hxc.1.2 (by rw [hTH]; exact hI) [(0, 16, 19, 25), (0, 16, 22, 27)] c.exceptionTable.toList hE ?_ rfl) ?_
      · intro x hx
        simp only [List.mem_cons, List.not_mem_nil, or_false] at hx
        rcases hx with rfl | rfl
        · exact ⟨by decide, q398, by decide⟩
        · exact ⟨by decide, q430, by decide⟩
      · skip
        refine lv_astore_n (lv' := [(3, .ref a), (0, .ref (ad 0)), (1, .int p0), (2, .ref (ad 7))]) hx hb dX0_may_22 rfl hl (by decide) rfl (fun ls hl => ?_)
        refine lv_iconst (v := 2) hx hb dX0_may_23 (by decide) ?_
        exact xx_ri hx hb hr hlocks hT hH hext rfl dX0_may_24 (Or.inr ⟨2, hp, rfl⟩) (Nat.le_of_ble_eq_true rfl) (Nat.le_of_ble_eq_true rfl)
  rcases hP _ _ hp with rfl | rfl
  · skip
    refine lv_if_eq (tgt := 14) hx hb dX0_may_7 (by decide) (fun c_7 => ?_) (fun c_7 => ?_)
    · skip
      exact absurd c_7 (by decide)
    · skip
      refine lv_lconst (v := 1) hx hb dX0_may_10 (by decide) ?_
      refine lv_goto (tgt := 15) hx hb dX0_may_11 (by decide) ?_
      refine lv_ref2 (a' := ad1 7) (hext 7 _ xx_7).symm ?_
      refine xx_lso hx hb hT hH dX0_may_15 (fun H locs hH => ?_)
      refine lv_goto (tgt := 25) hx hb dX0_may_16 (by decide) ?_
      refine lv_iconst (v := 0) hx hb dX0_may_25 (by decide) ?_
      exact xx_ri hx hb hr hlocks hT hH hext rfl dX0_may_26 (Or.inl ⟨1, u, hp, rfl, rfl⟩) (Nat.le_of_ble_eq_true rfl) (Nat.le_of_ble_eq_true rfl)
  · skip
    refine lv_if_eq (tgt := 14) hx hb dX0_may_7 (by decide) (fun c_7 => ?_) (fun c_7 => ?_)
    · skip
      refine lv_lconst (v := 0) hx hb dX0_may_14 (by decide) ?_
      refine lv_ref2 (a' := ad1 7) (hext 7 _ xx_7).symm ?_
      refine xx_lso hx hb hT hH dX0_may_15 (fun H locs hH => ?_)
      refine lv_goto (tgt := 25) hx hb dX0_may_16 (by decide) ?_
      refine lv_iconst (v := 0) hx hb dX0_may_25 (by decide) ?_
      exact xx_ri hx hb hr hlocks hT hH hext rfl dX0_may_26 (Or.inl ⟨0, u, hp, rfl, rfl⟩) (Nat.le_of_ble_eq_true rfl) (Nat.le_of_ble_eq_true rfl)
    · skip
      exact absurd c_7 (by decide)

set_option maxHeartbeats 1000000 in
set_option maxRecDepth 100000 in
theorem w_X0_flow (l : Launch) (σ : xS) (p0 : Int32) (P : Option Value → xS → Prop) (T : Nat → xS → Prop) (hC : xx_C l yX1_flow (Cond.code yX1_flow cX1_flow 2 (some .int)) 9 8 100 (fun ad => [.ref (ad 0), .int p0]) σ P T) (hP : ∀ v u, P v u → ∃ r, some (.int r) = v) (hTk : ∀ k u, T k u → k = 1 ∨ k = 2) : xx_C l yX0_flow (Cond.codeWith yX0_flow cX0_flow 4 (some .int) [(0, 9, 12, 25), (0, 9, 15, 27)]) 10 8 100 (fun ad => [.ref (ad 0), .int p0, .ref (ad 7)]) σ (wOut P T (fun z => if z = 1 then 1 else if z = 2 then 2 else 0) (fun v => v.toInt64)) (fun _ _ => False) := by
  refine xx_ofW (by decide) (fun ad => Nat.le_of_ble_eq_true rfl) ?_
  intro p e s m args below meth c G A ad wk wv ls X hE hH hl
  obtain ⟨hx, hb, hml, hT, hr, hlocks, hxc, hA⟩ := id X
  have hl : lv_has ls 4 [(0, .ref (ad 0)), (1, .int p0), (2, .ref (ad 7))] := hl
  refine lv_aload_n hx hb dX0_flow_0 rfl (lv_at hl 2 rfl) ?_
  refine lv_iconst (v := 0) hx hb dX0_flow_1 (by decide) ?_
  refine lv_aload_n hx hb dX0_flow_2 rfl (lv_at hl 0 rfl) ?_
  refine lv_iload_n hx hb dX0_flow_3 rfl (lv_at hl 1 rfl) ?_
  refine xx_call (yy_V (n := 1) 0 (hC G A ad wk wv) hx hb hml hT hxc hA hH xx_0 rfl q581 (ex_code_of hT.2.1 q581) q579 q580 q33 q578 (by decide +kernel) ⟨Nat.le_of_ble_eq_true rfl, Nat.le_of_ble_eq_true rfl⟩ rfl hl.1 rfl (Nat.le_of_ble_eq_true rfl) dX0_flow_4 ⟨Nat.le_of_ble_eq_true rfl, Nat.le_of_ble_eq_true rfl⟩) hH (fun v u ad1 H locs hext hH hp => ?_) (fun a k u ad1 H locs hext hH hp hI h6 => ?_)
  rotate_left
  · rcases hTk k u hp with rfl | rfl
    · refine WT.caught (pc := 12) rfl (fun Z hTH hpl => ex_find (own := RX0) (cls := (fun z => if z = 25 then 1 else if z = 27 then 2 else 0)) (k := 1) hpl hT.1 hT.2.1 hxc.1.2 (by rw [hTH]; exact hI) [(0, 9, 12, 25), (0, 9, 15, 27)] c.exceptionTable.toList hE ?_ rfl) ?_
      · intro x hx
        simp only [List.mem_cons, List.not_mem_nil, or_false] at hx
        rcases hx with rfl | rfl
        · exact ⟨by decide, q398, by decide⟩
        · exact ⟨by decide, q430, by decide⟩
      · skip
        refine lv_astore_n (lv' := [(3, .ref a), (0, .ref (ad 0)), (1, .int p0), (2, .ref (ad 7))]) hx hb dX0_flow_12 rfl hl (by decide) rfl (fun ls hl => ?_)
        refine lv_iconst (v := 1) hx hb dX0_flow_13 (by decide) ?_
        exact xx_ri hx hb hr hlocks hT hH hext rfl dX0_flow_14 (Or.inr ⟨1, hp, rfl⟩) (Nat.le_of_ble_eq_true rfl) (Nat.le_of_ble_eq_true rfl)
    · refine WT.caught (pc := 15) rfl (fun Z hTH hpl => ex_find (own := RX0) (cls := (fun z => if z = 25 then 1 else if z = 27 then 2 else 0)) (k := 2) hpl hT.1 hT.2.1 hxc.1.2 (by rw [hTH]; exact hI) [(0, 9, 12, 25), (0, 9, 15, 27)] c.exceptionTable.toList hE ?_ rfl) ?_
      · intro x hx
        simp only [List.mem_cons, List.not_mem_nil, or_false] at hx
        rcases hx with rfl | rfl
        · exact ⟨by decide, q398, by decide⟩
        · exact ⟨by decide, q430, by decide⟩
      · skip
        refine lv_astore_n (lv' := [(3, .ref a), (0, .ref (ad 0)), (1, .int p0), (2, .ref (ad 7))]) hx hb dX0_flow_15 rfl hl (by decide) rfl (fun ls hl => ?_)
        refine lv_iconst (v := 2) hx hb dX0_flow_16 (by decide) ?_
        exact xx_ri hx hb hr hlocks hT hH hext rfl dX0_flow_17 (Or.inr ⟨2, hp, rfl⟩) (Nat.le_of_ble_eq_true rfl) (Nat.le_of_ble_eq_true rfl)
  obtain ⟨r, rfl⟩ := hP _ _ hp
  refine lv_i2l (v := r.toInt64) hx hb dX0_flow_7 rfl ?_
  refine lv_ref2 (a' := ad1 7) (hext 7 _ xx_7).symm ?_
  refine xx_lso hx hb hT hH dX0_flow_8 (fun H locs hH => ?_)
  refine lv_goto (tgt := 18) hx hb dX0_flow_9 (by decide) ?_
  refine lv_iconst (v := 0) hx hb dX0_flow_18 (by decide) ?_
  exact xx_ri hx hb hr hlocks hT hH hext rfl dX0_flow_19 (Or.inl ⟨r, u, hp, rfl, rfl⟩) (Nat.le_of_ble_eq_true rfl) (Nat.le_of_ble_eq_true rfl)

set_option maxHeartbeats 1000000 in
set_option maxRecDepth 100000 in
theorem w_X0_harm (l : Launch) (σ : xS) (p0 : Int32) (P : Option Value → xS → Prop) (T : Nat → xS → Prop) (hC : xx_C l yX1_harm (Cond.code yX1_harm cX1_harm 3 (some .int)) 9 8 100 (fun ad => [.ref (ad 0), .int p0]) σ P T) (hP : ∀ v u, P v u → ∃ r, some (.int r) = v) (hTk : ∀ k u, T k u → k = 1 ∨ k = 2) : xx_C l yX0_harm (Cond.codeWith yX0_harm cX0_harm 4 (some .int) [(0, 9, 12, 25), (0, 9, 15, 27)]) 10 8 100 (fun ad => [.ref (ad 0), .int p0, .ref (ad 7)]) σ (wOut P T (fun z => if z = 1 then 1 else if z = 2 then 2 else 0) (fun v => v.toInt64)) (fun _ _ => False) := by
  refine xx_ofW (by decide) (fun ad => Nat.le_of_ble_eq_true rfl) ?_
  intro p e s m args below meth c G A ad wk wv ls X hE hH hl
  obtain ⟨hx, hb, hml, hT, hr, hlocks, hxc, hA⟩ := id X
  have hl : lv_has ls 4 [(0, .ref (ad 0)), (1, .int p0), (2, .ref (ad 7))] := hl
  refine lv_aload_n hx hb dX0_harm_0 rfl (lv_at hl 2 rfl) ?_
  refine lv_iconst (v := 0) hx hb dX0_harm_1 (by decide) ?_
  refine lv_aload_n hx hb dX0_harm_2 rfl (lv_at hl 0 rfl) ?_
  refine lv_iload_n hx hb dX0_harm_3 rfl (lv_at hl 1 rfl) ?_
  refine xx_call (yy_V (n := 1) 0 (hC G A ad wk wv) hx hb hml hT hxc hA hH xx_0 rfl q592 (ex_code_of hT.2.1 q592) q590 q591 q33 q589 (by decide +kernel) ⟨Nat.le_of_ble_eq_true rfl, Nat.le_of_ble_eq_true rfl⟩ rfl hl.1 rfl (Nat.le_of_ble_eq_true rfl) dX0_harm_4 ⟨Nat.le_of_ble_eq_true rfl, Nat.le_of_ble_eq_true rfl⟩) hH (fun v u ad1 H locs hext hH hp => ?_) (fun a k u ad1 H locs hext hH hp hI h6 => ?_)
  rotate_left
  · rcases hTk k u hp with rfl | rfl
    · refine WT.caught (pc := 12) rfl (fun Z hTH hpl => ex_find (own := RX0) (cls := (fun z => if z = 25 then 1 else if z = 27 then 2 else 0)) (k := 1) hpl hT.1 hT.2.1 hxc.1.2 (by rw [hTH]; exact hI) [(0, 9, 12, 25), (0, 9, 15, 27)] c.exceptionTable.toList hE ?_ rfl) ?_
      · intro x hx
        simp only [List.mem_cons, List.not_mem_nil, or_false] at hx
        rcases hx with rfl | rfl
        · exact ⟨by decide, q398, by decide⟩
        · exact ⟨by decide, q430, by decide⟩
      · skip
        refine lv_astore_n (lv' := [(3, .ref a), (0, .ref (ad 0)), (1, .int p0), (2, .ref (ad 7))]) hx hb dX0_harm_12 rfl hl (by decide) rfl (fun ls hl => ?_)
        refine lv_iconst (v := 1) hx hb dX0_harm_13 (by decide) ?_
        exact xx_ri hx hb hr hlocks hT hH hext rfl dX0_harm_14 (Or.inr ⟨1, hp, rfl⟩) (Nat.le_of_ble_eq_true rfl) (Nat.le_of_ble_eq_true rfl)
    · refine WT.caught (pc := 15) rfl (fun Z hTH hpl => ex_find (own := RX0) (cls := (fun z => if z = 25 then 1 else if z = 27 then 2 else 0)) (k := 2) hpl hT.1 hT.2.1 hxc.1.2 (by rw [hTH]; exact hI) [(0, 9, 12, 25), (0, 9, 15, 27)] c.exceptionTable.toList hE ?_ rfl) ?_
      · intro x hx
        simp only [List.mem_cons, List.not_mem_nil, or_false] at hx
        rcases hx with rfl | rfl
        · exact ⟨by decide, q398, by decide⟩
        · exact ⟨by decide, q430, by decide⟩
      · skip
        refine lv_astore_n (lv' := [(3, .ref a), (0, .ref (ad 0)), (1, .int p0), (2, .ref (ad 7))]) hx hb dX0_harm_15 rfl hl (by decide) rfl (fun ls hl => ?_)
        refine lv_iconst (v := 2) hx hb dX0_harm_16 (by decide) ?_
        exact xx_ri hx hb hr hlocks hT hH hext rfl dX0_harm_17 (Or.inr ⟨2, hp, rfl⟩) (Nat.le_of_ble_eq_true rfl) (Nat.le_of_ble_eq_true rfl)
  obtain ⟨r, rfl⟩ := hP _ _ hp
  refine lv_i2l (v := r.toInt64) hx hb dX0_harm_7 rfl ?_
  refine lv_ref2 (a' := ad1 7) (hext 7 _ xx_7).symm ?_
  refine xx_lso hx hb hT hH dX0_harm_8 (fun H locs hH => ?_)
  refine lv_goto (tgt := 18) hx hb dX0_harm_9 (by decide) ?_
  refine lv_iconst (v := 0) hx hb dX0_harm_18 (by decide) ?_
  exact xx_ri hx hb hr hlocks hT hH hext rfl dX0_harm_19 (Or.inl ⟨r, u, hp, rfl, rfl⟩) (Nat.le_of_ble_eq_true rfl) (Nat.le_of_ble_eq_true rfl)

set_option maxHeartbeats 1000000 in
set_option maxRecDepth 100000 in
theorem w_X0_seep (l : Launch) (σ : xS) (p0 p1 : Int32) (P : Option Value → xS → Prop) (T : Nat → xS → Prop) (hC : xx_C l yX1_seep (Cond.code yX1_seep cX1_seep 4 (some .int)) 8 8 100 (fun ad => [.ref (ad 0), .int p0, .int p1]) σ P T) (hP : ∀ v u, P v u → ∃ r, some (.int r) = v) (hTk : ∀ k u, T k u → k = 1 ∨ k = 2) : xx_C l yX0_seep (Cond.codeWith yX0_seep cX0_seep 5 (some .int) [(0, 10, 13, 25), (0, 10, 17, 27)]) 10 8 100 (fun ad => [.ref (ad 0), .int p0, .int p1, .ref (ad 7)]) σ (wOut P T (fun z => if z = 1 then 1 else if z = 2 then 2 else 0) (fun v => v.toInt64)) (fun _ _ => False) := by
  refine xx_ofW (by decide) (fun ad => Nat.le_of_ble_eq_true rfl) ?_
  intro p e s m args below meth c G A ad wk wv ls X hE hH hl
  obtain ⟨hx, hb, hml, hT, hr, hlocks, hxc, hA⟩ := id X
  have hl : lv_has ls 5 [(0, .ref (ad 0)), (1, .int p0), (2, .int p1), (3, .ref (ad 7))] := hl
  refine lv_aload_n hx hb dX0_seep_0 rfl (lv_at hl 3 rfl) ?_
  refine lv_iconst (v := 0) hx hb dX0_seep_1 (by decide) ?_
  refine lv_aload_n hx hb dX0_seep_2 rfl (lv_at hl 0 rfl) ?_
  refine lv_iload_n hx hb dX0_seep_3 rfl (lv_at hl 1 rfl) ?_
  refine lv_iload_n hx hb dX0_seep_4 rfl (lv_at hl 2 rfl) ?_
  refine xx_call (yy_V (n := 2) 0 (hC G A ad wk wv) hx hb hml hT hxc hA hH xx_0 rfl q599 (ex_code_of hT.2.1 q599) q597 q598 q33 q596 (by decide +kernel) ⟨Nat.le_of_ble_eq_true rfl, Nat.le_of_ble_eq_true rfl⟩ rfl hl.1 rfl (Nat.le_of_ble_eq_true rfl) dX0_seep_5 ⟨Nat.le_of_ble_eq_true rfl, Nat.le_of_ble_eq_true rfl⟩) hH (fun v u ad1 H locs hext hH hp => ?_) (fun a k u ad1 H locs hext hH hp hI h6 => ?_)
  rotate_left
  · rcases hTk k u hp with rfl | rfl
    · refine WT.caught (pc := 13) rfl (fun Z hTH hpl => ex_find (own := RX0) (cls := (fun z => if z = 25 then 1 else if z = 27 then 2 else 0)) (k := 1) hpl hT.1 hT.2.1 hxc.1.2 (by rw [hTH]; exact hI) [(0, 10, 13, 25), (0, 10, 17, 27)] c.exceptionTable.toList hE ?_ rfl) ?_
      · intro x hx
        simp only [List.mem_cons, List.not_mem_nil, or_false] at hx
        rcases hx with rfl | rfl
        · exact ⟨by decide, q398, by decide⟩
        · exact ⟨by decide, q430, by decide⟩
      · skip
        refine lv_astore (lv' := [(4, .ref a), (0, .ref (ad 0)), (1, .int p0), (2, .int p1), (3, .ref (ad 7))]) hx hb dX0_seep_13 hl (by decide) rfl (fun ls hl => ?_)
        refine lv_iconst (v := 1) hx hb dX0_seep_15 (by decide) ?_
        exact xx_ri hx hb hr hlocks hT hH hext rfl dX0_seep_16 (Or.inr ⟨1, hp, rfl⟩) (Nat.le_of_ble_eq_true rfl) (Nat.le_of_ble_eq_true rfl)
    · refine WT.caught (pc := 17) rfl (fun Z hTH hpl => ex_find (own := RX0) (cls := (fun z => if z = 25 then 1 else if z = 27 then 2 else 0)) (k := 2) hpl hT.1 hT.2.1 hxc.1.2 (by rw [hTH]; exact hI) [(0, 10, 13, 25), (0, 10, 17, 27)] c.exceptionTable.toList hE ?_ rfl) ?_
      · intro x hx
        simp only [List.mem_cons, List.not_mem_nil, or_false] at hx
        rcases hx with rfl | rfl
        · exact ⟨by decide, q398, by decide⟩
        · exact ⟨by decide, q430, by decide⟩
      · skip
        refine lv_astore (lv' := [(4, .ref a), (0, .ref (ad 0)), (1, .int p0), (2, .int p1), (3, .ref (ad 7))]) hx hb dX0_seep_17 hl (by decide) rfl (fun ls hl => ?_)
        refine lv_iconst (v := 2) hx hb dX0_seep_19 (by decide) ?_
        exact xx_ri hx hb hr hlocks hT hH hext rfl dX0_seep_20 (Or.inr ⟨2, hp, rfl⟩) (Nat.le_of_ble_eq_true rfl) (Nat.le_of_ble_eq_true rfl)
  obtain ⟨r, rfl⟩ := hP _ _ hp
  refine lv_i2l (v := r.toInt64) hx hb dX0_seep_8 rfl ?_
  refine lv_ref2 (a' := ad1 7) (hext 7 _ xx_7).symm ?_
  refine xx_lso hx hb hT hH dX0_seep_9 (fun H locs hH => ?_)
  refine lv_goto (tgt := 21) hx hb dX0_seep_10 (by decide) ?_
  refine lv_iconst (v := 0) hx hb dX0_seep_21 (by decide) ?_
  exact xx_ri hx hb hr hlocks hT hH hext rfl dX0_seep_22 (Or.inl ⟨r, u, hp, rfl, rfl⟩) (Nat.le_of_ble_eq_true rfl) (Nat.le_of_ble_eq_true rfl)

set_option maxHeartbeats 1000000 in
set_option maxRecDepth 100000 in
theorem w_X0_channel (l : Launch) (σ : xS) (P : Option Value → xS → Prop) (T : Nat → xS → Prop) (hC : xx_C l yX1_channel (Cond.code yX1_channel cX1_channel 1 (some .int)) 7 8 100 (fun ad => [.ref (ad 0)]) σ P T) (hP : ∀ v u, P v u → ∃ r, some (.int r) = v) (hTk : ∀ k u, T k u → k = 4) : xx_C l yX0_channel (Cond.codeWith yX0_channel cX0_channel 3 (some .int) [(0, 8, 11, 19)]) 10 8 100 (fun ad => [.ref (ad 0), .ref (ad 7)]) σ (wOut P T (fun z => if z = 4 then 1 else 0) (fun v => v.toInt64)) (fun _ _ => False) := by
  refine xx_ofW (by decide) (fun ad => Nat.le_of_ble_eq_true rfl) ?_
  intro p e s m args below meth c G A ad wk wv ls X hE hH hl
  obtain ⟨hx, hb, hml, hT, hr, hlocks, hxc, hA⟩ := id X
  have hl : lv_has ls 3 [(0, .ref (ad 0)), (1, .ref (ad 7))] := hl
  refine lv_aload_n hx hb dX0_channel_0 rfl (lv_at hl 1 rfl) ?_
  refine lv_iconst (v := 0) hx hb dX0_channel_1 (by decide) ?_
  refine lv_aload_n hx hb dX0_channel_2 rfl (lv_at hl 0 rfl) ?_
  refine xx_call (yy_V (n := 0) 0 (hC G A ad wk wv) hx hb hml hT hxc hA hH xx_0 rfl q349 (ex_code_of hT.2.1 q349) q347 q348 q33 q346 (by decide +kernel) ⟨Nat.le_of_ble_eq_true rfl, Nat.le_of_ble_eq_true rfl⟩ rfl hl.1 rfl (Nat.le_of_ble_eq_true rfl) dX0_channel_3 ⟨Nat.le_of_ble_eq_true rfl, Nat.le_of_ble_eq_true rfl⟩) hH (fun v u ad1 H locs hext hH hp => ?_) (fun a k u ad1 H locs hext hH hp hI h6 => ?_)
  rotate_left
  · rcases hTk k u hp with rfl
    · refine WT.caught (pc := 11) rfl (fun Z hTH hpl => ex_find (own := RX0) (cls := (fun z => if z = 19 then 4 else 0)) (k := 4) hpl hT.1 hT.2.1 hxc.1.2 (by rw [hTH]; exact hI) [(0, 8, 11, 19)] c.exceptionTable.toList hE ?_ rfl) ?_
      · intro x hx
        simp only [List.mem_cons, List.not_mem_nil, or_false] at hx
        rcases hx with rfl
        exact ⟨by decide, q345, by decide⟩
      · skip
        refine lv_astore_n (lv' := [(2, .ref a), (0, .ref (ad 0)), (1, .ref (ad 7))]) hx hb dX0_channel_11 rfl hl (by decide) rfl (fun ls hl => ?_)
        refine lv_iconst (v := 1) hx hb dX0_channel_12 (by decide) ?_
        exact xx_ri hx hb hr hlocks hT hH hext rfl dX0_channel_13 (Or.inr ⟨4, hp, rfl⟩) (Nat.le_of_ble_eq_true rfl) (Nat.le_of_ble_eq_true rfl)
  obtain ⟨r, rfl⟩ := hP _ _ hp
  refine lv_i2l (v := r.toInt64) hx hb dX0_channel_6 rfl ?_
  refine lv_ref2 (a' := ad1 7) (hext 7 _ xx_7).symm ?_
  refine xx_lso hx hb hT hH dX0_channel_7 (fun H locs hH => ?_)
  refine lv_goto (tgt := 14) hx hb dX0_channel_8 (by decide) ?_
  refine lv_iconst (v := 0) hx hb dX0_channel_14 (by decide) ?_
  exact xx_ri hx hb hr hlocks hT hH hext rfl dX0_channel_15 (Or.inl ⟨r, u, hp, rfl, rfl⟩) (Nat.le_of_ble_eq_true rfl) (Nat.le_of_ble_eq_true rfl)

set_option maxHeartbeats 1000000 in
set_option maxRecDepth 100000 in
theorem w_X0_well (l : Launch) (σ : xS) (p0 p1 p2 p3 : Int32) (P : Option Value → xS → Prop) (T : Nat → xS → Prop) (hC : xx_C l yX1_well (Cond.code yX1_well cX1_well 6 (some .int)) 8 8 100 (fun ad => [.ref (ad 0), .int p0, .int p1, .int p2, .int p3]) σ P T) (hP : ∀ v u, P v u → ∃ r, some (.int r) = v) (hTk : ∀ k u, T k u → k = 1 ∨ k = 2 ∨ k = 3 ∨ k = 4) : xx_C l yX0_well (Cond.codeWith yX0_well cX0_well 7 (some .int) [(0, 14, 17, 25), (0, 14, 21, 27), (0, 14, 25, 13), (0, 14, 29, 19)]) 10 8 100 (fun ad => [.ref (ad 0), .int p0, .int p1, .int p2, .int p3, .ref (ad 7)]) σ (wOut P T (fun z => if z = 1 then 1 else if z = 2 then 2 else if z = 3 then 3 else if z = 4 then 4 else 0) (fun v => v.toInt64)) (fun _ _ => False) := by
  refine xx_ofW (by decide) (fun ad => Nat.le_of_ble_eq_true rfl) ?_
  intro p e s m args below meth c G A ad wk wv ls X hE hH hl
  obtain ⟨hx, hb, hml, hT, hr, hlocks, hxc, hA⟩ := id X
  have hl : lv_has ls 7 [(0, .ref (ad 0)), (1, .int p0), (2, .int p1), (3, .int p2), (4, .int p3), (5, .ref (ad 7))] := hl
  refine lv_aload hx hb dX0_well_0 (lv_at hl 5 rfl) ?_
  refine lv_iconst (v := 0) hx hb dX0_well_2 (by decide) ?_
  refine lv_aload_n hx hb dX0_well_3 rfl (lv_at hl 0 rfl) ?_
  refine lv_iload_n hx hb dX0_well_4 rfl (lv_at hl 1 rfl) ?_
  refine lv_iload_n hx hb dX0_well_5 rfl (lv_at hl 2 rfl) ?_
  refine lv_iload_n hx hb dX0_well_6 rfl (lv_at hl 3 rfl) ?_
  refine lv_iload hx hb dX0_well_7 (lv_at hl 4 rfl) ?_
  refine xx_call (yy_V (n := 4) 0 (hC G A ad wk wv) hx hb hml hT hxc hA hH xx_0 rfl q434 (ex_code_of hT.2.1 q434) q432 q433 q33 q431 (by decide +kernel) ⟨Nat.le_of_ble_eq_true rfl, Nat.le_of_ble_eq_true rfl⟩ rfl hl.1 rfl (Nat.le_of_ble_eq_true rfl) dX0_well_9 ⟨Nat.le_of_ble_eq_true rfl, Nat.le_of_ble_eq_true rfl⟩) hH (fun v u ad1 H locs hext hH hp => ?_) (fun a k u ad1 H locs hext hH hp hI h6 => ?_)
  rotate_left
  · rcases hTk k u hp with rfl | rfl | rfl | rfl
    · refine WT.caught (pc := 17) rfl (fun Z hTH hpl => ex_find (own := RX0) (cls := (fun z => if z = 25 then 1 else if z = 27 then 2 else if z = 13 then 3 else if z = 19 then 4 else 0)) (k := 1) hpl hT.1 hT.2.1 hxc.1.2 (by rw [hTH]; exact hI) [(0, 14, 17, 25), (0, 14, 21, 27), (0, 14, 25, 13), (0, 14, 29, 19)] c.exceptionTable.toList hE ?_ rfl) ?_
      · intro x hx
        simp only [List.mem_cons, List.not_mem_nil, or_false] at hx
        rcases hx with rfl | rfl | rfl | rfl
        · exact ⟨by decide, q398, by decide⟩
        · exact ⟨by decide, q430, by decide⟩
        · exact ⟨by decide, q313, by decide⟩
        · exact ⟨by decide, q345, by decide⟩
      · skip
        refine lv_astore (lv' := [(6, .ref a), (0, .ref (ad 0)), (1, .int p0), (2, .int p1), (3, .int p2), (4, .int p3), (5, .ref (ad 7))]) hx hb dX0_well_17 hl (by decide) rfl (fun ls hl => ?_)
        refine lv_iconst (v := 1) hx hb dX0_well_19 (by decide) ?_
        exact xx_ri hx hb hr hlocks hT hH hext rfl dX0_well_20 (Or.inr ⟨1, hp, rfl⟩) (Nat.le_of_ble_eq_true rfl) (Nat.le_of_ble_eq_true rfl)
    · refine WT.caught (pc := 21) rfl (fun Z hTH hpl => ex_find (own := RX0) (cls := (fun z => if z = 25 then 1 else if z = 27 then 2 else if z = 13 then 3 else if z = 19 then 4 else 0)) (k := 2) hpl hT.1 hT.2.1 hxc.1.2 (by rw [hTH]; exact hI) [(0, 14, 17, 25), (0, 14, 21, 27), (0, 14, 25, 13), (0, 14, 29, 19)] c.exceptionTable.toList hE ?_ rfl) ?_
      · intro x hx
        simp only [List.mem_cons, List.not_mem_nil, or_false] at hx
        rcases hx with rfl | rfl | rfl | rfl
        · exact ⟨by decide, q398, by decide⟩
        · exact ⟨by decide, q430, by decide⟩
        · exact ⟨by decide, q313, by decide⟩
        · exact ⟨by decide, q345, by decide⟩
      · skip
        refine lv_astore (lv' := [(6, .ref a), (0, .ref (ad 0)), (1, .int p0), (2, .int p1), (3, .int p2), (4, .int p3), (5, .ref (ad 7))]) hx hb dX0_well_21 hl (by decide) rfl (fun ls hl => ?_)
        refine lv_iconst (v := 2) hx hb dX0_well_23 (by decide) ?_
        exact xx_ri hx hb hr hlocks hT hH hext rfl dX0_well_24 (Or.inr ⟨2, hp, rfl⟩) (Nat.le_of_ble_eq_true rfl) (Nat.le_of_ble_eq_true rfl)
    · refine WT.caught (pc := 25) rfl (fun Z hTH hpl => ex_find (own := RX0) (cls := (fun z => if z = 25 then 1 else if z = 27 then 2 else if z = 13 then 3 else if z = 19 then 4 else 0)) (k := 3) hpl hT.1 hT.2.1 hxc.1.2 (by rw [hTH]; exact hI) [(0, 14, 17, 25), (0, 14, 21, 27), (0, 14, 25, 13), (0, 14, 29, 19)] c.exceptionTable.toList hE ?_ rfl) ?_
      · intro x hx
        simp only [List.mem_cons, List.not_mem_nil, or_false] at hx
        rcases hx with rfl | rfl | rfl | rfl
        · exact ⟨by decide, q398, by decide⟩
        · exact ⟨by decide, q430, by decide⟩
        · exact ⟨by decide, q313, by decide⟩
        · exact ⟨by decide, q345, by decide⟩
      · skip
        refine lv_astore (lv' := [(6, .ref a), (0, .ref (ad 0)), (1, .int p0), (2, .int p1), (3, .int p2), (4, .int p3), (5, .ref (ad 7))]) hx hb dX0_well_25 hl (by decide) rfl (fun ls hl => ?_)
        refine lv_iconst (v := 3) hx hb dX0_well_27 (by decide) ?_
        exact xx_ri hx hb hr hlocks hT hH hext rfl dX0_well_28 (Or.inr ⟨3, hp, rfl⟩) (Nat.le_of_ble_eq_true rfl) (Nat.le_of_ble_eq_true rfl)
    · refine WT.caught (pc := 29) rfl (fun Z hTH hpl => ex_find (own := RX0) (cls := (fun z => if z = 25 then 1 else if z = 27 then 2 else if z = 13 then 3 else if z = 19 then 4 else 0)) (k := 4) hpl hT.1 hT.2.1 hxc.1.2 (by rw [hTH]; exact hI) [(0, 14, 17, 25), (0, 14, 21, 27), (0, 14, 25, 13), (0, 14, 29, 19)] c.exceptionTable.toList hE ?_ rfl) ?_
      · intro x hx
        simp only [List.mem_cons, List.not_mem_nil, or_false] at hx
        rcases hx with rfl | rfl | rfl | rfl
        · exact ⟨by decide, q398, by decide⟩
        · exact ⟨by decide, q430, by decide⟩
        · exact ⟨by decide, q313, by decide⟩
        · exact ⟨by decide, q345, by decide⟩
      · skip
        refine lv_astore (lv' := [(6, .ref a), (0, .ref (ad 0)), (1, .int p0), (2, .int p1), (3, .int p2), (4, .int p3), (5, .ref (ad 7))]) hx hb dX0_well_29 hl (by decide) rfl (fun ls hl => ?_)
        refine lv_iconst (v := 4) hx hb dX0_well_31 (by decide) ?_
        exact xx_ri hx hb hr hlocks hT hH hext rfl dX0_well_32 (Or.inr ⟨4, hp, rfl⟩) (Nat.le_of_ble_eq_true rfl) (Nat.le_of_ble_eq_true rfl)
  obtain ⟨r, rfl⟩ := hP _ _ hp
  refine lv_i2l (v := r.toInt64) hx hb dX0_well_12 rfl ?_
  refine lv_ref2 (a' := ad1 7) (hext 7 _ xx_7).symm ?_
  refine xx_lso hx hb hT hH dX0_well_13 (fun H locs hH => ?_)
  refine lv_goto (tgt := 33) hx hb dX0_well_14 (by decide) ?_
  refine lv_iconst (v := 0) hx hb dX0_well_33 (by decide) ?_
  exact xx_ri hx hb hr hlocks hT hH hext rfl dX0_well_34 (Or.inl ⟨r, u, hp, rfl, rfl⟩) (Nat.le_of_ble_eq_true rfl) (Nat.le_of_ble_eq_true rfl)

set_option maxHeartbeats 1000000 in
set_option maxRecDepth 100000 in
theorem w_X0_dig (l : Launch) (σ : xS) (p0 p1 p2 : Int32) (P : Option Value → xS → Prop) (T : Nat → xS → Prop) (hC : xx_C l yX1_dig (Cond.code yX1_dig cX1_dig 5 (some .int)) 8 8 100 (fun ad => [.ref (ad 0), .int p0, .int p1, .int p2]) σ P T) (hP : ∀ v u, P v u → ∃ r, some (.int r) = v) (hTk : ∀ k u, T k u → k = 1 ∨ k = 2 ∨ k = 3) : xx_C l yX0_dig (Cond.codeWith yX0_dig cX0_dig 6 (some .int) [(0, 12, 15, 25), (0, 12, 19, 27), (0, 12, 23, 13)]) 10 8 100 (fun ad => [.ref (ad 0), .int p0, .int p1, .int p2, .ref (ad 7)]) σ (wOut P T (fun z => if z = 1 then 1 else if z = 2 then 2 else if z = 3 then 3 else 0) (fun v => v.toInt64)) (fun _ _ => False) := by
  refine xx_ofW (by decide) (fun ad => Nat.le_of_ble_eq_true rfl) ?_
  intro p e s m args below meth c G A ad wk wv ls X hE hH hl
  obtain ⟨hx, hb, hml, hT, hr, hlocks, hxc, hA⟩ := id X
  have hl : lv_has ls 6 [(0, .ref (ad 0)), (1, .int p0), (2, .int p1), (3, .int p2), (4, .ref (ad 7))] := hl
  refine lv_aload hx hb dX0_dig_0 (lv_at hl 4 rfl) ?_
  refine lv_iconst (v := 0) hx hb dX0_dig_2 (by decide) ?_
  refine lv_aload_n hx hb dX0_dig_3 rfl (lv_at hl 0 rfl) ?_
  refine lv_iload_n hx hb dX0_dig_4 rfl (lv_at hl 1 rfl) ?_
  refine lv_iload_n hx hb dX0_dig_5 rfl (lv_at hl 2 rfl) ?_
  refine lv_iload_n hx hb dX0_dig_6 rfl (lv_at hl 3 rfl) ?_
  refine xx_call (yy_V (n := 3) 0 (hC G A ad wk wv) hx hb hml hT hxc hA hH xx_0 rfl q515 (ex_code_of hT.2.1 q515) q513 q514 q33 q512 (by decide +kernel) ⟨Nat.le_of_ble_eq_true rfl, Nat.le_of_ble_eq_true rfl⟩ rfl hl.1 rfl (Nat.le_of_ble_eq_true rfl) dX0_dig_7 ⟨Nat.le_of_ble_eq_true rfl, Nat.le_of_ble_eq_true rfl⟩) hH (fun v u ad1 H locs hext hH hp => ?_) (fun a k u ad1 H locs hext hH hp hI h6 => ?_)
  rotate_left
  · rcases hTk k u hp with rfl | rfl | rfl
    · refine WT.caught (pc := 15) rfl (fun Z hTH hpl => ex_find (own := RX0) (cls := (fun z => if z = 25 then 1 else if z = 27 then 2 else if z = 13 then 3 else 0)) (k := 1) hpl hT.1 hT.2.1 hxc.1.2 (by rw [hTH]; exact hI) [(0, 12, 15, 25), (0, 12, 19, 27), (0, 12, 23, 13)] c.exceptionTable.toList hE ?_ rfl) ?_
      · intro x hx
        simp only [List.mem_cons, List.not_mem_nil, or_false] at hx
        rcases hx with rfl | rfl | rfl
        · exact ⟨by decide, q398, by decide⟩
        · exact ⟨by decide, q430, by decide⟩
        · exact ⟨by decide, q313, by decide⟩
      · skip
        refine lv_astore (lv' := [(5, .ref a), (0, .ref (ad 0)), (1, .int p0), (2, .int p1), (3, .int p2), (4, .ref (ad 7))]) hx hb dX0_dig_15 hl (by decide) rfl (fun ls hl => ?_)
        refine lv_iconst (v := 1) hx hb dX0_dig_17 (by decide) ?_
        exact xx_ri hx hb hr hlocks hT hH hext rfl dX0_dig_18 (Or.inr ⟨1, hp, rfl⟩) (Nat.le_of_ble_eq_true rfl) (Nat.le_of_ble_eq_true rfl)
    · refine WT.caught (pc := 19) rfl (fun Z hTH hpl => ex_find (own := RX0) (cls := (fun z => if z = 25 then 1 else if z = 27 then 2 else if z = 13 then 3 else 0)) (k := 2) hpl hT.1 hT.2.1 hxc.1.2 (by rw [hTH]; exact hI) [(0, 12, 15, 25), (0, 12, 19, 27), (0, 12, 23, 13)] c.exceptionTable.toList hE ?_ rfl) ?_
      · intro x hx
        simp only [List.mem_cons, List.not_mem_nil, or_false] at hx
        rcases hx with rfl | rfl | rfl
        · exact ⟨by decide, q398, by decide⟩
        · exact ⟨by decide, q430, by decide⟩
        · exact ⟨by decide, q313, by decide⟩
      · skip
        refine lv_astore (lv' := [(5, .ref a), (0, .ref (ad 0)), (1, .int p0), (2, .int p1), (3, .int p2), (4, .ref (ad 7))]) hx hb dX0_dig_19 hl (by decide) rfl (fun ls hl => ?_)
        refine lv_iconst (v := 2) hx hb dX0_dig_21 (by decide) ?_
        exact xx_ri hx hb hr hlocks hT hH hext rfl dX0_dig_22 (Or.inr ⟨2, hp, rfl⟩) (Nat.le_of_ble_eq_true rfl) (Nat.le_of_ble_eq_true rfl)
    · refine WT.caught (pc := 23) rfl (fun Z hTH hpl => ex_find (own := RX0) (cls := (fun z => if z = 25 then 1 else if z = 27 then 2 else if z = 13 then 3 else 0)) (k := 3) hpl hT.1 hT.2.1 hxc.1.2 (by rw [hTH]; exact hI) [(0, 12, 15, 25), (0, 12, 19, 27), (0, 12, 23, 13)] c.exceptionTable.toList hE ?_ rfl) ?_
      · intro x hx
        simp only [List.mem_cons, List.not_mem_nil, or_false] at hx
        rcases hx with rfl | rfl | rfl
        · exact ⟨by decide, q398, by decide⟩
        · exact ⟨by decide, q430, by decide⟩
        · exact ⟨by decide, q313, by decide⟩
      · skip
        refine lv_astore (lv' := [(5, .ref a), (0, .ref (ad 0)), (1, .int p0), (2, .int p1), (3, .int p2), (4, .ref (ad 7))]) hx hb dX0_dig_23 hl (by decide) rfl (fun ls hl => ?_)
        refine lv_iconst (v := 3) hx hb dX0_dig_25 (by decide) ?_
        exact xx_ri hx hb hr hlocks hT hH hext rfl dX0_dig_26 (Or.inr ⟨3, hp, rfl⟩) (Nat.le_of_ble_eq_true rfl) (Nat.le_of_ble_eq_true rfl)
  obtain ⟨r, rfl⟩ := hP _ _ hp
  refine lv_i2l (v := r.toInt64) hx hb dX0_dig_10 rfl ?_
  refine lv_ref2 (a' := ad1 7) (hext 7 _ xx_7).symm ?_
  refine xx_lso hx hb hT hH dX0_dig_11 (fun H locs hH => ?_)
  refine lv_goto (tgt := 27) hx hb dX0_dig_12 (by decide) ?_
  refine lv_iconst (v := 0) hx hb dX0_dig_27 (by decide) ?_
  exact xx_ri hx hb hr hlocks hT hH hext rfl dX0_dig_28 (Or.inl ⟨r, u, hp, rfl, rfl⟩) (Nat.le_of_ble_eq_true rfl) (Nat.le_of_ble_eq_true rfl)

set_option maxHeartbeats 1000000 in
set_option maxRecDepth 100000 in
theorem w_X0_sell (l : Launch) (σ : xS) (p0 p1 p2 p3 : Int32) (P : Option Value → xS → Prop) (T : Nat → xS → Prop) (hC : xx_C l yX1_sell (Cond.code yX1_sell cX1_sell 8 none) 9 8 100 (fun ad => [.ref (ad 0), .int p0, .int p1, .int p2, .int p3]) σ P T) (hP : ∀ v u, P v u → none = v) (hTk : ∀ k u, T k u → k = 1 ∨ k = 2 ∨ k = 3 ∨ k = 4) : xx_C l yX0_sell (Cond.codeWith yX0_sell cX0_sell 6 (some .int) [(0, 9, 12, 25), (0, 9, 16, 27), (0, 9, 20, 13), (0, 9, 24, 19)]) 10 8 100 (fun ad => [.ref (ad 0), .int p0, .int p1, .int p2, .int p3]) σ (wOutV P T (fun z => if z = 1 then 1 else if z = 2 then 2 else if z = 3 then 3 else if z = 4 then 4 else 0)) (fun _ _ => False) := by
  refine xx_ofW (by decide) (fun ad => Nat.le_of_ble_eq_true rfl) ?_
  intro p e s m args below meth c G A ad wk wv ls X hE hH hl
  obtain ⟨hx, hb, hml, hT, hr, hlocks, hxc, hA⟩ := id X
  have hl : lv_has ls 6 [(0, .ref (ad 0)), (1, .int p0), (2, .int p1), (3, .int p2), (4, .int p3)] := hl
  refine lv_aload_n hx hb dX0_sell_0 rfl (lv_at hl 0 rfl) ?_
  refine lv_iload_n hx hb dX0_sell_1 rfl (lv_at hl 1 rfl) ?_
  refine lv_iload_n hx hb dX0_sell_2 rfl (lv_at hl 2 rfl) ?_
  refine lv_iload_n hx hb dX0_sell_3 rfl (lv_at hl 3 rfl) ?_
  refine lv_iload hx hb dX0_sell_4 (lv_at hl 4 rfl) ?_
  refine xx_call (yy_V (n := 4) 0 (hC G A ad wk wv) hx hb hml hT hxc hA hH xx_0 rfl q606 (ex_code_of hT.2.1 q606) q604 q605 q33 q603 (by decide +kernel) ⟨Nat.le_of_ble_eq_true rfl, Nat.le_of_ble_eq_true rfl⟩ rfl hl.1 rfl (Nat.le_of_ble_eq_true rfl) dX0_sell_6 ⟨Nat.le_of_ble_eq_true rfl, Nat.le_of_ble_eq_true rfl⟩) hH (fun v u ad1 H locs hext hH hp => ?_) (fun a k u ad1 H locs hext hH hp hI h6 => ?_)
  rotate_left
  · rcases hTk k u hp with rfl | rfl | rfl | rfl
    · refine WT.caught (pc := 12) rfl (fun Z hTH hpl => ex_find (own := RX0) (cls := (fun z => if z = 25 then 1 else if z = 27 then 2 else if z = 13 then 3 else if z = 19 then 4 else 0)) (k := 1) hpl hT.1 hT.2.1 hxc.1.2 (by rw [hTH]; exact hI) [(0, 9, 12, 25), (0, 9, 16, 27), (0, 9, 20, 13), (0, 9, 24, 19)] c.exceptionTable.toList hE ?_ rfl) ?_
      · intro x hx
        simp only [List.mem_cons, List.not_mem_nil, or_false] at hx
        rcases hx with rfl | rfl | rfl | rfl
        · exact ⟨by decide, q398, by decide⟩
        · exact ⟨by decide, q430, by decide⟩
        · exact ⟨by decide, q313, by decide⟩
        · exact ⟨by decide, q345, by decide⟩
      · skip
        refine lv_astore (lv' := [(5, .ref a), (0, .ref (ad 0)), (1, .int p0), (2, .int p1), (3, .int p2), (4, .int p3)]) hx hb dX0_sell_12 hl (by decide) rfl (fun ls hl => ?_)
        refine lv_iconst (v := 1) hx hb dX0_sell_14 (by decide) ?_
        exact xx_ri hx hb hr hlocks hT hH hext rfl dX0_sell_15 (Or.inr ⟨1, hp, rfl⟩) (Nat.le_of_ble_eq_true rfl) (Nat.le_of_ble_eq_true rfl)
    · refine WT.caught (pc := 16) rfl (fun Z hTH hpl => ex_find (own := RX0) (cls := (fun z => if z = 25 then 1 else if z = 27 then 2 else if z = 13 then 3 else if z = 19 then 4 else 0)) (k := 2) hpl hT.1 hT.2.1 hxc.1.2 (by rw [hTH]; exact hI) [(0, 9, 12, 25), (0, 9, 16, 27), (0, 9, 20, 13), (0, 9, 24, 19)] c.exceptionTable.toList hE ?_ rfl) ?_
      · intro x hx
        simp only [List.mem_cons, List.not_mem_nil, or_false] at hx
        rcases hx with rfl | rfl | rfl | rfl
        · exact ⟨by decide, q398, by decide⟩
        · exact ⟨by decide, q430, by decide⟩
        · exact ⟨by decide, q313, by decide⟩
        · exact ⟨by decide, q345, by decide⟩
      · skip
        refine lv_astore (lv' := [(5, .ref a), (0, .ref (ad 0)), (1, .int p0), (2, .int p1), (3, .int p2), (4, .int p3)]) hx hb dX0_sell_16 hl (by decide) rfl (fun ls hl => ?_)
        refine lv_iconst (v := 2) hx hb dX0_sell_18 (by decide) ?_
        exact xx_ri hx hb hr hlocks hT hH hext rfl dX0_sell_19 (Or.inr ⟨2, hp, rfl⟩) (Nat.le_of_ble_eq_true rfl) (Nat.le_of_ble_eq_true rfl)
    · refine WT.caught (pc := 20) rfl (fun Z hTH hpl => ex_find (own := RX0) (cls := (fun z => if z = 25 then 1 else if z = 27 then 2 else if z = 13 then 3 else if z = 19 then 4 else 0)) (k := 3) hpl hT.1 hT.2.1 hxc.1.2 (by rw [hTH]; exact hI) [(0, 9, 12, 25), (0, 9, 16, 27), (0, 9, 20, 13), (0, 9, 24, 19)] c.exceptionTable.toList hE ?_ rfl) ?_
      · intro x hx
        simp only [List.mem_cons, List.not_mem_nil, or_false] at hx
        rcases hx with rfl | rfl | rfl | rfl
        · exact ⟨by decide, q398, by decide⟩
        · exact ⟨by decide, q430, by decide⟩
        · exact ⟨by decide, q313, by decide⟩
        · exact ⟨by decide, q345, by decide⟩
      · skip
        refine lv_astore (lv' := [(5, .ref a), (0, .ref (ad 0)), (1, .int p0), (2, .int p1), (3, .int p2), (4, .int p3)]) hx hb dX0_sell_20 hl (by decide) rfl (fun ls hl => ?_)
        refine lv_iconst (v := 3) hx hb dX0_sell_22 (by decide) ?_
        exact xx_ri hx hb hr hlocks hT hH hext rfl dX0_sell_23 (Or.inr ⟨3, hp, rfl⟩) (Nat.le_of_ble_eq_true rfl) (Nat.le_of_ble_eq_true rfl)
    · refine WT.caught (pc := 24) rfl (fun Z hTH hpl => ex_find (own := RX0) (cls := (fun z => if z = 25 then 1 else if z = 27 then 2 else if z = 13 then 3 else if z = 19 then 4 else 0)) (k := 4) hpl hT.1 hT.2.1 hxc.1.2 (by rw [hTH]; exact hI) [(0, 9, 12, 25), (0, 9, 16, 27), (0, 9, 20, 13), (0, 9, 24, 19)] c.exceptionTable.toList hE ?_ rfl) ?_
      · intro x hx
        simp only [List.mem_cons, List.not_mem_nil, or_false] at hx
        rcases hx with rfl | rfl | rfl | rfl
        · exact ⟨by decide, q398, by decide⟩
        · exact ⟨by decide, q430, by decide⟩
        · exact ⟨by decide, q313, by decide⟩
        · exact ⟨by decide, q345, by decide⟩
      · skip
        refine lv_astore (lv' := [(5, .ref a), (0, .ref (ad 0)), (1, .int p0), (2, .int p1), (3, .int p2), (4, .int p3)]) hx hb dX0_sell_24 hl (by decide) rfl (fun ls hl => ?_)
        refine lv_iconst (v := 4) hx hb dX0_sell_26 (by decide) ?_
        exact xx_ri hx hb hr hlocks hT hH hext rfl dX0_sell_27 (Or.inr ⟨4, hp, rfl⟩) (Nat.le_of_ble_eq_true rfl) (Nat.le_of_ble_eq_true rfl)
  obtain rfl := hP _ _ hp
  refine lv_goto (tgt := 28) hx hb dX0_sell_9 (by decide) ?_
  refine lv_iconst (v := 0) hx hb dX0_sell_28 (by decide) ?_
  exact xx_ri hx hb hr hlocks hT hH hext rfl dX0_sell_29 (Or.inl ⟨hp, rfl⟩) (Nat.le_of_ble_eq_true rfl) (Nat.le_of_ble_eq_true rfl)

set_option maxHeartbeats 1000000 in
set_option maxRecDepth 100000 in
theorem w_X0_holder (l : Launch) (σ : xS) (p0 p1 : Int32) (P : Option Value → xS → Prop) (T : Nat → xS → Prop) (hC : xx_C l yX1_holder (Cond.code yX1_holder cX1_holder 6 (some .int)) 8 8 100 (fun ad => [.ref (ad 0), .int p0, .int p1]) σ P T) (hP : ∀ v u, P v u → ∃ r, some (.int r) = v) (hTk : ∀ k u, T k u → k = 1 ∨ k = 3) : xx_C l yX0_holder (Cond.codeWith yX0_holder cX0_holder 5 (some .int) [(0, 10, 13, 25), (0, 10, 17, 13)]) 10 8 100 (fun ad => [.ref (ad 0), .int p0, .int p1, .ref (ad 7)]) σ (wOut P T (fun z => if z = 1 then 1 else if z = 3 then 2 else 0) (fun v => v.toInt64)) (fun _ _ => False) := by
  refine xx_ofW (by decide) (fun ad => Nat.le_of_ble_eq_true rfl) ?_
  intro p e s m args below meth c G A ad wk wv ls X hE hH hl
  obtain ⟨hx, hb, hml, hT, hr, hlocks, hxc, hA⟩ := id X
  have hl : lv_has ls 5 [(0, .ref (ad 0)), (1, .int p0), (2, .int p1), (3, .ref (ad 7))] := hl
  refine lv_aload_n hx hb dX0_holder_0 rfl (lv_at hl 3 rfl) ?_
  refine lv_iconst (v := 0) hx hb dX0_holder_1 (by decide) ?_
  refine lv_aload_n hx hb dX0_holder_2 rfl (lv_at hl 0 rfl) ?_
  refine lv_iload_n hx hb dX0_holder_3 rfl (lv_at hl 1 rfl) ?_
  refine lv_iload_n hx hb dX0_holder_4 rfl (lv_at hl 2 rfl) ?_
  refine xx_call (yy_V (n := 2) 0 (hC G A ad wk wv) hx hb hml hT hxc hA hH xx_0 rfl q644 (ex_code_of hT.2.1 q644) q642 q643 q33 q641 (by decide +kernel) ⟨Nat.le_of_ble_eq_true rfl, Nat.le_of_ble_eq_true rfl⟩ rfl hl.1 rfl (Nat.le_of_ble_eq_true rfl) dX0_holder_5 ⟨Nat.le_of_ble_eq_true rfl, Nat.le_of_ble_eq_true rfl⟩) hH (fun v u ad1 H locs hext hH hp => ?_) (fun a k u ad1 H locs hext hH hp hI h6 => ?_)
  rotate_left
  · rcases hTk k u hp with rfl | rfl
    · refine WT.caught (pc := 13) rfl (fun Z hTH hpl => ex_find (own := RX0) (cls := (fun z => if z = 25 then 1 else if z = 13 then 3 else 0)) (k := 1) hpl hT.1 hT.2.1 hxc.1.2 (by rw [hTH]; exact hI) [(0, 10, 13, 25), (0, 10, 17, 13)] c.exceptionTable.toList hE ?_ rfl) ?_
      · intro x hx
        simp only [List.mem_cons, List.not_mem_nil, or_false] at hx
        rcases hx with rfl | rfl
        · exact ⟨by decide, q398, by decide⟩
        · exact ⟨by decide, q313, by decide⟩
      · skip
        refine lv_astore (lv' := [(4, .ref a), (0, .ref (ad 0)), (1, .int p0), (2, .int p1), (3, .ref (ad 7))]) hx hb dX0_holder_13 hl (by decide) rfl (fun ls hl => ?_)
        refine lv_iconst (v := 1) hx hb dX0_holder_15 (by decide) ?_
        exact xx_ri hx hb hr hlocks hT hH hext rfl dX0_holder_16 (Or.inr ⟨1, hp, rfl⟩) (Nat.le_of_ble_eq_true rfl) (Nat.le_of_ble_eq_true rfl)
    · refine WT.caught (pc := 17) rfl (fun Z hTH hpl => ex_find (own := RX0) (cls := (fun z => if z = 25 then 1 else if z = 13 then 3 else 0)) (k := 3) hpl hT.1 hT.2.1 hxc.1.2 (by rw [hTH]; exact hI) [(0, 10, 13, 25), (0, 10, 17, 13)] c.exceptionTable.toList hE ?_ rfl) ?_
      · intro x hx
        simp only [List.mem_cons, List.not_mem_nil, or_false] at hx
        rcases hx with rfl | rfl
        · exact ⟨by decide, q398, by decide⟩
        · exact ⟨by decide, q313, by decide⟩
      · skip
        refine lv_astore (lv' := [(4, .ref a), (0, .ref (ad 0)), (1, .int p0), (2, .int p1), (3, .ref (ad 7))]) hx hb dX0_holder_17 hl (by decide) rfl (fun ls hl => ?_)
        refine lv_iconst (v := 2) hx hb dX0_holder_19 (by decide) ?_
        exact xx_ri hx hb hr hlocks hT hH hext rfl dX0_holder_20 (Or.inr ⟨3, hp, rfl⟩) (Nat.le_of_ble_eq_true rfl) (Nat.le_of_ble_eq_true rfl)
  obtain ⟨r, rfl⟩ := hP _ _ hp
  refine lv_i2l (v := r.toInt64) hx hb dX0_holder_8 rfl ?_
  refine lv_ref2 (a' := ad1 7) (hext 7 _ xx_7).symm ?_
  refine xx_lso hx hb hT hH dX0_holder_9 (fun H locs hH => ?_)
  refine lv_goto (tgt := 21) hx hb dX0_holder_10 (by decide) ?_
  refine lv_iconst (v := 0) hx hb dX0_holder_21 (by decide) ?_
  exact xx_ri hx hb hr hlocks hT hH hext rfl dX0_holder_22 (Or.inl ⟨r, u, hp, rfl, rfl⟩) (Nat.le_of_ble_eq_true rfl) (Nat.le_of_ble_eq_true rfl)

set_option maxHeartbeats 1000000 in
set_option maxRecDepth 100000 in
theorem w_X0_pays (l : Launch) (σ : xS) (p0 p1 p2 : Int32) (P : Option Value → xS → Prop) (T : Nat → xS → Prop) (hC : xx_C l yX1_pays (Cond.code yX1_pays cX1_pays 11 (some .int)) 9 8 100 (fun ad => [.ref (ad 0), .int p0, .int p1, .int p2]) σ P T) (hP : ∀ v u, P v u → ∃ r, some (.int r) = v) (hTk : ∀ k u, T k u → k = 1 ∨ k = 2 ∨ k = 3) : xx_C l yX0_pays (Cond.codeWith yX0_pays cX0_pays 6 (some .int) [(0, 12, 15, 25), (0, 12, 19, 27), (0, 12, 23, 13)]) 10 8 100 (fun ad => [.ref (ad 0), .int p0, .int p1, .int p2, .ref (ad 7)]) σ (wOut P T (fun z => if z = 1 then 1 else if z = 2 then 2 else if z = 3 then 3 else 0) (fun v => v.toInt64)) (fun _ _ => False) := by
  refine xx_ofW (by decide) (fun ad => Nat.le_of_ble_eq_true rfl) ?_
  intro p e s m args below meth c G A ad wk wv ls X hE hH hl
  obtain ⟨hx, hb, hml, hT, hr, hlocks, hxc, hA⟩ := id X
  have hl : lv_has ls 6 [(0, .ref (ad 0)), (1, .int p0), (2, .int p1), (3, .int p2), (4, .ref (ad 7))] := hl
  refine lv_aload hx hb dX0_pays_0 (lv_at hl 4 rfl) ?_
  refine lv_iconst (v := 0) hx hb dX0_pays_2 (by decide) ?_
  refine lv_aload_n hx hb dX0_pays_3 rfl (lv_at hl 0 rfl) ?_
  refine lv_iload_n hx hb dX0_pays_4 rfl (lv_at hl 1 rfl) ?_
  refine lv_iload_n hx hb dX0_pays_5 rfl (lv_at hl 2 rfl) ?_
  refine lv_iload_n hx hb dX0_pays_6 rfl (lv_at hl 3 rfl) ?_
  refine xx_call (yy_V (n := 3) 0 (hC G A ad wk wv) hx hb hml hT hxc hA hH xx_0 rfl q766 (ex_code_of hT.2.1 q766) q764 q765 q33 q763 (by decide +kernel) ⟨Nat.le_of_ble_eq_true rfl, Nat.le_of_ble_eq_true rfl⟩ rfl hl.1 rfl (Nat.le_of_ble_eq_true rfl) dX0_pays_7 ⟨Nat.le_of_ble_eq_true rfl, Nat.le_of_ble_eq_true rfl⟩) hH (fun v u ad1 H locs hext hH hp => ?_) (fun a k u ad1 H locs hext hH hp hI h6 => ?_)
  rotate_left
  · rcases hTk k u hp with rfl | rfl | rfl
    · refine WT.caught (pc := 15) rfl (fun Z hTH hpl => ex_find (own := RX0) (cls := (fun z => if z = 25 then 1 else if z = 27 then 2 else if z = 13 then 3 else 0)) (k := 1) hpl hT.1 hT.2.1 hxc.1.2 (by rw [hTH]; exact hI) [(0, 12, 15, 25), (0, 12, 19, 27), (0, 12, 23, 13)] c.exceptionTable.toList hE ?_ rfl) ?_
      · intro x hx
        simp only [List.mem_cons, List.not_mem_nil, or_false] at hx
        rcases hx with rfl | rfl | rfl
        · exact ⟨by decide, q398, by decide⟩
        · exact ⟨by decide, q430, by decide⟩
        · exact ⟨by decide, q313, by decide⟩
      · skip
        refine lv_astore (lv' := [(5, .ref a), (0, .ref (ad 0)), (1, .int p0), (2, .int p1), (3, .int p2), (4, .ref (ad 7))]) hx hb dX0_pays_15 hl (by decide) rfl (fun ls hl => ?_)
        refine lv_iconst (v := 1) hx hb dX0_pays_17 (by decide) ?_
        exact xx_ri hx hb hr hlocks hT hH hext rfl dX0_pays_18 (Or.inr ⟨1, hp, rfl⟩) (Nat.le_of_ble_eq_true rfl) (Nat.le_of_ble_eq_true rfl)
    · refine WT.caught (pc := 19) rfl (fun Z hTH hpl => ex_find (own := RX0) (cls := (fun z => if z = 25 then 1 else if z = 27 then 2 else if z = 13 then 3 else 0)) (k := 2) hpl hT.1 hT.2.1 hxc.1.2 (by rw [hTH]; exact hI) [(0, 12, 15, 25), (0, 12, 19, 27), (0, 12, 23, 13)] c.exceptionTable.toList hE ?_ rfl) ?_
      · intro x hx
        simp only [List.mem_cons, List.not_mem_nil, or_false] at hx
        rcases hx with rfl | rfl | rfl
        · exact ⟨by decide, q398, by decide⟩
        · exact ⟨by decide, q430, by decide⟩
        · exact ⟨by decide, q313, by decide⟩
      · skip
        refine lv_astore (lv' := [(5, .ref a), (0, .ref (ad 0)), (1, .int p0), (2, .int p1), (3, .int p2), (4, .ref (ad 7))]) hx hb dX0_pays_19 hl (by decide) rfl (fun ls hl => ?_)
        refine lv_iconst (v := 2) hx hb dX0_pays_21 (by decide) ?_
        exact xx_ri hx hb hr hlocks hT hH hext rfl dX0_pays_22 (Or.inr ⟨2, hp, rfl⟩) (Nat.le_of_ble_eq_true rfl) (Nat.le_of_ble_eq_true rfl)
    · refine WT.caught (pc := 23) rfl (fun Z hTH hpl => ex_find (own := RX0) (cls := (fun z => if z = 25 then 1 else if z = 27 then 2 else if z = 13 then 3 else 0)) (k := 3) hpl hT.1 hT.2.1 hxc.1.2 (by rw [hTH]; exact hI) [(0, 12, 15, 25), (0, 12, 19, 27), (0, 12, 23, 13)] c.exceptionTable.toList hE ?_ rfl) ?_
      · intro x hx
        simp only [List.mem_cons, List.not_mem_nil, or_false] at hx
        rcases hx with rfl | rfl | rfl
        · exact ⟨by decide, q398, by decide⟩
        · exact ⟨by decide, q430, by decide⟩
        · exact ⟨by decide, q313, by decide⟩
      · skip
        refine lv_astore (lv' := [(5, .ref a), (0, .ref (ad 0)), (1, .int p0), (2, .int p1), (3, .int p2), (4, .ref (ad 7))]) hx hb dX0_pays_23 hl (by decide) rfl (fun ls hl => ?_)
        refine lv_iconst (v := 3) hx hb dX0_pays_25 (by decide) ?_
        exact xx_ri hx hb hr hlocks hT hH hext rfl dX0_pays_26 (Or.inr ⟨3, hp, rfl⟩) (Nat.le_of_ble_eq_true rfl) (Nat.le_of_ble_eq_true rfl)
  obtain ⟨r, rfl⟩ := hP _ _ hp
  refine lv_i2l (v := r.toInt64) hx hb dX0_pays_10 rfl ?_
  refine lv_ref2 (a' := ad1 7) (hext 7 _ xx_7).symm ?_
  refine xx_lso hx hb hT hH dX0_pays_11 (fun H locs hH => ?_)
  refine lv_goto (tgt := 27) hx hb dX0_pays_12 (by decide) ?_
  refine lv_iconst (v := 0) hx hb dX0_pays_27 (by decide) ?_
  exact xx_ri hx hb hr hlocks hT hH hext rfl dX0_pays_28 (Or.inl ⟨r, u, hp, rfl, rfl⟩) (Nat.le_of_ble_eq_true rfl) (Nat.le_of_ble_eq_true rfl)

set_option maxHeartbeats 1000000 in
set_option maxRecDepth 100000 in
theorem w_X0_heirs (l : Launch) (σ : xS) (p0 p1 p2 p3 p4 p5 p6 p7 p8 p9 : Int32) (P : Option Value → xS → Prop) (T : Nat → xS → Prop) (hC : xx_C l yX1_heirs (Cond.code yX1_heirs cX1_heirs 21 (some .int)) 9 8 100 (fun ad => [.ref (ad 0), .int p0, .int p1, .int p2, .int p3, .int p4, .int p5, .int p6, .int p7, .int p8, .int p9]) σ P T) (hP : ∀ v u, P v u → ∃ r, some (.int r) = v) (hTk : ∀ k u, T k u → k = 1 ∨ k = 2 ∨ k = 3 ∨ k = 4) : xx_C l yX0_heirs (Cond.codeWith yX0_heirs cX0_heirs 13 (some .int) [(0, 26, 29, 25), (0, 26, 33, 27), (0, 26, 37, 13), (0, 26, 41, 19)]) 10 8 100 (fun ad => [.ref (ad 0), .int p0, .int p1, .int p2, .int p3, .int p4, .int p5, .int p6, .int p7, .int p8, .int p9, .ref (ad 7)]) σ (wOut P T (fun z => if z = 1 then 1 else if z = 2 then 2 else if z = 3 then 3 else if z = 4 then 4 else 0) (fun v => v.toInt64)) (fun _ _ => False) := by
  refine xx_ofW (by decide) (fun ad => Nat.le_of_ble_eq_true rfl) ?_
  intro p e s m args below meth c G A ad wk wv ls X hE hH hl
  obtain ⟨hx, hb, hml, hT, hr, hlocks, hxc, hA⟩ := id X
  have hl : lv_has ls 13 [(0, .ref (ad 0)), (1, .int p0), (2, .int p1), (3, .int p2), (4, .int p3), (5, .int p4), (6, .int p5), (7, .int p6), (8, .int p7), (9, .int p8), (10, .int p9), (11, .ref (ad 7))] := hl
  refine lv_aload hx hb dX0_heirs_0 (lv_at hl 11 rfl) ?_
  refine lv_iconst (v := 0) hx hb dX0_heirs_2 (by decide) ?_
  refine lv_aload_n hx hb dX0_heirs_3 rfl (lv_at hl 0 rfl) ?_
  refine lv_iload_n hx hb dX0_heirs_4 rfl (lv_at hl 1 rfl) ?_
  refine lv_iload_n hx hb dX0_heirs_5 rfl (lv_at hl 2 rfl) ?_
  refine lv_iload_n hx hb dX0_heirs_6 rfl (lv_at hl 3 rfl) ?_
  refine lv_iload hx hb dX0_heirs_7 (lv_at hl 4 rfl) ?_
  refine lv_iload hx hb dX0_heirs_9 (lv_at hl 5 rfl) ?_
  refine lv_iload hx hb dX0_heirs_11 (lv_at hl 6 rfl) ?_
  refine lv_iload hx hb dX0_heirs_13 (lv_at hl 7 rfl) ?_
  refine lv_iload hx hb dX0_heirs_15 (lv_at hl 8 rfl) ?_
  refine lv_iload hx hb dX0_heirs_17 (lv_at hl 9 rfl) ?_
  refine lv_iload hx hb dX0_heirs_19 (lv_at hl 10 rfl) ?_
  refine xx_call (yy_V (n := 10) 0 (hC G A ad wk wv) hx hb hml hT hxc hA hH xx_0 rfl q621 (ex_code_of hT.2.1 q621) q619 q620 q33 q618 (by decide +kernel) ⟨Nat.le_of_ble_eq_true rfl, Nat.le_of_ble_eq_true rfl⟩ rfl hl.1 rfl (Nat.le_of_ble_eq_true rfl) dX0_heirs_21 ⟨Nat.le_of_ble_eq_true rfl, Nat.le_of_ble_eq_true rfl⟩) hH (fun v u ad1 H locs hext hH hp => ?_) (fun a k u ad1 H locs hext hH hp hI h6 => ?_)
  rotate_left
  · rcases hTk k u hp with rfl | rfl | rfl | rfl
    · refine WT.caught (pc := 29) rfl (fun Z hTH hpl => ex_find (own := RX0) (cls := (fun z => if z = 25 then 1 else if z = 27 then 2 else if z = 13 then 3 else if z = 19 then 4 else 0)) (k := 1) hpl hT.1 hT.2.1 hxc.1.2 (by rw [hTH]; exact hI) [(0, 26, 29, 25), (0, 26, 33, 27), (0, 26, 37, 13), (0, 26, 41, 19)] c.exceptionTable.toList hE ?_ rfl) ?_
      · intro x hx
        simp only [List.mem_cons, List.not_mem_nil, or_false] at hx
        rcases hx with rfl | rfl | rfl | rfl
        · exact ⟨by decide, q398, by decide⟩
        · exact ⟨by decide, q430, by decide⟩
        · exact ⟨by decide, q313, by decide⟩
        · exact ⟨by decide, q345, by decide⟩
      · skip
        refine lv_astore (lv' := [(12, .ref a), (0, .ref (ad 0)), (1, .int p0), (2, .int p1), (3, .int p2), (4, .int p3), (5, .int p4), (6, .int p5), (7, .int p6), (8, .int p7), (9, .int p8), (10, .int p9), (11, .ref (ad 7))]) hx hb dX0_heirs_29 hl (by decide) rfl (fun ls hl => ?_)
        refine lv_iconst (v := 1) hx hb dX0_heirs_31 (by decide) ?_
        exact xx_ri hx hb hr hlocks hT hH hext rfl dX0_heirs_32 (Or.inr ⟨1, hp, rfl⟩) (Nat.le_of_ble_eq_true rfl) (Nat.le_of_ble_eq_true rfl)
    · refine WT.caught (pc := 33) rfl (fun Z hTH hpl => ex_find (own := RX0) (cls := (fun z => if z = 25 then 1 else if z = 27 then 2 else if z = 13 then 3 else if z = 19 then 4 else 0)) (k := 2) hpl hT.1 hT.2.1 hxc.1.2 (by rw [hTH]; exact hI) [(0, 26, 29, 25), (0, 26, 33, 27), (0, 26, 37, 13), (0, 26, 41, 19)] c.exceptionTable.toList hE ?_ rfl) ?_
      · intro x hx
        simp only [List.mem_cons, List.not_mem_nil, or_false] at hx
        rcases hx with rfl | rfl | rfl | rfl
        · exact ⟨by decide, q398, by decide⟩
        · exact ⟨by decide, q430, by decide⟩
        · exact ⟨by decide, q313, by decide⟩
        · exact ⟨by decide, q345, by decide⟩
      · skip
        refine lv_astore (lv' := [(12, .ref a), (0, .ref (ad 0)), (1, .int p0), (2, .int p1), (3, .int p2), (4, .int p3), (5, .int p4), (6, .int p5), (7, .int p6), (8, .int p7), (9, .int p8), (10, .int p9), (11, .ref (ad 7))]) hx hb dX0_heirs_33 hl (by decide) rfl (fun ls hl => ?_)
        refine lv_iconst (v := 2) hx hb dX0_heirs_35 (by decide) ?_
        exact xx_ri hx hb hr hlocks hT hH hext rfl dX0_heirs_36 (Or.inr ⟨2, hp, rfl⟩) (Nat.le_of_ble_eq_true rfl) (Nat.le_of_ble_eq_true rfl)
    · refine WT.caught (pc := 37) rfl (fun Z hTH hpl => ex_find (own := RX0) (cls := (fun z => if z = 25 then 1 else if z = 27 then 2 else if z = 13 then 3 else if z = 19 then 4 else 0)) (k := 3) hpl hT.1 hT.2.1 hxc.1.2 (by rw [hTH]; exact hI) [(0, 26, 29, 25), (0, 26, 33, 27), (0, 26, 37, 13), (0, 26, 41, 19)] c.exceptionTable.toList hE ?_ rfl) ?_
      · intro x hx
        simp only [List.mem_cons, List.not_mem_nil, or_false] at hx
        rcases hx with rfl | rfl | rfl | rfl
        · exact ⟨by decide, q398, by decide⟩
        · exact ⟨by decide, q430, by decide⟩
        · exact ⟨by decide, q313, by decide⟩
        · exact ⟨by decide, q345, by decide⟩
      · skip
        refine lv_astore (lv' := [(12, .ref a), (0, .ref (ad 0)), (1, .int p0), (2, .int p1), (3, .int p2), (4, .int p3), (5, .int p4), (6, .int p5), (7, .int p6), (8, .int p7), (9, .int p8), (10, .int p9), (11, .ref (ad 7))]) hx hb dX0_heirs_37 hl (by decide) rfl (fun ls hl => ?_)
        refine lv_iconst (v := 3) hx hb dX0_heirs_39 (by decide) ?_
        exact xx_ri hx hb hr hlocks hT hH hext rfl dX0_heirs_40 (Or.inr ⟨3, hp, rfl⟩) (Nat.le_of_ble_eq_true rfl) (Nat.le_of_ble_eq_true rfl)
    · refine WT.caught (pc := 41) rfl (fun Z hTH hpl => ex_find (own := RX0) (cls := (fun z => if z = 25 then 1 else if z = 27 then 2 else if z = 13 then 3 else if z = 19 then 4 else 0)) (k := 4) hpl hT.1 hT.2.1 hxc.1.2 (by rw [hTH]; exact hI) [(0, 26, 29, 25), (0, 26, 33, 27), (0, 26, 37, 13), (0, 26, 41, 19)] c.exceptionTable.toList hE ?_ rfl) ?_
      · intro x hx
        simp only [List.mem_cons, List.not_mem_nil, or_false] at hx
        rcases hx with rfl | rfl | rfl | rfl
        · exact ⟨by decide, q398, by decide⟩
        · exact ⟨by decide, q430, by decide⟩
        · exact ⟨by decide, q313, by decide⟩
        · exact ⟨by decide, q345, by decide⟩
      · skip
        refine lv_astore (lv' := [(12, .ref a), (0, .ref (ad 0)), (1, .int p0), (2, .int p1), (3, .int p2), (4, .int p3), (5, .int p4), (6, .int p5), (7, .int p6), (8, .int p7), (9, .int p8), (10, .int p9), (11, .ref (ad 7))]) hx hb dX0_heirs_41 hl (by decide) rfl (fun ls hl => ?_)
        refine lv_iconst (v := 4) hx hb dX0_heirs_43 (by decide) ?_
        exact xx_ri hx hb hr hlocks hT hH hext rfl dX0_heirs_44 (Or.inr ⟨4, hp, rfl⟩) (Nat.le_of_ble_eq_true rfl) (Nat.le_of_ble_eq_true rfl)
  obtain ⟨r, rfl⟩ := hP _ _ hp
  refine lv_i2l (v := r.toInt64) hx hb dX0_heirs_24 rfl ?_
  refine lv_ref2 (a' := ad1 7) (hext 7 _ xx_7).symm ?_
  refine xx_lso hx hb hT hH dX0_heirs_25 (fun H locs hH => ?_)
  refine lv_goto (tgt := 45) hx hb dX0_heirs_26 (by decide) ?_
  refine lv_iconst (v := 0) hx hb dX0_heirs_45 (by decide) ?_
  exact xx_ri hx hb hr hlocks hT hH hext rfl dX0_heirs_46 (Or.inl ⟨r, u, hp, rfl, rfl⟩) (Nat.le_of_ble_eq_true rfl) (Nat.le_of_ble_eq_true rfl)

set_option maxHeartbeats 1000000 in
set_option maxRecDepth 100000 in
theorem w_X0_law (l : Launch) (σ : xS) (P : Option Value → xS → Prop) (T : Nat → xS → Prop) (hC : xx_C l yX1_law (Cond.codeWith yX1_law cX1_law 4 (some .int) [(35, 48, 51, 260)]) 7 8 100 (fun ad => [.ref (ad 0)]) σ P T) (hP : ∀ v u, P v u → ∃ r, some (.int r) = v) (hTk : ∀ k u, T k u → k = 3) : xx_C l yX0_law (Cond.codeWith yX0_law cX0_law 3 (some .int) [(0, 8, 11, 13)]) 10 8 100 (fun ad => [.ref (ad 0), .ref (ad 7)]) σ (wOut P T (fun z => if z = 3 then 1 else 0) (fun v => v.toInt64)) (fun _ _ => False) := by
  refine xx_ofW (by decide) (fun ad => Nat.le_of_ble_eq_true rfl) ?_
  intro p e s m args below meth c G A ad wk wv ls X hE hH hl
  obtain ⟨hx, hb, hml, hT, hr, hlocks, hxc, hA⟩ := id X
  have hl : lv_has ls 3 [(0, .ref (ad 0)), (1, .ref (ad 7))] := hl
  refine lv_aload_n hx hb dX0_law_0 rfl (lv_at hl 1 rfl) ?_
  refine lv_iconst (v := 0) hx hb dX0_law_1 (by decide) ?_
  refine lv_aload_n hx hb dX0_law_2 rfl (lv_at hl 0 rfl) ?_
  refine xx_call (yy_V (n := 0) 0 (hC G A ad wk wv) hx hb hml hT hxc hA hH xx_0 rfl q678 (ex_code_ofW hT.2.1 q678) q676 q677 q33 q675 (by decide +kernel) ⟨Nat.le_of_ble_eq_true rfl, Nat.le_of_ble_eq_true rfl⟩ rfl hl.1 rfl (Nat.le_of_ble_eq_true rfl) dX0_law_3 ⟨Nat.le_of_ble_eq_true rfl, Nat.le_of_ble_eq_true rfl⟩) hH (fun v u ad1 H locs hext hH hp => ?_) (fun a k u ad1 H locs hext hH hp hI h6 => ?_)
  rotate_left
  · rcases hTk k u hp with rfl
    · refine WT.caught (pc := 11) rfl (fun Z hTH hpl => ex_find (own := RX0) (cls := (fun z => if z = 13 then 3 else 0)) (k := 3) hpl hT.1 hT.2.1 hxc.1.2 (by rw [hTH]; exact hI) [(0, 8, 11, 13)] c.exceptionTable.toList hE ?_ rfl) ?_
      · intro x hx
        simp only [List.mem_cons, List.not_mem_nil, or_false] at hx
        rcases hx with rfl
        exact ⟨by decide, q313, by decide⟩
      · skip
        refine lv_astore_n (lv' := [(2, .ref a), (0, .ref (ad 0)), (1, .ref (ad 7))]) hx hb dX0_law_11 rfl hl (by decide) rfl (fun ls hl => ?_)
        refine lv_iconst (v := 1) hx hb dX0_law_12 (by decide) ?_
        exact xx_ri hx hb hr hlocks hT hH hext rfl dX0_law_13 (Or.inr ⟨3, hp, rfl⟩) (Nat.le_of_ble_eq_true rfl) (Nat.le_of_ble_eq_true rfl)
  obtain ⟨r, rfl⟩ := hP _ _ hp
  refine lv_i2l (v := r.toInt64) hx hb dX0_law_6 rfl ?_
  refine lv_ref2 (a' := ad1 7) (hext 7 _ xx_7).symm ?_
  refine xx_lso hx hb hT hH dX0_law_7 (fun H locs hH => ?_)
  refine lv_goto (tgt := 14) hx hb dX0_law_8 (by decide) ?_
  refine lv_iconst (v := 0) hx hb dX0_law_14 (by decide) ?_
  exact xx_ri hx hb hr hlocks hT hH hext rfl dX0_law_15 (Or.inl ⟨r, u, hp, rfl, rfl⟩) (Nat.le_of_ble_eq_true rfl) (Nat.le_of_ble_eq_true rfl)
