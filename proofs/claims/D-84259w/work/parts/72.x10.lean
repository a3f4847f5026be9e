/-- what the reader may change -/
def xRp (σ u : xS) : Prop := (∀ k, k ≠ 25 → k ≠ 37 → σ.1.1 k = u.1.1 k) ∧ (∀ k, k ≠ 22 → σ.1.2 k = u.1.2 k) ∧ σ.2 = u.2
theorem xRp.rf (σ : xS) : xRp σ σ := ⟨fun _ _ _ => rfl, fun _ _ => rfl, rfl⟩
theorem xRp.tr {σ u v : xS} (h : xRp σ u) (g : xRp u v) : xRp σ v := ⟨fun k a b => (h.1 k a b).trans (g.1 k a b), fun k a => (h.2.1 k a).trans (g.2.1 k a), h.2.2.trans g.2.2⟩
theorem xRp.at {σ u : xS} (h : xRp σ u) (v : Int32) : xRp σ (xs_st u 25 v) := ⟨fun k a b => (h.1 k a b).trans (by show _ = va_up u.1.1 25 v k; simp only [va_up, if_neg a]), h.2.1, h.2.2⟩
theorem xRp.pl {σ u : xS} (h : xRp σ u) (v : Int32) : xRp σ (xs_st u 37 v) := ⟨fun k a b => (h.1 k a b).trans (by show _ = va_up u.1.1 37 v k; simp only [va_up, if_neg b]), h.2.1, h.2.2⟩
theorem xRp.dr {σ u : xS} (h : xRp σ u) (n : Nat) (v : Int32) : xRp σ (xs_ar u 22 n v) := ⟨h.1, fun k a => (h.2.1 k a).trans (xs_ar_o a).symm, h.2.2⟩
theorem xs_ar_u (σ : xS) (k n : Nat) (v : Int32) : (xs_ar σ k n v).1.2 k = upd (σ.1.2 k) n v := mm_ar_u _ _ _ _
theorem pTerm_w {tp : Nat → Int32} {en pt i : Nat} (hi : i < 4) (hw : pIsW tp (pSkip tp 32 32 en pt) (pSkip tp 97 122 en (pSkip tp 32 32 en pt)) i) (hno : ∀ z, 0 ≤ z → z < i → ¬ pIsW tp (pSkip tp 32 32 en pt) (pSkip tp 97 122 en (pSkip tp 32 32 en pt)) z) :
    pTerm tp en pt = if i = 2 then pTermR tp (pSkip tp 32 32 en (pSkip tp 97 122 en (pSkip tp 32 32 en pt))) (pSkip tp 97 122 en (pSkip tp 32 32 en (pSkip tp 97 122 en (pSkip tp 32 32 en pt)))) else pTermN tp en (pSkip tp 97 122 en (pSkip tp 32 32 en pt)) i (xm_v i) := by
  unfold pTerm pTermW
  rcases (show i = 0 ∨ i = 1 ∨ i = 2 ∨ i = 3 by omega) with rfl | rfl | rfl | rfl
  · rw [if_pos hw, if_neg (by decide)]; rfl
  · rw [if_neg (hno 0 (by decide) (by decide)), if_pos hw, if_neg (by decide)]; rfl
  · rw [if_neg (hno 0 (by decide) (by decide)), if_neg (hno 1 (by decide) (by decide)), if_neg (fun h => absurd (hw.1.symm.trans h.1) (by decide)), if_pos hw, if_pos rfl]
  · rw [if_neg (hno 0 (by decide) (by decide)), if_neg (hno 1 (by decide) (by decide)), if_pos hw, if_neg (by decide)]; rfl
theorem pTerm_o {tp : Nat → Int32} {en pt : Nat} (hno : ∀ z, 0 ≤ z → z < 4 → ¬ pIsW tp (pSkip tp 32 32 en pt) (pSkip tp 97 122 en (pSkip tp 32 32 en pt)) z) : pTerm tp en pt = .inl (pSkip tp 32 32 en pt) := by
  unfold pTerm pTermW
  rw [if_neg (hno 0 (by decide) (by decide)), if_neg (hno 1 (by decide) (by decide)), if_neg (hno 3 (by decide) (by decide)), if_neg (hno 2 (by decide) (by decide))]
theorem pTermR_w {tp : Nat → Int32} {b q i : Nat} (hi : 4 ≤ i ∧ i < 6) (hw : pIsW tp b q i) : pTermR tp b q = .inr (q, 2, nI (i - 4)) := by
  unfold pTermR
  rcases (show i = 4 ∨ i = 5 by omega) with rfl | rfl
  · rw [if_neg (fun h => absurd ((hw.2 1 (by decide)).symm.trans (h.2 1 (by decide))) (by decide)), if_pos hw]; rfl
  · rw [if_pos hw]; rfl
theorem pTermR_o {tp : Nat → Int32} {b q : Nat} (hno : ∀ z, 4 ≤ z → z < 6 → ¬ pIsW tp b q z) : pTermR tp b q = .inl b := by
  unfold pTermR
  rw [if_neg (hno 5 (by decide) (by decide)), if_neg (hno 4 (by decide) (by decide))]
theorem pTermN_y {tp : Nat → Int32} {en p to b q : Nat} {hi : Int32} (hb : pSkip tp 32 32 en p = b) (hq : pSkip tp 48 57 en b = q) (h : b < q ∧ q - b < 5 ∧ pNum tp b (q - b) ≤ hi) : pTermN tp en p to hi = .inr (q, to, pNum tp b (q - b)) := by
  unfold pTermN
  rw [hb, hq, show min 4 (q - b) = q - b by omega, if_pos h]
theorem pTermN_n {tp : Nat → Int32} {en p to b q : Nat} {hi : Int32} (hb : pSkip tp 32 32 en p = b) (hq : pSkip tp 48 57 en b = q) (h : ¬ (b < q ∧ q - b < 5 ∧ pNum tp b (q - b) ≤ hi)) : pTermN tp en p to hi = .inl b := by
  unfold pTermN
  rw [hb, hq, if_neg (fun g => h ⟨g.1, g.2.1, by have := g.2.2; rw [show min 4 (q - b) = q - b by omega] at this; exact this⟩)]
theorem pSk_id (tp : Nat → Int32) (lo hi : Int32) : ∀ n p, ¬ (lo ≤ tp p ∧ tp p ≤ hi) → pSk tp lo hi n p = p
  | 0, _, _ => rfl
  | n + 1, p, h => by rw [pSk, if_neg h]
theorem pSk_stop (tp : Nat → Int32) (lo hi : Int32) : ∀ n p, pSk tp lo hi n p = p + n ∨ ¬ (lo ≤ tp (pSk tp lo hi n p) ∧ tp (pSk tp lo hi n p) ≤ hi)
  | 0, p => Or.inl rfl
  | n + 1, p => by
    rw [pSk]
    split
    · rcases pSk_stop tp lo hi n (p + 1) with h | h
      · exact Or.inl (by omega)
      · exact Or.inr h
    · next h => exact Or.inr h
theorem pSkip_idem {tp : Nat → Int32} {lo hi : Int32} {e p : Nat} (h : p ≤ e) : pSkip tp lo hi e (pSkip tp lo hi e p) = pSkip tp lo hi e p := by
  have hb := pSkip_b (tp := tp) (lo := lo) (hi := hi) h
  rcases pSk_stop tp lo hi (e - p) p with g | g
  · have e1 : pSkip tp lo hi e p = e := by show pSk tp lo hi (e - p) p = e; omega
    rw [e1]
    show pSk tp lo hi (e - e) e = e
    rw [Nat.sub_self]; rfl
  · exact pSk_id tp lo hi _ _ g

set_option maxHeartbeats 1000000 in
set_option maxRecDepth 100000 in
theorem rd_tail {p : Program} {l : Launch} {e : Env} {s : State} {m : MethodId} {args : Array Value} {below : List Frame} {meth : Method} {c : Code} {Q : State → Prop} {G : gw_G} {A : Nat → Prop} {ad wk wv : Nat → Nat} (σ : xS) {en : Nat} (h26 : σ.1.1 26 = nI en) (he : en ≤ 400) (htp : ∀ j, j < 400 → ((σ.1.2 23) j &&& 255 = 59 ↔ (σ.1.2 23) j = 59)) (u : xS) (hu : xRp σ u) {q : Nat} (h25 : u.1.1 25 = nI q) (hqe : q ≤ en) (cnt : Nat) (X : gx_Y RX2 cX2_read 6 (some .int) G A wk wv p s m args meth c) (KB : (∀ (H : Heap) (locs : List Loc) (ls : Array Slot), (pSkip (σ.1.2 23) 32 32 en q) < en → (σ.1.2 23) (pSkip (σ.1.2 23) 32 32 en q) = 59 → xx_H G A s.heap H locs ad wk (xs_st u 25 (nI ((pSkip (σ.1.2 23) 32 32 en q) + 1))) → lv_has ls 6 [(0, .ref (ad 1)), (2, .ref (ad 22)), (3, .int (nI (cnt + 1))), (4, .int 1)] → W p l e (xx_rm 6 0 0) s m args below meth c H locs 0 0 Q (F0 m 15 ls []))) (KE : (∀ (H : Heap) (locs : List Loc) (ls : Array Slot), (pSkip (σ.1.2 23) 32 32 en q) = en → xx_H G A s.heap H locs ad wk (xs_st u 25 (nI (pSkip (σ.1.2 23) 32 32 en q))) → lv_has ls 6 [(3, .int (nI (cnt + 1)))] → W p l e (xx_rm 6 0 0) s m args below meth c H locs 0 0 Q (F0 m 116 ls []))) (KF : (∀ (H : Heap) (locs : List Loc) (ls : Array Slot), (pSkip (σ.1.2 23) 32 32 en q) < en → ¬ (σ.1.2 23) (pSkip (σ.1.2 23) 32 32 en q) = 59 → xx_H G A s.heap H locs ad wk (xs_st u 25 (nI (pSkip (σ.1.2 23) 32 32 en q))) → lv_has ls 6 [(0, .ref (ad 1))] → W p l e (xx_rm 6 0 0) s m args below meth c H locs 0 0 Q (F0 m 105 ls []))) : ∀ (H : Heap) (locs : List Loc) (ls : Array Slot), xx_H G A s.heap H locs ad wk u → lv_has ls 6 [(0, .ref (ad 1)), (2, .ref (ad 22)), (3, .int (nI cnt))] → W p l e (xx_rm 6 0 0) s m args below meth c H locs 0 0 Q (F0 m 60 ls []) := by
  obtain ⟨hx, hb, hml, hT, hr, hlocks, hxc, hA⟩ := id X
  intro H locs ls hH hl
  have e23 : u.1.2 23 = σ.1.2 23 := (hu.2.1 23 (by decide)).symm
  have h26u : u.1.1 26 = nI en := (hu.1 26 (by decide) (by decide)).symm.trans h26
  refine lv_iinc (v := nI (cnt + 1)) (lv' := [(3, .int (nI (cnt + 1))), (0, .ref (ad 1)), (2, .ref (ad 22))]) hx hb dX2_read_60 hl (k := 2) rfl (nI_add cnt 1) (by decide) rfl (fun ls hl => ?_)
  refine lv_aload_n hx hb dX2_read_63 rfl (lv_at hl 1 rfl) ?_
  refine xz_call (yy_V (n := 0) 1 (c_X2_sign l u h25 h26u hqe he G A ad wk wv) hx hb hml hT hxc hA hH xx_1 rfl q694 (ex_code_of hT.2.1 q694) q693 qs10 q34 q691 (by decide +kernel) ⟨Nat.le_of_ble_eq_true rfl, Nat.le_of_ble_eq_true rfl⟩ rfl hl.1 rfl (Nat.le_of_ble_eq_true rfl) dX2_read_64 ⟨Nat.le_of_ble_eq_true rfl, Nat.le_of_ble_eq_true rfl⟩) hH (fun v_64 u_64 H locs hH hp_64 => ?_) (fun a_64 k_64 u_64 H locs hH hp_64 hI_64 h6_64 => ?_)
  rotate_left
  · exact hp_64.elim
  rw [e23] at hp_64
  obtain ⟨rfl, hr_64⟩ := hp_64
  have hb3 := pSkip_b (tp := (σ.1.2 23)) (lo := 32) (hi := 32) hqe
  rcases hr_64 with ⟨h3, hv_64⟩ | ⟨h3, hv_64⟩
  · subst hv_64
    refine lv_bipush (v := 59) hx hb dX2_read_67 (by decide) ?_
    refine lv_icmp_ne (tgt := 76) hx hb dX2_read_69 (by decide) (fun c_69 => ?_) (fun c_69 => ?_)
    · skip
      refine lv_iconst (v := 0) hx hb dX2_read_76 (by decide) ?_
      refine lv_istore (lv' := [(4, .int 0), (3, .int (nI (cnt + 1))), (0, .ref (ad 1)), (2, .ref (ad 22))]) hx hb dX2_read_77 hl (by decide) rfl (fun ls hl => ?_)
      refine lv_iload hx hb dX2_read_79 (lv_at hl 0 rfl) ?_
      refine lv_if_eq (tgt := 97) hx hb dX2_read_81 (by decide) (fun c_81 => ?_) (fun c_81 => ?_)
      · skip
        refine lv_aload_n hx hb dX2_read_97 rfl (lv_at hl 2 rfl) ?_
        refine xz_call (yy_V (n := 0) 1 (c_X2_sign l (xs_st u 25 (nI (pSkip (σ.1.2 23) 32 32 en q))) (pt := (pSkip (σ.1.2 23) 32 32 en q)) rfl h26u hb3.2 he G A ad wk wv) hx hb hml hT hxc hA hH xx_1 rfl q694 (ex_code_of hT.2.1 q694) q693 qs10 q34 q691 (by decide +kernel) ⟨Nat.le_of_ble_eq_true rfl, Nat.le_of_ble_eq_true rfl⟩ rfl hl.1 rfl (Nat.le_of_ble_eq_true rfl) dX2_read_98 ⟨Nat.le_of_ble_eq_true rfl, Nat.le_of_ble_eq_true rfl⟩) hH (fun v_98 u_98 H locs hH hp_98 => ?_) (fun a_98 k_98 u_98 H locs hH hp_98 hI_98 h6_98 => ?_)
        rotate_left
        · exact hp_98.elim
        rw [show (xs_st u 25 (nI (pSkip (σ.1.2 23) 32 32 en q))).1.2 23 = σ.1.2 23 from e23, pSkip_idem hqe] at hp_98
        obtain ⟨rfl, hr_98⟩ := hp_98
        rw [xs_st_st] at hH
        obtain rfl : some (Value.int ((σ.1.2 23) (pSkip (σ.1.2 23) 32 32 en q) &&& 255)) = v_98 := hr_98.elim (fun h => h.2) (fun h => absurd h.1 (by omega))
        refine lv_iconst (v := (-1)) hx hb dX2_read_101 (by decide) ?_
        refine lv_icmp_eq (tgt := 113) hx hb dX2_read_102 (by decide) (fun c_102 => ?_) (fun c_102 => ?_)
        · skip
          exact absurd c_102 (and255 _)
        · skip
          exact KF _ _ _ h3 (fun h => c_69 ((htp _ (by omega)).mpr h)) hH (lv_sub hl [2] rfl)
      · skip
        exact absurd c_81 (by decide)
    · skip
      refine lv_iconst (v := 1) hx hb dX2_read_72 (by decide) ?_
      refine lv_goto (tgt := 77) hx hb dX2_read_73 (by decide) ?_
      refine lv_istore (lv' := [(4, .int 1), (3, .int (nI (cnt + 1))), (0, .ref (ad 1)), (2, .ref (ad 22))]) hx hb dX2_read_77 hl (by decide) rfl (fun ls hl => ?_)
      refine lv_iload hx hb dX2_read_79 (lv_at hl 0 rfl) ?_
      refine lv_if_eq (tgt := 97) hx hb dX2_read_81 (by decide) (fun c_81 => ?_) (fun c_81 => ?_)
      · skip
        exact absurd c_81 (by decide)
      · skip
        refine lv_aload_n hx hb dX2_read_84 rfl (lv_at hl 2 rfl) ?_
        refine lv_dup hx hb dX2_read_85 rfl ?_
        refine gw_get (C := RX2) (T := TX2) (N := 6) (ci := 2) (fs := xx_fs2 ad (xs_st u 25 (nI (pSkip (σ.1.2 23) 32 32 en q))).1.1) (v := .int ((xs_st u 25 (nI (pSkip (σ.1.2 23) 32 32 en q))).1.1 25)) hx hb hT hH.1 1 xx_1 rfl in_X2 5 (by decide) rfl q158 rfl dX2_read_86 ?_
        refine lv_as rfl ?_
        refine lv_iconst (v := 1) hx hb dX2_read_89 (by decide) ?_
        refine lv_iadd hx hb dX2_read_90 ?_
        refine lv_as (nI_add (pSkip (σ.1.2 23) 32 32 en q) 1) ?_
        refine gw_put (C := RX2) (T := TX2) (N := 6) (ci := 2) (fs := xx_fs2 ad (xs_st u 25 (nI (pSkip (σ.1.2 23) 32 32 en q))).1.1) (v := .int (nI ((pSkip (σ.1.2 23) 32 32 en q) + 1))) hx hb hT hH 1 xx_1 rfl in_X2 tyX2 tyX2_ok nmX2 5 (by decide) rfl rfl q158 rfl rfl (Nat.le_of_ble_eq_true rfl) dX2_read_91 (fun H locs hH => ?_)
        rw [xx_up2 (k := 5) (j := 25) (by decide) (nI ((pSkip (σ.1.2 23) 32 32 en q) + 1))] at hH
        refine lv_goto (tgt := 113) hx hb dX2_read_94 (by decide) ?_
        refine lv_goto (tgt := 15) hx hb dX2_read_113 (by decide) ?_
        rw [xs_st_st] at hH
        exact KB _ _ _ h3 ((htp _ (by omega)).mp c_69) hH (lv_sub hl [2, 3, 1, 0] rfl)
  · subst hv_64
    refine lv_bipush (v := 59) hx hb dX2_read_67 (by decide) ?_
    refine lv_icmp_ne (tgt := 76) hx hb dX2_read_69 (by decide) (fun c_69 => ?_) (fun c_69 => ?_)
    · skip
      refine lv_iconst (v := 0) hx hb dX2_read_76 (by decide) ?_
      refine lv_istore (lv' := [(4, .int 0), (3, .int (nI (cnt + 1))), (0, .ref (ad 1)), (2, .ref (ad 22))]) hx hb dX2_read_77 hl (by decide) rfl (fun ls hl => ?_)
      refine lv_iload hx hb dX2_read_79 (lv_at hl 0 rfl) ?_
      refine lv_if_eq (tgt := 97) hx hb dX2_read_81 (by decide) (fun c_81 => ?_) (fun c_81 => ?_)
      · skip
        refine lv_aload_n hx hb dX2_read_97 rfl (lv_at hl 2 rfl) ?_
        refine xz_call (yy_V (n := 0) 1 (c_X2_sign l (xs_st u 25 (nI (pSkip (σ.1.2 23) 32 32 en q))) (pt := (pSkip (σ.1.2 23) 32 32 en q)) rfl h26u hb3.2 he G A ad wk wv) hx hb hml hT hxc hA hH xx_1 rfl q694 (ex_code_of hT.2.1 q694) q693 qs10 q34 q691 (by decide +kernel) ⟨Nat.le_of_ble_eq_true rfl, Nat.le_of_ble_eq_true rfl⟩ rfl hl.1 rfl (Nat.le_of_ble_eq_true rfl) dX2_read_98 ⟨Nat.le_of_ble_eq_true rfl, Nat.le_of_ble_eq_true rfl⟩) hH (fun v_98 u_98 H locs hH hp_98 => ?_) (fun a_98 k_98 u_98 H locs hH hp_98 hI_98 h6_98 => ?_)
        rotate_left
        · exact hp_98.elim
        rw [show (xs_st u 25 (nI (pSkip (σ.1.2 23) 32 32 en q))).1.2 23 = σ.1.2 23 from e23, pSkip_idem hqe] at hp_98
        obtain ⟨rfl, hr_98⟩ := hp_98
        rw [xs_st_st] at hH
        obtain rfl : some (Value.int (-1)) = v_98 := hr_98.elim (fun h => absurd h.1 (by omega)) (fun h => h.2)
        refine lv_iconst (v := (-1)) hx hb dX2_read_101 (by decide) ?_
        refine lv_icmp_eq (tgt := 113) hx hb dX2_read_102 (by decide) (fun c_102 => ?_) (fun c_102 => ?_)
        · skip
          refine lv_goto (tgt := 15) hx hb dX2_read_113 (by decide) ?_
          refine lv_iload hx hb dX2_read_15 (lv_at hl 0 rfl) ?_
          refine lv_if_eq (tgt := 116) hx hb dX2_read_17 (by decide) (fun c_17 => ?_) (fun c_17 => ?_)
          · skip
            exact KE _ _ _ h3 hH (lv_sub hl [1] rfl)
          · skip
            exact absurd c_17 (by decide)
        · skip
          exact absurd c_102 (by decide)
      · skip
        exact absurd c_81 (by decide)
    · skip
      exact absurd c_69 (by decide)

set_option maxHeartbeats 1000000 in
set_option maxRecDepth 100000 in
theorem lp_X2_read {p : Program} {l : Launch} {e : Env} {s : State} {m : MethodId} {args : Array Value} {below : List Frame} {meth : Method} {c : Code} {Q : State → Prop} {G : gw_G} {A : Nat → Prop} {ad wk wv : Nat → Nat} (σ : xS) {en : Nat} (h26 : σ.1.1 26 = nI en) (he : en ≤ 400) (htp : ∀ j, j < 400 → ((σ.1.2 23) j &&& 255 = 59 ↔ (σ.1.2 23) j = 59)) {R0 : Nat ⊕ (Nat × (Nat → Int32))} (X : gx_Y RX2 cX2_read 6 (some .int) G A wk wv p s m args meth c)  (K1 : (∀ (cnt : Nat) (d : Nat → Int32) (u : xS) (H : Heap) (locs : List Loc) (ls : Array Slot), R0 = .inr (cnt, d) → xRp σ u → u.1.2 22 = d → cnt ≤ 401 → xx_H G A s.heap H locs ad wk u → lv_has ls 6 [(3, .int (nI cnt))] → W p l e (xx_rm 6 0 0) s m args below meth c H locs 0 0 Q (F0 m 116 ls []))) (K0 : (∀ (a : Nat) (w : xS) (f pc : Nat) (ls : Array Slot) (st : List Value) (H : Heap) (locs : List Loc), R0 = .inl f → xRp σ w → w.1.1 37 = nI f → xx_H G A s.heap H locs ad wk w → ex_IsS (ex_X 6) a s H → a = ad 2 → WT p l e (xx_rm 6 0 0) s m args below meth c H locs 0 0 Q (F0 m pc ls st) a)) : ∀ (n : Nat) (pt cnt : Nat) (d : Nat → Int32) (u : xS), en < pt + n → pt ≤ en → xRp σ u → u.1.1 25 = nI pt → u.1.2 22 = d → R0 = pLaw (σ.1.2 23) en n pt cnt d → cnt ≤ pt → ∀ (H : Heap) (locs : List Loc) (ls : Array Slot), xx_H G A s.heap H locs ad wk u → lv_has ls 6 [(0, .ref (ad 1)), (2, .ref (ad 22)), (3, .int (nI cnt)), (4, .int 1)] → W p l e (xx_rm 6 0 0) s m args below meth c H locs 0 0 Q (F0 m 15 ls []) := by
  obtain ⟨hx, hb, hml, hT, hr, hlocks, hxc, hA⟩ := id X
  intro n
  induction n with
  | zero =>
    intro pt cnt d u h0 hpe hu h25 h22 hR hcp
    exact absurd h0 (by omega)
  | succ n ih =>
    intro pt cnt d u h0 hpe hu h25 h22 hR hcp H locs ls hH hl
    have e23 : u.1.2 23 = σ.1.2 23 := (hu.2.1 23 (by decide)).symm
    have h26u : u.1.1 26 = nI en := (hu.1 26 (by decide) (by decide)).symm.trans h26
    refine lv_iload hx hb dX2_read_15 (lv_at hl 3 rfl) ?_
    refine lv_if_eq (tgt := 116) hx hb dX2_read_17 (by decide) (fun c_17 => ?_) (fun c_17 => ?_)
    · skip
      exact absurd c_17 (by decide)
    · skip
      refine lv_aload_n hx hb dX2_read_20 rfl (lv_at hl 0 rfl) ?_
      refine lv_iconst (v := 0) hx hb dX2_read_21 (by decide) ?_
      refine lv_iconst (v := 4) hx hb dX2_read_22 (by decide) ?_
      refine xz_call (yy_V (n := 2) 1 (c_X2_word l u h25 h26u hpe he 0 4 (by decide) (by decide) G A ad wk wv) hx hb hml hT hxc hA hH xx_1 rfl q690 (ex_code_of hT.2.1 q690) q689 qs9 q34 q687 (by decide +kernel) ⟨Nat.le_of_ble_eq_true rfl, Nat.le_of_ble_eq_true rfl⟩ rfl hl.1 rfl (Nat.le_of_ble_eq_true rfl) dX2_read_23 ⟨Nat.le_of_ble_eq_true rfl, Nat.le_of_ble_eq_true rfl⟩) hH (fun v_23 u_23 H locs hH hp_23 => ?_) (fun a_23 k_23 u_23 H locs hH hp_23 hI_23 h6_23 => ?_)
      rotate_left
      · skip
        rw [e23] at hp_23
        obtain ⟨rfl, hno, rfl⟩ := hp_23
        exact K0 _ _ _ _ _ _ _ _ (hR.trans (pLaw_l (pTerm_o hno))) ((hu.at _).pl _) rfl hH hI_23 (h6_23 rfl)
      rw [e23] at hp_23
      obtain ⟨i, -, hi4, hw, hno, rfl, rfl⟩ := hp_23
      have hT1 := pTerm_w hi4 hw hno
      have hbb := pSkip_b (tp := (σ.1.2 23)) (lo := 32) (hi := 32) hpe
      have hqq := pSkip_b (tp := (σ.1.2 23)) (lo := 97) (hi := 122) hbb.2
      have hb2 := pSkip_b (tp := (σ.1.2 23)) (lo := 32) (hi := 32) hqq.2
      clear hno hw
      rcases (show i = 0 ∨ i = 1 ∨ i = 2 ∨ i = 3 by omega) with rfl | rfl | rfl | rfl
      · skip
        rw [if_neg (by decide)] at hT1
        refine lv_istore (lv' := [(5, .int 0), (0, .ref (ad 1)), (2, .ref (ad 22)), (3, .int (nI cnt)), (4, .int 1)]) hx hb dX2_read_26 hl (by decide) rfl (fun ls hl => ?_)
        refine lv_aload_n hx hb dX2_read_28 rfl (lv_at hl 2 rfl) ?_
        refine lv_iload hx hb dX2_read_29 (lv_at hl 0 rfl) ?_
        refine lv_iload hx hb dX2_read_31 (lv_at hl 0 rfl) ?_
        refine lv_iconst (v := 2) hx hb dX2_read_33 (by decide) ?_
        refine lv_icmp_ne (tgt := 49) hx hb dX2_read_34 (by decide) (fun c_34 => ?_) (fun c_34 => ?_)
        · skip
          refine lv_aload_n hx hb dX2_read_49 rfl (lv_at hl 1 rfl) ?_
          obtain ⟨mo, hZ, hTm⟩ := hxc.2.2.2
          refine va_gets (C := RX2) (ref := RX2) hx hb hZ hH.2.2 hT.1 (hT.2.1 _ q747) (fun _ h => h) dX2_read_50 ?_
          refine lv_iload hx hb dX2_read_53 (lv_at hl 0 rfl) ?_
          refine va_ti hx hb hTm hH.2.2 (i := 0) (vp_in_nI (show 0 < 4 by decide) (by decide)) (v := .int (xm_v 0)) rfl dX2_read_55 ?_
          refine xz_call (yy_V (n := 1) 1 (c_X2_number l (xs_st u 25 (nI (pSkip (σ.1.2 23) 97 122 en (pSkip (σ.1.2 23) 32 32 en pt)))) (pt := (pSkip (σ.1.2 23) 97 122 en (pSkip (σ.1.2 23) 32 32 en pt))) rfl h26u hqq.2 he (xm_v 0) G A ad wk wv) hx hb hml hT hxc hA hH xx_1 rfl q752 (ex_code_of hT.2.1 q752) q751 qs12 q34 q749 (by decide +kernel) ⟨Nat.le_of_ble_eq_true rfl, Nat.le_of_ble_eq_true rfl⟩ rfl hl.1 rfl (Nat.le_of_ble_eq_true rfl) dX2_read_56 ⟨Nat.le_of_ble_eq_true rfl, Nat.le_of_ble_eq_true rfl⟩) hH (fun v_56 u_56 H locs hH hp_56 => ?_) (fun a_56 k_56 u_56 H locs hH hp_56 hI_56 h6_56 => ?_)
          rotate_left
          · skip
            rw [show (xs_st u 25 (nI (pSkip (σ.1.2 23) 97 122 en (pSkip (σ.1.2 23) 32 32 en pt)))).1.2 23 = σ.1.2 23 from e23] at hp_56
            obtain ⟨rfl, hn, q0, rfl⟩ := hp_56
            rw [pTermN_n rfl rfl hn] at hT1
            exact K0 _ _ _ _ _ _ _ _ (hR.trans (pLaw_l hT1)) (((hu.at _).at _).pl _) rfl hH hI_56 (h6_56 rfl)
          rw [show (xs_st u 25 (nI (pSkip (σ.1.2 23) 97 122 en (pSkip (σ.1.2 23) 32 32 en pt)))).1.2 23 = σ.1.2 23 from e23] at hp_56
          obtain ⟨hy, rfl, rfl⟩ := hp_56
          rw [pTermN_y rfl rfl hy] at hT1
          rw [xs_st_st] at hH
          refine xx_ist hx hb hT hH 22 (by decide) (by decide) rfl 0 rfl (show 0 < 4 by omega) dX2_read_59 (fun H locs hH => ?_)
          have hu2 : xRp σ (xs_ar (xs_st u 25 (nI (pSkip (σ.1.2 23) 48 57 en (pSkip (σ.1.2 23) 32 32 en (pSkip (σ.1.2 23) 97 122 en (pSkip (σ.1.2 23) 32 32 en pt)))))) 22 0 (pNum (σ.1.2 23) (pSkip (σ.1.2 23) 32 32 en (pSkip (σ.1.2 23) 97 122 en (pSkip (σ.1.2 23) 32 32 en pt))) ((pSkip (σ.1.2 23) 48 57 en (pSkip (σ.1.2 23) 32 32 en (pSkip (σ.1.2 23) 97 122 en (pSkip (σ.1.2 23) 32 32 en pt)))) - (pSkip (σ.1.2 23) 32 32 en (pSkip (σ.1.2 23) 97 122 en (pSkip (σ.1.2 23) 32 32 en pt)))))) := (hu.at _).dr _ _
          have hqe : (pSkip (σ.1.2 23) 48 57 en (pSkip (σ.1.2 23) 32 32 en (pSkip (σ.1.2 23) 97 122 en (pSkip (σ.1.2 23) 32 32 en pt)))) ≤ en := (pSkip_b hb2.2).2
          have hbq := pSkip_b (tp := (σ.1.2 23)) (lo := 32) (hi := 32) hqe
          have hpq : pt ≤ (pSkip (σ.1.2 23) 48 57 en (pSkip (σ.1.2 23) 32 32 en (pSkip (σ.1.2 23) 97 122 en (pSkip (σ.1.2 23) 32 32 en pt)))) := Nat.le_trans hbb.1 (Nat.le_trans hqq.1 (Nat.le_trans hb2.1 (pSkip_b hb2.2).1))
          have hud : (xs_ar (xs_st u 25 (nI (pSkip (σ.1.2 23) 48 57 en (pSkip (σ.1.2 23) 32 32 en (pSkip (σ.1.2 23) 97 122 en (pSkip (σ.1.2 23) 32 32 en pt)))))) 22 0 (pNum (σ.1.2 23) (pSkip (σ.1.2 23) 32 32 en (pSkip (σ.1.2 23) 97 122 en (pSkip (σ.1.2 23) 32 32 en pt))) ((pSkip (σ.1.2 23) 48 57 en (pSkip (σ.1.2 23) 32 32 en (pSkip (σ.1.2 23) 97 122 en (pSkip (σ.1.2 23) 32 32 en pt)))) - (pSkip (σ.1.2 23) 32 32 en (pSkip (σ.1.2 23) 97 122 en (pSkip (σ.1.2 23) 32 32 en pt)))))).1.2 22 = upd d 0 (pNum (σ.1.2 23) (pSkip (σ.1.2 23) 32 32 en (pSkip (σ.1.2 23) 97 122 en (pSkip (σ.1.2 23) 32 32 en pt))) ((pSkip (σ.1.2 23) 48 57 en (pSkip (σ.1.2 23) 32 32 en (pSkip (σ.1.2 23) 97 122 en (pSkip (σ.1.2 23) 32 32 en pt)))) - (pSkip (σ.1.2 23) 32 32 en (pSkip (σ.1.2 23) 97 122 en (pSkip (σ.1.2 23) 32 32 en pt))))) := (xs_ar_u _ _ _ _).trans (by rw [show (xs_st u 25 (nI (pSkip (σ.1.2 23) 48 57 en (pSkip (σ.1.2 23) 32 32 en (pSkip (σ.1.2 23) 97 122 en (pSkip (σ.1.2 23) 32 32 en pt)))))).1.2 22 = d from h22])
          refine rd_tail σ h26 he htp (xs_ar (xs_st u 25 (nI (pSkip (σ.1.2 23) 48 57 en (pSkip (σ.1.2 23) 32 32 en (pSkip (σ.1.2 23) 97 122 en (pSkip (σ.1.2 23) 32 32 en pt)))))) 22 0 (pNum (σ.1.2 23) (pSkip (σ.1.2 23) 32 32 en (pSkip (σ.1.2 23) 97 122 en (pSkip (σ.1.2 23) 32 32 en pt))) ((pSkip (σ.1.2 23) 48 57 en (pSkip (σ.1.2 23) 32 32 en (pSkip (σ.1.2 23) 97 122 en (pSkip (σ.1.2 23) 32 32 en pt)))) - (pSkip (σ.1.2 23) 32 32 en (pSkip (σ.1.2 23) 97 122 en (pSkip (σ.1.2 23) 32 32 en pt)))))) hu2 (q := (pSkip (σ.1.2 23) 48 57 en (pSkip (σ.1.2 23) 32 32 en (pSkip (σ.1.2 23) 97 122 en (pSkip (σ.1.2 23) 32 32 en pt))))) rfl hqe cnt X ?_ ?_ ?_ _ _ _ hH (lv_sub hl [1, 2, 3] rfl)
          · intro H locs ls h3 h59 hH hl
            refine ih ((pSkip (σ.1.2 23) 32 32 en (pSkip (σ.1.2 23) 48 57 en (pSkip (σ.1.2 23) 32 32 en (pSkip (σ.1.2 23) 97 122 en (pSkip (σ.1.2 23) 32 32 en pt))))) + 1) (cnt + 1) (upd d 0 (pNum (σ.1.2 23) (pSkip (σ.1.2 23) 32 32 en (pSkip (σ.1.2 23) 97 122 en (pSkip (σ.1.2 23) 32 32 en pt))) ((pSkip (σ.1.2 23) 48 57 en (pSkip (σ.1.2 23) 32 32 en (pSkip (σ.1.2 23) 97 122 en (pSkip (σ.1.2 23) 32 32 en pt)))) - (pSkip (σ.1.2 23) 32 32 en (pSkip (σ.1.2 23) 97 122 en (pSkip (σ.1.2 23) 32 32 en pt)))))) (xs_st (xs_ar (xs_st u 25 (nI (pSkip (σ.1.2 23) 48 57 en (pSkip (σ.1.2 23) 32 32 en (pSkip (σ.1.2 23) 97 122 en (pSkip (σ.1.2 23) 32 32 en pt)))))) 22 0 (pNum (σ.1.2 23) (pSkip (σ.1.2 23) 32 32 en (pSkip (σ.1.2 23) 97 122 en (pSkip (σ.1.2 23) 32 32 en pt))) ((pSkip (σ.1.2 23) 48 57 en (pSkip (σ.1.2 23) 32 32 en (pSkip (σ.1.2 23) 97 122 en (pSkip (σ.1.2 23) 32 32 en pt)))) - (pSkip (σ.1.2 23) 32 32 en (pSkip (σ.1.2 23) 97 122 en (pSkip (σ.1.2 23) 32 32 en pt)))))) 25 (nI ((pSkip (σ.1.2 23) 32 32 en (pSkip (σ.1.2 23) 48 57 en (pSkip (σ.1.2 23) 32 32 en (pSkip (σ.1.2 23) 97 122 en (pSkip (σ.1.2 23) 32 32 en pt))))) + 1))) (by omega) (by omega) (hu2.at _) rfl hud (hR.trans ((pLaw_r hT1).trans (by rw [if_neg (by omega), if_pos ⟨h3, by rw [h59]; decide, by rw [h59]; decide⟩]))) (by omega) _ _ _ hH hl
          · intro H locs ls h3 hH hl
            exact K1 _ _ _ _ _ _ (hR.trans ((pLaw_r hT1).trans (by rw [if_pos h3]))) (hu2.at _) hud (by omega) hH hl
          · intro H locs ls h3 hn59 hH hl
            have hu3 := hu2.at (nI (pSkip (σ.1.2 23) 32 32 en (pSkip (σ.1.2 23) 48 57 en (pSkip (σ.1.2 23) 32 32 en (pSkip (σ.1.2 23) 97 122 en (pSkip (σ.1.2 23) 32 32 en pt))))))
            refine lv_aload_n hx hb dX2_read_105 rfl (lv_at hl 0 rfl) ?_
            refine lv_aload_n hx hb dX2_read_106 rfl (lv_at hl 0 rfl) ?_
            refine gw_get (C := RX2) (T := TX2) (N := 6) (ci := 2) (fs := xx_fs2 ad (xs_st (xs_ar (xs_st u 25 (nI (pSkip (σ.1.2 23) 48 57 en (pSkip (σ.1.2 23) 32 32 en (pSkip (σ.1.2 23) 97 122 en (pSkip (σ.1.2 23) 32 32 en pt)))))) 22 0 (pNum (σ.1.2 23) (pSkip (σ.1.2 23) 32 32 en (pSkip (σ.1.2 23) 97 122 en (pSkip (σ.1.2 23) 32 32 en pt))) ((pSkip (σ.1.2 23) 48 57 en (pSkip (σ.1.2 23) 32 32 en (pSkip (σ.1.2 23) 97 122 en (pSkip (σ.1.2 23) 32 32 en pt)))) - (pSkip (σ.1.2 23) 32 32 en (pSkip (σ.1.2 23) 97 122 en (pSkip (σ.1.2 23) 32 32 en pt)))))) 25 (nI (pSkip (σ.1.2 23) 32 32 en (pSkip (σ.1.2 23) 48 57 en (pSkip (σ.1.2 23) 32 32 en (pSkip (σ.1.2 23) 97 122 en (pSkip (σ.1.2 23) 32 32 en pt))))))).1.1) (v := .int ((xs_st (xs_ar (xs_st u 25 (nI (pSkip (σ.1.2 23) 48 57 en (pSkip (σ.1.2 23) 32 32 en (pSkip (σ.1.2 23) 97 122 en (pSkip (σ.1.2 23) 32 32 en pt)))))) 22 0 (pNum (σ.1.2 23) (pSkip (σ.1.2 23) 32 32 en (pSkip (σ.1.2 23) 97 122 en (pSkip (σ.1.2 23) 32 32 en pt))) ((pSkip (σ.1.2 23) 48 57 en (pSkip (σ.1.2 23) 32 32 en (pSkip (σ.1.2 23) 97 122 en (pSkip (σ.1.2 23) 32 32 en pt)))) - (pSkip (σ.1.2 23) 32 32 en (pSkip (σ.1.2 23) 97 122 en (pSkip (σ.1.2 23) 32 32 en pt)))))) 25 (nI (pSkip (σ.1.2 23) 32 32 en (pSkip (σ.1.2 23) 48 57 en (pSkip (σ.1.2 23) 32 32 en (pSkip (σ.1.2 23) 97 122 en (pSkip (σ.1.2 23) 32 32 en pt))))))).1.1 25)) hx hb hT hH.1 1 xx_1 rfl in_X2 5 (by decide) rfl q158 rfl dX2_read_107 ?_
            refine lv_as rfl ?_
            refine xz_call (yy_V (n := 1) 1 (c_X2_fail l (xs_st (xs_ar (xs_st u 25 (nI (pSkip (σ.1.2 23) 48 57 en (pSkip (σ.1.2 23) 32 32 en (pSkip (σ.1.2 23) 97 122 en (pSkip (σ.1.2 23) 32 32 en pt)))))) 22 0 (pNum (σ.1.2 23) (pSkip (σ.1.2 23) 32 32 en (pSkip (σ.1.2 23) 97 122 en (pSkip (σ.1.2 23) 32 32 en pt))) ((pSkip (σ.1.2 23) 48 57 en (pSkip (σ.1.2 23) 32 32 en (pSkip (σ.1.2 23) 97 122 en (pSkip (σ.1.2 23) 32 32 en pt)))) - (pSkip (σ.1.2 23) 32 32 en (pSkip (σ.1.2 23) 97 122 en (pSkip (σ.1.2 23) 32 32 en pt)))))) 25 (nI (pSkip (σ.1.2 23) 32 32 en (pSkip (σ.1.2 23) 48 57 en (pSkip (σ.1.2 23) 32 32 en (pSkip (σ.1.2 23) 97 122 en (pSkip (σ.1.2 23) 32 32 en pt))))))) (nI (pSkip (σ.1.2 23) 32 32 en (pSkip (σ.1.2 23) 48 57 en (pSkip (σ.1.2 23) 32 32 en (pSkip (σ.1.2 23) 97 122 en (pSkip (σ.1.2 23) 32 32 en pt)))))) G A ad wk wv) hx hb hml hT hxc hA hH xx_1 rfl q746 (ex_code_of hT.2.1 q746) q745 qs11 q34 q743 (by decide +kernel) ⟨Nat.le_of_ble_eq_true rfl, Nat.le_of_ble_eq_true rfl⟩ rfl hl.1 rfl (Nat.le_of_ble_eq_true rfl) dX2_read_110 ⟨Nat.le_of_ble_eq_true rfl, Nat.le_of_ble_eq_true rfl⟩) hH (fun v_110 u_110 H locs hH hp_110 => hp_110.elim) (fun a_110 k_110 u_110 H locs hH hp_110 hI_110 h6_110 => ?_)
            obtain ⟨rfl, rfl⟩ := hp_110
            exact K0 _ _ _ _ _ _ _ _ (hR.trans ((pLaw_r hT1).trans (by rw [if_neg (by omega), if_neg (fun h => hn59 (Int32.le_antisymm h.2.2 h.2.1))]))) (hu3.pl _) rfl hH hI_110 (h6_110 rfl)
        · skip
          exact absurd c_34 (by decide)
      · skip
        rw [if_neg (by decide)] at hT1
        refine lv_istore (lv' := [(5, .int 1), (0, .ref (ad 1)), (2, .ref (ad 22)), (3, .int (nI cnt)), (4, .int 1)]) hx hb dX2_read_26 hl (by decide) rfl (fun ls hl => ?_)
        refine lv_aload_n hx hb dX2_read_28 rfl (lv_at hl 2 rfl) ?_
        refine lv_iload hx hb dX2_read_29 (lv_at hl 0 rfl) ?_
        refine lv_iload hx hb dX2_read_31 (lv_at hl 0 rfl) ?_
        refine lv_iconst (v := 2) hx hb dX2_read_33 (by decide) ?_
        refine lv_icmp_ne (tgt := 49) hx hb dX2_read_34 (by decide) (fun c_34 => ?_) (fun c_34 => ?_)
        · skip
          refine lv_aload_n hx hb dX2_read_49 rfl (lv_at hl 1 rfl) ?_
          obtain ⟨mo, hZ, hTm⟩ := hxc.2.2.2
          refine va_gets (C := RX2) (ref := RX2) hx hb hZ hH.2.2 hT.1 (hT.2.1 _ q747) (fun _ h => h) dX2_read_50 ?_
          refine lv_iload hx hb dX2_read_53 (lv_at hl 0 rfl) ?_
          refine va_ti hx hb hTm hH.2.2 (i := 1) (vp_in_nI (show 1 < 4 by decide) (by decide)) (v := .int (xm_v 1)) rfl dX2_read_55 ?_
          refine xz_call (yy_V (n := 1) 1 (c_X2_number l (xs_st u 25 (nI (pSkip (σ.1.2 23) 97 122 en (pSkip (σ.1.2 23) 32 32 en pt)))) (pt := (pSkip (σ.1.2 23) 97 122 en (pSkip (σ.1.2 23) 32 32 en pt))) rfl h26u hqq.2 he (xm_v 1) G A ad wk wv) hx hb hml hT hxc hA hH xx_1 rfl q752 (ex_code_of hT.2.1 q752) q751 qs12 q34 q749 (by decide +kernel) ⟨Nat.le_of_ble_eq_true rfl, Nat.le_of_ble_eq_true rfl⟩ rfl hl.1 rfl (Nat.le_of_ble_eq_true rfl) dX2_read_56 ⟨Nat.le_of_ble_eq_true rfl, Nat.le_of_ble_eq_true rfl⟩) hH (fun v_56 u_56 H locs hH hp_56 => ?_) (fun a_56 k_56 u_56 H locs hH hp_56 hI_56 h6_56 => ?_)
          rotate_left
          · skip
            rw [show (xs_st u 25 (nI (pSkip (σ.1.2 23) 97 122 en (pSkip (σ.1.2 23) 32 32 en pt)))).1.2 23 = σ.1.2 23 from e23] at hp_56
            obtain ⟨rfl, hn, q0, rfl⟩ := hp_56
            rw [pTermN_n rfl rfl hn] at hT1
            exact K0 _ _ _ _ _ _ _ _ (hR.trans (pLaw_l hT1)) (((hu.at _).at _).pl _) rfl hH hI_56 (h6_56 rfl)
          rw [show (xs_st u 25 (nI (pSkip (σ.1.2 23) 97 122 en (pSkip (σ.1.2 23) 32 32 en pt)))).1.2 23 = σ.1.2 23 from e23] at hp_56
          obtain ⟨hy, rfl, rfl⟩ := hp_56
          rw [pTermN_y rfl rfl hy] at hT1
          rw [xs_st_st] at hH
          refine xx_ist hx hb hT hH 22 (by decide) (by decide) rfl 1 rfl (show 1 < 4 by omega) dX2_read_59 (fun H locs hH => ?_)
          have hu2 : xRp σ (xs_ar (xs_st u 25 (nI (pSkip (σ.1.2 23) 48 57 en (pSkip (σ.1.2 23) 32 32 en (pSkip (σ.1.2 23) 97 122 en (pSkip (σ.1.2 23) 32 32 en pt)))))) 22 1 (pNum (σ.1.2 23) (pSkip (σ.1.2 23) 32 32 en (pSkip (σ.1.2 23) 97 122 en (pSkip (σ.1.2 23) 32 32 en pt))) ((pSkip (σ.1.2 23) 48 57 en (pSkip (σ.1.2 23) 32 32 en (pSkip (σ.1.2 23) 97 122 en (pSkip (σ.1.2 23) 32 32 en pt)))) - (pSkip (σ.1.2 23) 32 32 en (pSkip (σ.1.2 23) 97 122 en (pSkip (σ.1.2 23) 32 32 en pt)))))) := (hu.at _).dr _ _
          have hqe : (pSkip (σ.1.2 23) 48 57 en (pSkip (σ.1.2 23) 32 32 en (pSkip (σ.1.2 23) 97 122 en (pSkip (σ.1.2 23) 32 32 en pt)))) ≤ en := (pSkip_b hb2.2).2
          have hbq := pSkip_b (tp := (σ.1.2 23)) (lo := 32) (hi := 32) hqe
          have hpq : pt ≤ (pSkip (σ.1.2 23) 48 57 en (pSkip (σ.1.2 23) 32 32 en (pSkip (σ.1.2 23) 97 122 en (pSkip (σ.1.2 23) 32 32 en pt)))) := Nat.le_trans hbb.1 (Nat.le_trans hqq.1 (Nat.le_trans hb2.1 (pSkip_b hb2.2).1))
          have hud : (xs_ar (xs_st u 25 (nI (pSkip (σ.1.2 23) 48 57 en (pSkip (σ.1.2 23) 32 32 en (pSkip (σ.1.2 23) 97 122 en (pSkip (σ.1.2 23) 32 32 en pt)))))) 22 1 (pNum (σ.1.2 23) (pSkip (σ.1.2 23) 32 32 en (pSkip (σ.1.2 23) 97 122 en (pSkip (σ.1.2 23) 32 32 en pt))) ((pSkip (σ.1.2 23) 48 57 en (pSkip (σ.1.2 23) 32 32 en (pSkip (σ.1.2 23) 97 122 en (pSkip (σ.1.2 23) 32 32 en pt)))) - (pSkip (σ.1.2 23) 32 32 en (pSkip (σ.1.2 23) 97 122 en (pSkip (σ.1.2 23) 32 32 en pt)))))).1.2 22 = upd d 1 (pNum (σ.1.2 23) (pSkip (σ.1.2 23) 32 32 en (pSkip (σ.1.2 23) 97 122 en (pSkip (σ.1.2 23) 32 32 en pt))) ((pSkip (σ.1.2 23) 48 57 en (pSkip (σ.1.2 23) 32 32 en (pSkip (σ.1.2 23) 97 122 en (pSkip (σ.1.2 23) 32 32 en pt)))) - (pSkip (σ.1.2 23) 32 32 en (pSkip (σ.1.2 23) 97 122 en (pSkip (σ.1.2 23) 32 32 en pt))))) := (xs_ar_u _ _ _ _).trans (by rw [show (xs_st u 25 (nI (pSkip (σ.1.2 23) 48 57 en (pSkip (σ.1.2 23) 32 32 en (pSkip (σ.1.2 23) 97 122 en (pSkip (σ.1.2 23) 32 32 en pt)))))).1.2 22 = d from h22])
          refine rd_tail σ h26 he htp (xs_ar (xs_st u 25 (nI (pSkip (σ.1.2 23) 48 57 en (pSkip (σ.1.2 23) 32 32 en (pSkip (σ.1.2 23) 97 122 en (pSkip (σ.1.2 23) 32 32 en pt)))))) 22 1 (pNum (σ.1.2 23) (pSkip (σ.1.2 23) 32 32 en (pSkip (σ.1.2 23) 97 122 en (pSkip (σ.1.2 23) 32 32 en pt))) ((pSkip (σ.1.2 23) 48 57 en (pSkip (σ.1.2 23) 32 32 en (pSkip (σ.1.2 23) 97 122 en (pSkip (σ.1.2 23) 32 32 en pt)))) - (pSkip (σ.1.2 23) 32 32 en (pSkip (σ.1.2 23) 97 122 en (pSkip (σ.1.2 23) 32 32 en pt)))))) hu2 (q := (pSkip (σ.1.2 23) 48 57 en (pSkip (σ.1.2 23) 32 32 en (pSkip (σ.1.2 23) 97 122 en (pSkip (σ.1.2 23) 32 32 en pt))))) rfl hqe cnt X ?_ ?_ ?_ _ _ _ hH (lv_sub hl [1, 2, 3] rfl)
          · intro H locs ls h3 h59 hH hl
            refine ih ((pSkip (σ.1.2 23) 32 32 en (pSkip (σ.1.2 23) 48 57 en (pSkip (σ.1.2 23) 32 32 en (pSkip (σ.1.2 23) 97 122 en (pSkip (σ.1.2 23) 32 32 en pt))))) + 1) (cnt + 1) (upd d 1 (pNum (σ.1.2 23) (pSkip (σ.1.2 23) 32 32 en (pSkip (σ.1.2 23) 97 122 en (pSkip (σ.1.2 23) 32 32 en pt))) ((pSkip (σ.1.2 23) 48 57 en (pSkip (σ.1.2 23) 32 32 en (pSkip (σ.1.2 23) 97 122 en (pSkip (σ.1.2 23) 32 32 en pt)))) - (pSkip (σ.1.2 23) 32 32 en (pSkip (σ.1.2 23) 97 122 en (pSkip (σ.1.2 23) 32 32 en pt)))))) (xs_st (xs_ar (xs_st u 25 (nI (pSkip (σ.1.2 23) 48 57 en (pSkip (σ.1.2 23) 32 32 en (pSkip (σ.1.2 23) 97 122 en (pSkip (σ.1.2 23) 32 32 en pt)))))) 22 1 (pNum (σ.1.2 23) (pSkip (σ.1.2 23) 32 32 en (pSkip (σ.1.2 23) 97 122 en (pSkip (σ.1.2 23) 32 32 en pt))) ((pSkip (σ.1.2 23) 48 57 en (pSkip (σ.1.2 23) 32 32 en (pSkip (σ.1.2 23) 97 122 en (pSkip (σ.1.2 23) 32 32 en pt)))) - (pSkip (σ.1.2 23) 32 32 en (pSkip (σ.1.2 23) 97 122 en (pSkip (σ.1.2 23) 32 32 en pt)))))) 25 (nI ((pSkip (σ.1.2 23) 32 32 en (pSkip (σ.1.2 23) 48 57 en (pSkip (σ.1.2 23) 32 32 en (pSkip (σ.1.2 23) 97 122 en (pSkip (σ.1.2 23) 32 32 en pt))))) + 1))) (by omega) (by omega) (hu2.at _) rfl hud (hR.trans ((pLaw_r hT1).trans (by rw [if_neg (by omega), if_pos ⟨h3, by rw [h59]; decide, by rw [h59]; decide⟩]))) (by omega) _ _ _ hH hl
          · intro H locs ls h3 hH hl
            exact K1 _ _ _ _ _ _ (hR.trans ((pLaw_r hT1).trans (by rw [if_pos h3]))) (hu2.at _) hud (by omega) hH hl
          · intro H locs ls h3 hn59 hH hl
            have hu3 := hu2.at (nI (pSkip (σ.1.2 23) 32 32 en (pSkip (σ.1.2 23) 48 57 en (pSkip (σ.1.2 23) 32 32 en (pSkip (σ.1.2 23) 97 122 en (pSkip (σ.1.2 23) 32 32 en pt))))))
            refine lv_aload_n hx hb dX2_read_105 rfl (lv_at hl 0 rfl) ?_
            refine lv_aload_n hx hb dX2_read_106 rfl (lv_at hl 0 rfl) ?_
            refine gw_get (C := RX2) (T := TX2) (N := 6) (ci := 2) (fs := xx_fs2 ad (xs_st (xs_ar (xs_st u 25 (nI (pSkip (σ.1.2 23) 48 57 en (pSkip (σ.1.2 23) 32 32 en (pSkip (σ.1.2 23) 97 122 en (pSkip (σ.1.2 23) 32 32 en pt)))))) 22 1 (pNum (σ.1.2 23) (pSkip (σ.1.2 23) 32 32 en (pSkip (σ.1.2 23) 97 122 en (pSkip (σ.1.2 23) 32 32 en pt))) ((pSkip (σ.1.2 23) 48 57 en (pSkip (σ.1.2 23) 32 32 en (pSkip (σ.1.2 23) 97 122 en (pSkip (σ.1.2 23) 32 32 en pt)))) - (pSkip (σ.1.2 23) 32 32 en (pSkip (σ.1.2 23) 97 122 en (pSkip (σ.1.2 23) 32 32 en pt)))))) 25 (nI (pSkip (σ.1.2 23) 32 32 en (pSkip (σ.1.2 23) 48 57 en (pSkip (σ.1.2 23) 32 32 en (pSkip (σ.1.2 23) 97 122 en (pSkip (σ.1.2 23) 32 32 en pt))))))).1.1) (v := .int ((xs_st (xs_ar (xs_st u 25 (nI (pSkip (σ.1.2 23) 48 57 en (pSkip (σ.1.2 23) 32 32 en (pSkip (σ.1.2 23) 97 122 en (pSkip (σ.1.2 23) 32 32 en pt)))))) 22 1 (pNum (σ.1.2 23) (pSkip (σ.1.2 23) 32 32 en (pSkip (σ.1.2 23) 97 122 en (pSkip (σ.1.2 23) 32 32 en pt))) ((pSkip (σ.1.2 23) 48 57 en (pSkip (σ.1.2 23) 32 32 en (pSkip (σ.1.2 23) 97 122 en (pSkip (σ.1.2 23) 32 32 en pt)))) - (pSkip (σ.1.2 23) 32 32 en (pSkip (σ.1.2 23) 97 122 en (pSkip (σ.1.2 23) 32 32 en pt)))))) 25 (nI (pSkip (σ.1.2 23) 32 32 en (pSkip (σ.1.2 23) 48 57 en (pSkip (σ.1.2 23) 32 32 en (pSkip (σ.1.2 23) 97 122 en (pSkip (σ.1.2 23) 32 32 en pt))))))).1.1 25)) hx hb hT hH.1 1 xx_1 rfl in_X2 5 (by decide) rfl q158 rfl dX2_read_107 ?_
            refine lv_as rfl ?_
            refine xz_call (yy_V (n := 1) 1 (c_X2_fail l (xs_st (xs_ar (xs_st u 25 (nI (pSkip (σ.1.2 23) 48 57 en (pSkip (σ.1.2 23) 32 32 en (pSkip (σ.1.2 23) 97 122 en (pSkip (σ.1.2 23) 32 32 en pt)))))) 22 1 (pNum (σ.1.2 23) (pSkip (σ.1.2 23) 32 32 en (pSkip (σ.1.2 23) 97 122 en (pSkip (σ.1.2 23) 32 32 en pt))) ((pSkip (σ.1.2 23) 48 57 en (pSkip (σ.1.2 23) 32 32 en (pSkip (σ.1.2 23) 97 122 en (pSkip (σ.1.2 23) 32 32 en pt)))) - (pSkip (σ.1.2 23) 32 32 en (pSkip (σ.1.2 23) 97 122 en (pSkip (σ.1.2 23) 32 32 en pt)))))) 25 (nI (pSkip (σ.1.2 23) 32 32 en (pSkip (σ.1.2 23) 48 57 en (pSkip (σ.1.2 23) 32 32 en (pSkip (σ.1.2 23) 97 122 en (pSkip (σ.1.2 23) 32 32 en pt))))))) (nI (pSkip (σ.1.2 23) 32 32 en (pSkip (σ.1.2 23) 48 57 en (pSkip (σ.1.2 23) 32 32 en (pSkip (σ.1.2 23) 97 122 en (pSkip (σ.1.2 23) 32 32 en pt)))))) G A ad wk wv) hx hb hml hT hxc hA hH xx_1 rfl q746 (ex_code_of hT.2.1 q746) q745 qs11 q34 q743 (by decide +kernel) ⟨Nat.le_of_ble_eq_true rfl, Nat.le_of_ble_eq_true rfl⟩ rfl hl.1 rfl (Nat.le_of_ble_eq_true rfl) dX2_read_110 ⟨Nat.le_of_ble_eq_true rfl, Nat.le_of_ble_eq_true rfl⟩) hH (fun v_110 u_110 H locs hH hp_110 => hp_110.elim) (fun a_110 k_110 u_110 H locs hH hp_110 hI_110 h6_110 => ?_)
            obtain ⟨rfl, rfl⟩ := hp_110
            exact K0 _ _ _ _ _ _ _ _ (hR.trans ((pLaw_r hT1).trans (by rw [if_neg (by omega), if_neg (fun h => hn59 (Int32.le_antisymm h.2.2 h.2.1))]))) (hu3.pl _) rfl hH hI_110 (h6_110 rfl)
        · skip
          exact absurd c_34 (by decide)
      · skip
        rw [if_pos rfl] at hT1
        refine lv_istore (lv' := [(5, .int 2), (0, .ref (ad 1)), (2, .ref (ad 22)), (3, .int (nI cnt)), (4, .int 1)]) hx hb dX2_read_26 hl (by decide) rfl (fun ls hl => ?_)
        refine lv_aload_n hx hb dX2_read_28 rfl (lv_at hl 2 rfl) ?_
        refine lv_iload hx hb dX2_read_29 (lv_at hl 0 rfl) ?_
        refine lv_iload hx hb dX2_read_31 (lv_at hl 0 rfl) ?_
        refine lv_iconst (v := 2) hx hb dX2_read_33 (by decide) ?_
        refine lv_icmp_ne (tgt := 49) hx hb dX2_read_34 (by decide) (fun c_34 => ?_) (fun c_34 => ?_)
        · skip
          exact absurd c_34 (by decide)
        · skip
          refine lv_aload_n hx hb dX2_read_37 rfl (lv_at hl 1 rfl) ?_
          refine lv_iconst (v := 4) hx hb dX2_read_38 (by decide) ?_
          refine lv_bipush (v := 6) hx hb dX2_read_39 (by decide) ?_
          refine xz_call (yy_V (n := 2) 1 (c_X2_word l (xs_st u 25 (nI (pSkip (σ.1.2 23) 97 122 en (pSkip (σ.1.2 23) 32 32 en pt)))) (pt := (pSkip (σ.1.2 23) 97 122 en (pSkip (σ.1.2 23) 32 32 en pt))) rfl h26u hqq.2 he 4 6 (by decide) (by decide) G A ad wk wv) hx hb hml hT hxc hA hH xx_1 rfl q690 (ex_code_of hT.2.1 q690) q689 qs9 q34 q687 (by decide +kernel) ⟨Nat.le_of_ble_eq_true rfl, Nat.le_of_ble_eq_true rfl⟩ rfl hl.1 rfl (Nat.le_of_ble_eq_true rfl) dX2_read_41 ⟨Nat.le_of_ble_eq_true rfl, Nat.le_of_ble_eq_true rfl⟩) hH (fun v_41 u_41 H locs hH hp_41 => ?_) (fun a_41 k_41 u_41 H locs hH hp_41 hI_41 h6_41 => ?_)
          rotate_left
          · skip
            rw [show (xs_st u 25 (nI (pSkip (σ.1.2 23) 97 122 en (pSkip (σ.1.2 23) 32 32 en pt)))).1.2 23 = σ.1.2 23 from e23] at hp_41
            obtain ⟨rfl, hno2, rfl⟩ := hp_41
            rw [pTermR_o hno2] at hT1
            exact K0 _ _ _ _ _ _ _ _ (hR.trans (pLaw_l hT1)) (((hu.at _).at _).pl _) rfl hH hI_41 (h6_41 rfl)
          rw [show (xs_st u 25 (nI (pSkip (σ.1.2 23) 97 122 en (pSkip (σ.1.2 23) 32 32 en pt)))).1.2 23 = σ.1.2 23 from e23] at hp_41
          obtain ⟨i2, h4i, hi6, hw2, -, rfl, rfl⟩ := hp_41
          rw [pTermR_w ⟨h4i, hi6⟩ hw2] at hT1
          rw [xs_st_st] at hH
          refine lv_iconst (v := 4) hx hb dX2_read_44 (by decide) ?_
          refine lv_isub hx hb dX2_read_45 ?_
          refine lv_as (z := nI (i2 - 4)) (pk_sub h4i) ?_
          refine lv_goto (tgt := 59) hx hb dX2_read_46 (by decide) ?_
          refine xx_ist hx hb hT hH 22 (by decide) (by decide) rfl 2 rfl (show 2 < 4 by omega) dX2_read_59 (fun H locs hH => ?_)
          have hu2 : xRp σ (xs_ar (xs_st u 25 (nI (pSkip (σ.1.2 23) 97 122 en (pSkip (σ.1.2 23) 32 32 en (pSkip (σ.1.2 23) 97 122 en (pSkip (σ.1.2 23) 32 32 en pt)))))) 22 2 (nI (i2 - 4))) := (hu.at _).dr _ _
          have hqe : (pSkip (σ.1.2 23) 97 122 en (pSkip (σ.1.2 23) 32 32 en (pSkip (σ.1.2 23) 97 122 en (pSkip (σ.1.2 23) 32 32 en pt)))) ≤ en := (pSkip_b hb2.2).2
          have hbq := pSkip_b (tp := (σ.1.2 23)) (lo := 32) (hi := 32) hqe
          have hpq : pt ≤ (pSkip (σ.1.2 23) 97 122 en (pSkip (σ.1.2 23) 32 32 en (pSkip (σ.1.2 23) 97 122 en (pSkip (σ.1.2 23) 32 32 en pt)))) := Nat.le_trans hbb.1 (Nat.le_trans hqq.1 (Nat.le_trans hb2.1 (pSkip_b hb2.2).1))
          have hud : (xs_ar (xs_st u 25 (nI (pSkip (σ.1.2 23) 97 122 en (pSkip (σ.1.2 23) 32 32 en (pSkip (σ.1.2 23) 97 122 en (pSkip (σ.1.2 23) 32 32 en pt)))))) 22 2 (nI (i2 - 4))).1.2 22 = upd d 2 (nI (i2 - 4)) := (xs_ar_u _ _ _ _).trans (by rw [show (xs_st u 25 (nI (pSkip (σ.1.2 23) 97 122 en (pSkip (σ.1.2 23) 32 32 en (pSkip (σ.1.2 23) 97 122 en (pSkip (σ.1.2 23) 32 32 en pt)))))).1.2 22 = d from h22])
          refine rd_tail σ h26 he htp (xs_ar (xs_st u 25 (nI (pSkip (σ.1.2 23) 97 122 en (pSkip (σ.1.2 23) 32 32 en (pSkip (σ.1.2 23) 97 122 en (pSkip (σ.1.2 23) 32 32 en pt)))))) 22 2 (nI (i2 - 4))) hu2 (q := (pSkip (σ.1.2 23) 97 122 en (pSkip (σ.1.2 23) 32 32 en (pSkip (σ.1.2 23) 97 122 en (pSkip (σ.1.2 23) 32 32 en pt))))) rfl hqe cnt X ?_ ?_ ?_ _ _ _ hH (lv_sub hl [1, 2, 3] rfl)
          · intro H locs ls h3 h59 hH hl
            refine ih ((pSkip (σ.1.2 23) 32 32 en (pSkip (σ.1.2 23) 97 122 en (pSkip (σ.1.2 23) 32 32 en (pSkip (σ.1.2 23) 97 122 en (pSkip (σ.1.2 23) 32 32 en pt))))) + 1) (cnt + 1) (upd d 2 (nI (i2 - 4))) (xs_st (xs_ar (xs_st u 25 (nI (pSkip (σ.1.2 23) 97 122 en (pSkip (σ.1.2 23) 32 32 en (pSkip (σ.1.2 23) 97 122 en (pSkip (σ.1.2 23) 32 32 en pt)))))) 22 2 (nI (i2 - 4))) 25 (nI ((pSkip (σ.1.2 23) 32 32 en (pSkip (σ.1.2 23) 97 122 en (pSkip (σ.1.2 23) 32 32 en (pSkip (σ.1.2 23) 97 122 en (pSkip (σ.1.2 23) 32 32 en pt))))) + 1))) (by omega) (by omega) (hu2.at _) rfl hud (hR.trans ((pLaw_r hT1).trans (by rw [if_neg (by omega), if_pos ⟨h3, by rw [h59]; decide, by rw [h59]; decide⟩]))) (by omega) _ _ _ hH hl
          · intro H locs ls h3 hH hl
            exact K1 _ _ _ _ _ _ (hR.trans ((pLaw_r hT1).trans (by rw [if_pos h3]))) (hu2.at _) hud (by omega) hH hl
          · intro H locs ls h3 hn59 hH hl
            have hu3 := hu2.at (nI (pSkip (σ.1.2 23) 32 32 en (pSkip (σ.1.2 23) 97 122 en (pSkip (σ.1.2 23) 32 32 en (pSkip (σ.1.2 23) 97 122 en (pSkip (σ.1.2 23) 32 32 en pt))))))
            refine lv_aload_n hx hb dX2_read_105 rfl (lv_at hl 0 rfl) ?_
            refine lv_aload_n hx hb dX2_read_106 rfl (lv_at hl 0 rfl) ?_
            refine gw_get (C := RX2) (T := TX2) (N := 6) (ci := 2) (fs := xx_fs2 ad (xs_st (xs_ar (xs_st u 25 (nI (pSkip (σ.1.2 23) 97 122 en (pSkip (σ.1.2 23) 32 32 en (pSkip (σ.1.2 23) 97 122 en (pSkip (σ.1.2 23) 32 32 en pt)))))) 22 2 (nI (i2 - 4))) 25 (nI (pSkip (σ.1.2 23) 32 32 en (pSkip (σ.1.2 23) 97 122 en (pSkip (σ.1.2 23) 32 32 en (pSkip (σ.1.2 23) 97 122 en (pSkip (σ.1.2 23) 32 32 en pt))))))).1.1) (v := .int ((xs_st (xs_ar (xs_st u 25 (nI (pSkip (σ.1.2 23) 97 122 en (pSkip (σ.1.2 23) 32 32 en (pSkip (σ.1.2 23) 97 122 en (pSkip (σ.1.2 23) 32 32 en pt)))))) 22 2 (nI (i2 - 4))) 25 (nI (pSkip (σ.1.2 23) 32 32 en (pSkip (σ.1.2 23) 97 122 en (pSkip (σ.1.2 23) 32 32 en (pSkip (σ.1.2 23) 97 122 en (pSkip (σ.1.2 23) 32 32 en pt))))))).1.1 25)) hx hb hT hH.1 1 xx_1 rfl in_X2 5 (by decide) rfl q158 rfl dX2_read_107 ?_
            refine lv_as rfl ?_
            refine xz_call (yy_V (n := 1) 1 (c_X2_fail l (xs_st (xs_ar (xs_st u 25 (nI (pSkip (σ.1.2 23) 97 122 en (pSkip (σ.1.2 23) 32 32 en (pSkip (σ.1.2 23) 97 122 en (pSkip (σ.1.2 23) 32 32 en pt)))))) 22 2 (nI (i2 - 4))) 25 (nI (pSkip (σ.1.2 23) 32 32 en (pSkip (σ.1.2 23) 97 122 en (pSkip (σ.1.2 23) 32 32 en (pSkip (σ.1.2 23) 97 122 en (pSkip (σ.1.2 23) 32 32 en pt))))))) (nI (pSkip (σ.1.2 23) 32 32 en (pSkip (σ.1.2 23) 97 122 en (pSkip (σ.1.2 23) 32 32 en (pSkip (σ.1.2 23) 97 122 en (pSkip (σ.1.2 23) 32 32 en pt)))))) G A ad wk wv) hx hb hml hT hxc hA hH xx_1 rfl q746 (ex_code_of hT.2.1 q746) q745 qs11 q34 q743 (by decide +kernel) ⟨Nat.le_of_ble_eq_true rfl, Nat.le_of_ble_eq_true rfl⟩ rfl hl.1 rfl (Nat.le_of_ble_eq_true rfl) dX2_read_110 ⟨Nat.le_of_ble_eq_true rfl, Nat.le_of_ble_eq_true rfl⟩) hH (fun v_110 u_110 H locs hH hp_110 => hp_110.elim) (fun a_110 k_110 u_110 H locs hH hp_110 hI_110 h6_110 => ?_)
            obtain ⟨rfl, rfl⟩ := hp_110
            exact K0 _ _ _ _ _ _ _ _ (hR.trans ((pLaw_r hT1).trans (by rw [if_neg (by omega), if_neg (fun h => hn59 (Int32.le_antisymm h.2.2 h.2.1))]))) (hu3.pl _) rfl hH hI_110 (h6_110 rfl)
      · skip
        rw [if_neg (by decide)] at hT1
        refine lv_istore (lv' := [(5, .int 3), (0, .ref (ad 1)), (2, .ref (ad 22)), (3, .int (nI cnt)), (4, .int 1)]) hx hb dX2_read_26 hl (by decide) rfl (fun ls hl => ?_)
        refine lv_aload_n hx hb dX2_read_28 rfl (lv_at hl 2 rfl) ?_
        refine lv_iload hx hb dX2_read_29 (lv_at hl 0 rfl) ?_
        refine lv_iload hx hb dX2_read_31 (lv_at hl 0 rfl) ?_
        refine lv_iconst (v := 2) hx hb dX2_read_33 (by decide) ?_
        refine lv_icmp_ne (tgt := 49) hx hb dX2_read_34 (by decide) (fun c_34 => ?_) (fun c_34 => ?_)
        · skip
          refine lv_aload_n hx hb dX2_read_49 rfl (lv_at hl 1 rfl) ?_
          obtain ⟨mo, hZ, hTm⟩ := hxc.2.2.2
          refine va_gets (C := RX2) (ref := RX2) hx hb hZ hH.2.2 hT.1 (hT.2.1 _ q747) (fun _ h => h) dX2_read_50 ?_
          refine lv_iload hx hb dX2_read_53 (lv_at hl 0 rfl) ?_
          refine va_ti hx hb hTm hH.2.2 (i := 3) (vp_in_nI (show 3 < 4 by decide) (by decide)) (v := .int (xm_v 3)) rfl dX2_read_55 ?_
          refine xz_call (yy_V (n := 1) 1 (c_X2_number l (xs_st u 25 (nI (pSkip (σ.1.2 23) 97 122 en (pSkip (σ.1.2 23) 32 32 en pt)))) (pt := (pSkip (σ.1.2 23) 97 122 en (pSkip (σ.1.2 23) 32 32 en pt))) rfl h26u hqq.2 he (xm_v 3) G A ad wk wv) hx hb hml hT hxc hA hH xx_1 rfl q752 (ex_code_of hT.2.1 q752) q751 qs12 q34 q749 (by decide +kernel) ⟨Nat.le_of_ble_eq_true rfl, Nat.le_of_ble_eq_true rfl⟩ rfl hl.1 rfl (Nat.le_of_ble_eq_true rfl) dX2_read_56 ⟨Nat.le_of_ble_eq_true rfl, Nat.le_of_ble_eq_true rfl⟩) hH (fun v_56 u_56 H locs hH hp_56 => ?_) (fun a_56 k_56 u_56 H locs hH hp_56 hI_56 h6_56 => ?_)
          rotate_left
          · skip
            rw [show (xs_st u 25 (nI (pSkip (σ.1.2 23) 97 122 en (pSkip (σ.1.2 23) 32 32 en pt)))).1.2 23 = σ.1.2 23 from e23] at hp_56
            obtain ⟨rfl, hn, q0, rfl⟩ := hp_56
            rw [pTermN_n rfl rfl hn] at hT1
            exact K0 _ _ _ _ _ _ _ _ (hR.trans (pLaw_l hT1)) (((hu.at _).at _).pl _) rfl hH hI_56 (h6_56 rfl)
          rw [show (xs_st u 25 (nI (pSkip (σ.1.2 23) 97 122 en (pSkip (σ.1.2 23) 32 32 en pt)))).1.2 23 = σ.1.2 23 from e23] at hp_56
          obtain ⟨hy, rfl, rfl⟩ := hp_56
          rw [pTermN_y rfl rfl hy] at hT1
          rw [xs_st_st] at hH
          refine xx_ist hx hb hT hH 22 (by decide) (by decide) rfl 3 rfl (show 3 < 4 by omega) dX2_read_59 (fun H locs hH => ?_)
          have hu2 : xRp σ (xs_ar (xs_st u 25 (nI (pSkip (σ.1.2 23) 48 57 en (pSkip (σ.1.2 23) 32 32 en (pSkip (σ.1.2 23) 97 122 en (pSkip (σ.1.2 23) 32 32 en pt)))))) 22 3 (pNum (σ.1.2 23) (pSkip (σ.1.2 23) 32 32 en (pSkip (σ.1.2 23) 97 122 en (pSkip (σ.1.2 23) 32 32 en pt))) ((pSkip (σ.1.2 23) 48 57 en (pSkip (σ.1.2 23) 32 32 en (pSkip (σ.1.2 23) 97 122 en (pSkip (σ.1.2 23) 32 32 en pt)))) - (pSkip (σ.1.2 23) 32 32 en (pSkip (σ.1.2 23) 97 122 en (pSkip (σ.1.2 23) 32 32 en pt)))))) := (hu.at _).dr _ _
          have hqe : (pSkip (σ.1.2 23) 48 57 en (pSkip (σ.1.2 23) 32 32 en (pSkip (σ.1.2 23) 97 122 en (pSkip (σ.1.2 23) 32 32 en pt)))) ≤ en := (pSkip_b hb2.2).2
          have hbq := pSkip_b (tp := (σ.1.2 23)) (lo := 32) (hi := 32) hqe
          have hpq : pt ≤ (pSkip (σ.1.2 23) 48 57 en (pSkip (σ.1.2 23) 32 32 en (pSkip (σ.1.2 23) 97 122 en (pSkip (σ.1.2 23) 32 32 en pt)))) := Nat.le_trans hbb.1 (Nat.le_trans hqq.1 (Nat.le_trans hb2.1 (pSkip_b hb2.2).1))
          have hud : (xs_ar (xs_st u 25 (nI (pSkip (σ.1.2 23) 48 57 en (pSkip (σ.1.2 23) 32 32 en (pSkip (σ.1.2 23) 97 122 en (pSkip (σ.1.2 23) 32 32 en pt)))))) 22 3 (pNum (σ.1.2 23) (pSkip (σ.1.2 23) 32 32 en (pSkip (σ.1.2 23) 97 122 en (pSkip (σ.1.2 23) 32 32 en pt))) ((pSkip (σ.1.2 23) 48 57 en (pSkip (σ.1.2 23) 32 32 en (pSkip (σ.1.2 23) 97 122 en (pSkip (σ.1.2 23) 32 32 en pt)))) - (pSkip (σ.1.2 23) 32 32 en (pSkip (σ.1.2 23) 97 122 en (pSkip (σ.1.2 23) 32 32 en pt)))))).1.2 22 = upd d 3 (pNum (σ.1.2 23) (pSkip (σ.1.2 23) 32 32 en (pSkip (σ.1.2 23) 97 122 en (pSkip (σ.1.2 23) 32 32 en pt))) ((pSkip (σ.1.2 23) 48 57 en (pSkip (σ.1.2 23) 32 32 en (pSkip (σ.1.2 23) 97 122 en (pSkip (σ.1.2 23) 32 32 en pt)))) - (pSkip (σ.1.2 23) 32 32 en (pSkip (σ.1.2 23) 97 122 en (pSkip (σ.1.2 23) 32 32 en pt))))) := (xs_ar_u _ _ _ _).trans (by rw [show (xs_st u 25 (nI (pSkip (σ.1.2 23) 48 57 en (pSkip (σ.1.2 23) 32 32 en (pSkip (σ.1.2 23) 97 122 en (pSkip (σ.1.2 23) 32 32 en pt)))))).1.2 22 = d from h22])
          refine rd_tail σ h26 he htp (xs_ar (xs_st u 25 (nI (pSkip (σ.1.2 23) 48 57 en (pSkip (σ.1.2 23) 32 32 en (pSkip (σ.1.2 23) 97 122 en (pSkip (σ.1.2 23) 32 32 en pt)))))) 22 3 (pNum (σ.1.2 23) (pSkip (σ.1.2 23) 32 32 en (pSkip (σ.1.2 23) 97 122 en (pSkip (σ.1.2 23) 32 32 en pt))) ((pSkip (σ.1.2 23) 48 57 en (pSkip (σ.1.2 23) 32 32 en (pSkip (σ.1.2 23) 97 122 en (pSkip (σ.1.2 23) 32 32 en pt)))) - (pSkip (σ.1.2 23) 32 32 en (pSkip (σ.1.2 23) 97 122 en (pSkip (σ.1.2 23) 32 32 en pt)))))) hu2 (q := (pSkip (σ.1.2 23) 48 57 en (pSkip (σ.1.2 23) 32 32 en (pSkip (σ.1.2 23) 97 122 en (pSkip (σ.1.2 23) 32 32 en pt))))) rfl hqe cnt X ?_ ?_ ?_ _ _ _ hH (lv_sub hl [1, 2, 3] rfl)
          · intro H locs ls h3 h59 hH hl
            refine ih ((pSkip (σ.1.2 23) 32 32 en (pSkip (σ.1.2 23) 48 57 en (pSkip (σ.1.2 23) 32 32 en (pSkip (σ.1.2 23) 97 122 en (pSkip (σ.1.2 23) 32 32 en pt))))) + 1) (cnt + 1) (upd d 3 (pNum (σ.1.2 23) (pSkip (σ.1.2 23) 32 32 en (pSkip (σ.1.2 23) 97 122 en (pSkip (σ.1.2 23) 32 32 en pt))) ((pSkip (σ.1.2 23) 48 57 en (pSkip (σ.1.2 23) 32 32 en (pSkip (σ.1.2 23) 97 122 en (pSkip (σ.1.2 23) 32 32 en pt)))) - (pSkip (σ.1.2 23) 32 32 en (pSkip (σ.1.2 23) 97 122 en (pSkip (σ.1.2 23) 32 32 en pt)))))) (xs_st (xs_ar (xs_st u 25 (nI (pSkip (σ.1.2 23) 48 57 en (pSkip (σ.1.2 23) 32 32 en (pSkip (σ.1.2 23) 97 122 en (pSkip (σ.1.2 23) 32 32 en pt)))))) 22 3 (pNum (σ.1.2 23) (pSkip (σ.1.2 23) 32 32 en (pSkip (σ.1.2 23) 97 122 en (pSkip (σ.1.2 23) 32 32 en pt))) ((pSkip (σ.1.2 23) 48 57 en (pSkip (σ.1.2 23) 32 32 en (pSkip (σ.1.2 23) 97 122 en (pSkip (σ.1.2 23) 32 32 en pt)))) - (pSkip (σ.1.2 23) 32 32 en (pSkip (σ.1.2 23) 97 122 en (pSkip (σ.1.2 23) 32 32 en pt)))))) 25 (nI ((pSkip (σ.1.2 23) 32 32 en (pSkip (σ.1.2 23) 48 57 en (pSkip (σ.1.2 23) 32 32 en (pSkip (σ.1.2 23) 97 122 en (pSkip (σ.1.2 23) 32 32 en pt))))) + 1))) (by omega) (by omega) (hu2.at _) rfl hud (hR.trans ((pLaw_r hT1).trans (by rw [if_neg (by omega), if_pos ⟨h3, by rw [h59]; decide, by rw [h59]; decide⟩]))) (by omega) _ _ _ hH hl
          · intro H locs ls h3 hH hl
            exact K1 _ _ _ _ _ _ (hR.trans ((pLaw_r hT1).trans (by rw [if_pos h3]))) (hu2.at _) hud (by omega) hH hl
          · intro H locs ls h3 hn59 hH hl
            have hu3 := hu2.at (nI (pSkip (σ.1.2 23) 32 32 en (pSkip (σ.1.2 23) 48 57 en (pSkip (σ.1.2 23) 32 32 en (pSkip (σ.1.2 23) 97 122 en (pSkip (σ.1.2 23) 32 32 en pt))))))
            refine lv_aload_n hx hb dX2_read_105 rfl (lv_at hl 0 rfl) ?_
            refine lv_aload_n hx hb dX2_read_106 rfl (lv_at hl 0 rfl) ?_
            refine gw_get (C := RX2) (T := TX2) (N := 6) (ci := 2) (fs := xx_fs2 ad (xs_st (xs_ar (xs_st u 25 (nI (pSkip (σ.1.2 23) 48 57 en (pSkip (σ.1.2 23) 32 32 en (pSkip (σ.1.2 23) 97 122 en (pSkip (σ.1.2 23) 32 32 en pt)))))) 22 3 (pNum (σ.1.2 23) (pSkip (σ.1.2 23) 32 32 en (pSkip (σ.1.2 23) 97 122 en (pSkip (σ.1.2 23) 32 32 en pt))) ((pSkip (σ.1.2 23) 48 57 en (pSkip (σ.1.2 23) 32 32 en (pSkip (σ.1.2 23) 97 122 en (pSkip (σ.1.2 23) 32 32 en pt)))) - (pSkip (σ.1.2 23) 32 32 en (pSkip (σ.1.2 23) 97 122 en (pSkip (σ.1.2 23) 32 32 en pt)))))) 25 (nI (pSkip (σ.1.2 23) 32 32 en (pSkip (σ.1.2 23) 48 57 en (pSkip (σ.1.2 23) 32 32 en (pSkip (σ.1.2 23) 97 122 en (pSkip (σ.1.2 23) 32 32 en pt))))))).1.1) (v := .int ((xs_st (xs_ar (xs_st u 25 (nI (pSkip (σ.1.2 23) 48 57 en (pSkip (σ.1.2 23) 32 32 en (pSkip (σ.1.2 23) 97 122 en (pSkip (σ.1.2 23) 32 32 en pt)))))) 22 3 (pNum (σ.1.2 23) (pSkip (σ.1.2 23) 32 32 en (pSkip (σ.1.2 23) 97 122 en (pSkip (σ.1.2 23) 32 32 en pt))) ((pSkip (σ.1.2 23) 48 57 en (pSkip (σ.1.2 23) 32 32 en (pSkip (σ.1.2 23) 97 122 en (pSkip (σ.1.2 23) 32 32 en pt)))) - (pSkip (σ.1.2 23) 32 32 en (pSkip (σ.1.2 23) 97 122 en (pSkip (σ.1.2 23) 32 32 en pt)))))) 25 (nI (pSkip (σ.1.2 23) 32 32 en (pSkip (σ.1.2 23) 48 57 en (pSkip (σ.1.2 23) 32 32 en (pSkip (σ.1.2 23) 97 122 en (pSkip (σ.1.2 23) 32 32 en pt))))))).1.1 25)) hx hb hT hH.1 1 xx_1 rfl in_X2 5 (by decide) rfl q158 rfl dX2_read_107 ?_
            refine lv_as rfl ?_
            refine xz_call (yy_V (n := 1) 1 (c_X2_fail l (xs_st (xs_ar (xs_st u 25 (nI (pSkip (σ.1.2 23) 48 57 en (pSkip (σ.1.2 23) 32 32 en (pSkip (σ.1.2 23) 97 122 en (pSkip (σ.1.2 23) 32 32 en pt)))))) 22 3 (pNum (σ.1.2 23) (pSkip (σ.1.2 23) 32 32 en (pSkip (σ.1.2 23) 97 122 en (pSkip (σ.1.2 23) 32 32 en pt))) ((pSkip (σ.1.2 23) 48 57 en (pSkip (σ.1.2 23) 32 32 en (pSkip (σ.1.2 23) 97 122 en (pSkip (σ.1.2 23) 32 32 en pt)))) - (pSkip (σ.1.2 23) 32 32 en (pSkip (σ.1.2 23) 97 122 en (pSkip (σ.1.2 23) 32 32 en pt)))))) 25 (nI (pSkip (σ.1.2 23) 32 32 en (pSkip (σ.1.2 23) 48 57 en (pSkip (σ.1.2 23) 32 32 en (pSkip (σ.1.2 23) 97 122 en (pSkip (σ.1.2 23) 32 32 en pt))))))) (nI (pSkip (σ.1.2 23) 32 32 en (pSkip (σ.1.2 23) 48 57 en (pSkip (σ.1.2 23) 32 32 en (pSkip (σ.1.2 23) 97 122 en (pSkip (σ.1.2 23) 32 32 en pt)))))) G A ad wk wv) hx hb hml hT hxc hA hH xx_1 rfl q746 (ex_code_of hT.2.1 q746) q745 qs11 q34 q743 (by decide +kernel) ⟨Nat.le_of_ble_eq_true rfl, Nat.le_of_ble_eq_true rfl⟩ rfl hl.1 rfl (Nat.le_of_ble_eq_true rfl) dX2_read_110 ⟨Nat.le_of_ble_eq_true rfl, Nat.le_of_ble_eq_true rfl⟩) hH (fun v_110 u_110 H locs hH hp_110 => hp_110.elim) (fun a_110 k_110 u_110 H locs hH hp_110 hI_110 h6_110 => ?_)
            obtain ⟨rfl, rfl⟩ := hp_110
            exact K0 _ _ _ _ _ _ _ _ (hR.trans ((pLaw_r hT1).trans (by rw [if_neg (by omega), if_neg (fun h => hn59 (Int32.le_antisymm h.2.2 h.2.1))]))) (hu3.pl _) rfl hH hI_110 (h6_110 rfl)
        · skip
          exact absurd c_34 (by decide)

set_option maxHeartbeats 1000000 in
set_option maxRecDepth 100000 in
theorem c_X2_read (l : Launch) (σ : xS) {nT : Nat} (hnT : nT ≤ 400) (htp : ∀ j, j < 400 → ((σ.1.2 23) j &&& 255 = 59 ↔ (σ.1.2 23) j = 59)) : xz_C l yX2_read (Cond.code yX2_read cX2_read 6 (some .int)) 6 0 0 (fun ad => [.ref (ad 1), .int (nI nT), .ref (ad 22)]) σ (fun r u => ∃ cnt d, pLaw (σ.1.2 23) nT (nT + 1) 0 0 (σ.1.2 22) = .inr (cnt, d) ∧ cnt ≤ 401 ∧ xRp (xs_st (xs_st σ 26 (nI nT)) 25 0) u ∧ u.1.2 22 = d ∧ some (.int (nI cnt)) = r) (fun k u => k = 6 ∧ ∃ f, pLaw (σ.1.2 23) nT (nT + 1) 0 0 (σ.1.2 22) = .inl f ∧ xRp (xs_st (xs_st σ 26 (nI nT)) 25 0) u ∧ u.1.1 37 = nI f) := by
  refine xz_of (by decide) (fun ad => Nat.le_of_ble_eq_true rfl) ?_
  intro p e s m args below meth c G A ad wk wv ls X hE hH hl
  obtain ⟨hx, hb, hml, hT, hr, hlocks, hxc, hA⟩ := id X
  have hl : lv_has ls 6 [(0, .ref (ad 1)), (1, .int (nI nT)), (2, .ref (ad 22))] := hl
  refine lv_aload_n hx hb dX2_read_0 rfl (lv_at hl 0 rfl) ?_
  refine lv_iload_n hx hb dX2_read_1 rfl (lv_at hl 1 rfl) ?_
  refine gw_put (C := RX2) (T := TX2) (N := 6) (ci := 2) (fs := xx_fs2 ad σ.1.1) (v := .int (nI nT)) hx hb hT hH 1 xx_1 rfl in_X2 tyX2 tyX2_ok nmX2 4 (by decide) rfl rfl q157 rfl rfl (Nat.le_of_ble_eq_true rfl) dX2_read_2 (fun H locs hH => ?_)
  rw [xx_up2 (k := 4) (j := 26) (by decide) (nI nT)] at hH
  refine lv_aload_n hx hb dX2_read_5 rfl (lv_at hl 0 rfl) ?_
  refine lv_iconst (v := 0) hx hb dX2_read_6 (by decide) ?_
  refine gw_put (C := RX2) (T := TX2) (N := 6) (ci := 2) (fs := xx_fs2 ad (xs_st σ 26 (nI nT)).1.1) (v := .int 0) hx hb hT hH 1 xx_1 rfl in_X2 tyX2 tyX2_ok nmX2 5 (by decide) rfl rfl q158 rfl rfl (Nat.le_of_ble_eq_true rfl) dX2_read_7 (fun H locs hH => ?_)
  rw [xx_up2 (k := 5) (j := 25) (by decide) 0] at hH
  refine lv_iconst (v := 0) hx hb dX2_read_10 (by decide) ?_
  refine lv_istore_n (lv' := [(3, .int 0), (0, .ref (ad 1)), (1, .int (nI nT)), (2, .ref (ad 22))]) hx hb dX2_read_11 rfl hl (by decide) rfl (fun ls hl => ?_)
  refine lv_iconst (v := 1) hx hb dX2_read_12 (by decide) ?_
  refine lv_istore (lv' := [(4, .int 1), (3, .int 0), (0, .ref (ad 1)), (1, .int (nI nT)), (2, .ref (ad 22))]) hx hb dX2_read_13 hl (by decide) rfl (fun ls hl => ?_)
  refine lp_X2_read (xs_st (xs_st σ 26 (nI nT)) 25 0) (en := nT) rfl hnT htp X ?_ ?_ (nT + 1) 0 0 (σ.1.2 22) (xs_st (xs_st σ 26 (nI nT)) 25 0) (by omega) (Nat.zero_le _) (xRp.rf _) rfl rfl rfl (Nat.le_refl _) _ _ _ hH (lv_sub hl [2, 4, 1, 0] rfl)
  · intro cnt d u H locs ls hR hu h22 hc4 hH hl
    refine lv_iload_n hx hb dX2_read_116 rfl (lv_at hl 0 rfl) ?_
    exact xz_ri hx hb hr hlocks hT hH rfl dX2_read_117 (⟨cnt, d, hR, hc4, hu, h22, rfl⟩) (Nat.le_of_ble_eq_true rfl) (Nat.le_of_ble_eq_true rfl)
  · intro a w f pc ls st H locs hR hu h37 hH hI ha
    exact xz_out (k := 6) hlocks hE hT hH ⟨rfl, f, hR, hu, h37⟩ hI (fun _ => ha) (Nat.le_of_ble_eq_true rfl) (Nat.le_of_ble_eq_true rfl)
