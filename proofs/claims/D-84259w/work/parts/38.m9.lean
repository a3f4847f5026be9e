def hSum (P : Nat → Nat) : Nat → Nat
  | 0 => 0
  | n + 1 => hSum P n + P n
/-- the floors' sum -/
def hTot (a S : Nat) (P : Nat → Nat) : Nat → Nat := hSum (fun j => a * P j / S)
theorem hSum_mono (P : Nat → Nat) {n m : Nat} (h : n ≤ m) : hSum P n ≤ hSum P m := by
  induction m with
  | zero =>
    obtain rfl : n = 0 := by omega
    exact Nat.le_refl _
  | succ m ih =>
    rcases Nat.lt_or_ge m n with q | q
    · obtain rfl : n = m + 1 := by omega
      exact Nat.le_refl _
    · exact Nat.le_trans (ih q) (Nat.le_add_right _ _)
theorem hTot_mul (a S : Nat) (P : Nat → Nat) : ∀ n, hTot a S P n * S ≤ a * hSum P n
  | 0 => by simp [hTot, hSum]
  | n + 1 => by
    have h1 := hTot_mul a S P n
    have h2 := Nat.div_mul_le_self (a * P n) S
    show (hTot a S P n + a * P n / S) * S ≤ a * (hSum P n + P n)
    rw [Nat.add_mul, Nat.mul_add]
    omega
theorem hTot_le {a S : Nat} {P : Nat → Nat} {n : Nat} (hS : 0 < S) (h : hSum P n ≤ S) : hTot a S P n ≤ a := by
  have h1 := hTot_mul a S P n
  have h2 : a * hSum P n ≤ a * S := Nat.mul_le_mul_left _ h
  exact Nat.le_of_mul_le_mul_right (Nat.le_trans h1 h2) hS
def hLn (a S : Nat) (P : Nat → Nat) (lf : Nat) (j : Nat) : Nat := a * P j / S + (if j < lf then 1 else 0)
def hPc (Ln : Nat → Nat) : Nat → Nat
  | 0 => 0
  | n + 1 => hPc Ln n + (if 0 < Ln n then 1 else 0)
theorem hPc_le (Ln : Nat → Nat) : ∀ n, hPc Ln n ≤ n
  | 0 => Nat.le_refl _
  | n + 1 => by
    have := hPc_le Ln n
    rw [hPc]
    split <;> omega
theorem hPc_mono (Ln : Nat → Nat) {n m : Nat} (h : n ≤ m) : hPc Ln n ≤ hPc Ln m := by
  induction m with
  | zero =>
    obtain rfl : n = 0 := by omega
    exact Nat.le_refl _
  | succ m ih =>
    rcases Nat.lt_or_ge m n with q | q
    · obtain rfl : n = m + 1 := by omega
      exact Nat.le_refl _
    · exact Nat.le_trans (ih q) (Nat.le_add_right _ _)
/-- the heirs' shares laid, j of them -/
def hSt (τ : mS) (k nS F : Nat) (wh : Nat → Int32) (Ln : Nat → Nat) : Nat → mS
  | 0 => τ
  | j + 1 => if Ln j = 0 then hSt τ k nS F wh Ln j
      else if hPc Ln j = 0 then pSets (hSt τ k nS F wh Ln j) k (nI (F + hSum Ln j)) (nI (F + hSum Ln j + Ln j)) (wh j)
      else pAdds (hSt τ k nS F wh Ln j) (nS + hPc Ln j - 1) (τ.2 16 (7 * k)) (nI (F + hSum Ln j)) (nI (F + hSum Ln j + Ln j)) (wh j)
theorem pSets_1 (σ : mS) (k : Nat) (f t o : Int32) : (pSets σ k f t o).1 = σ.1 := rfl
theorem pSets_o (σ : mS) (k : Nat) (f t o : Int32) {j : Nat} (h : j ≠ 16) : (pSets σ k f t o).2 j = σ.2 j := by
  unfold pSets
  rw [mm_ar_o h, mm_ar_o h, mm_ar_o h, mm_ar_o h, mm_ar_o h]
theorem pAdds_o (σ : mS) (k : Nat) (ch f t o : Int32) {j : Nat} (h : j ≠ 16) : (pAdds σ k ch f t o).2 j = σ.2 j := by
  show (pSets (mm_ar σ 16 (7 * k) ch) k f t o).2 j = _
  rw [pSets_o _ _ _ _ _ h, mm_ar_o h]
theorem hSt_o (τ : mS) (k nS F : Nat) (wh : Nat → Int32) (Ln : Nat → Nat) {q : Nat} (h : q ≠ 16) : ∀ j, (hSt τ k nS F wh Ln j).2 q = τ.2 q
  | 0 => rfl
  | j + 1 => by
    rw [hSt]
    split
    · exact hSt_o τ k nS F wh Ln h j
    · split
      · rw [pSets_o _ _ _ _ _ h]; exact hSt_o τ k nS F wh Ln h j
      · rw [pAdds_o _ _ _ _ _ _ h]; exact hSt_o τ k nS F wh Ln h j
theorem hSt_17 (τ : mS) (k nS F : Nat) (wh : Nat → Int32) (Ln : Nat → Nat) (h : τ.1 17 = nI nS) (hn : 0 < nS) : ∀ j, (hSt τ k nS F wh Ln j).1 17 = nI (if hPc Ln j = 0 then nS else nS + hPc Ln j - 1)
  | 0 => h
  | j + 1 => by
    have ih := hSt_17 τ k nS F wh Ln h hn j
    rw [hSt, hPc]
    by_cases e : Ln j = 0
    · rw [if_pos e, if_neg (show ¬ 0 < Ln j by omega)]
      exact ih
    · rw [if_neg e, if_pos (show 0 < Ln j by omega), if_neg (show ¬ hPc Ln j + 1 = 0 by omega)]
      by_cases e2 : hPc Ln j = 0
      · rw [if_pos e2, pSets_1, ih, if_pos e2, e2]
        rfl
      · rw [if_neg e2]
        show nI (nS + hPc Ln j - 1 + 1) = _
        congr 1
        omega
theorem hSt_ch (τ : mS) (k nS F : Nat) (wh : Nat → Int32) (Ln : Nat → Nat) (hk : k < nS) : ∀ j, (hSt τ k nS F wh Ln j).2 16 (7 * k) = τ.2 16 (7 * k)
  | 0 => rfl
  | j + 1 => by
    have ih := hSt_ch τ k nS F wh Ln hk j
    rw [hSt]
    split
    · exact ih
    · split
      · rw [pSets_at _ _ _ _ _ (by omega)]; exact ih
      · rw [pAdds_at _ _ _ _ _ _ (by omega)]; exact ih
def pSame3 (τ σ : mS) : Prop := τ.1 = σ.1 ∧ ∀ j, j ≠ 18 → j ≠ 19 → j ≠ 20 → τ.2 j = σ.2 j

set_option maxHeartbeats 1000000 in
set_option maxRecDepth 100000 in
theorem lp_X4_heirs1 {p : Program} {l : Launch} {e : Env} {s : State} {m : MethodId} {args : Array Value} {below : List Frame} {meth : Method} {c : Code} {Q : State → Prop} {G : gw_G} {A : Nat → Prop} {H0 : Heap} {ad : Nat → Nat} (σ : mS) (k n4 : Nat) (h4 : n4 ≤ 4) (X : gx_X RX4 cX4_heirs 20 (some .int) G p s m args meth c) (K1 : (∀ (H : Heap) (locs : List Loc) (ls : Array Slot), (∀ j, j < n4 → ((0 ≤ σ.2 18 j ∧ σ.2 18 j ≤ 30) ∧ (1 ≤ σ.2 19 j ∧ σ.2 19 j ≤ 100))) → mm_H G A H0 H locs ad σ → lv_has ls 20 [(0, .ref (ad 0)), (1, .int (nI k)), (2, .int (nI n4)), (11, .int 1)] → W p l e (mm_rm 4) s m args below meth c H locs 0 0 Q (F0 m 160 ls []))) (K0 : (∀ (H : Heap) (locs : List Loc) (ls : Array Slot), (¬ ∀ j, j < n4 → ((0 ≤ σ.2 18 j ∧ σ.2 18 j ≤ 30) ∧ (1 ≤ σ.2 19 j ∧ σ.2 19 j ≤ 100))) → mm_H G A H0 H locs ad σ → lv_has ls 20 [(0, .ref (ad 0)), (1, .int (nI k)), (2, .int (nI n4)), (11, .int 0)] → W p l e (mm_rm 4) s m args below meth c H locs 0 0 Q (F0 m 160 ls []))) : ∀ (n : Nat) (i : Nat), n4 < i + n → i ≤ n4 → (∀ j, j < i → ((0 ≤ σ.2 18 j ∧ σ.2 18 j ≤ 30) ∧ (1 ≤ σ.2 19 j ∧ σ.2 19 j ≤ 100))) → ∀ (H : Heap) (locs : List Loc) (ls : Array Slot), mm_H G A H0 H locs ad σ → lv_has ls 20 [(0, .ref (ad 0)), (1, .int (nI k)), (2, .int (nI n4)), (11, .int 1), (12, .int (nI i))] → W p l e (mm_rm 4) s m args below meth c H locs 0 0 Q (F0 m 107 ls []) := by
  obtain ⟨hx, hb, hml, hT, hr, hlocks⟩ := id X
  intro n
  induction n with
  | zero =>
    intro i h0 hi hall
    exact absurd h0 (by omega)
  | succ n ih =>
    intro i h0 hi hall H locs ls hH hl
    refine lv_iload hx hb dX4_heirs_107 (lv_at hl 3 rfl) ?_
    refine lv_if_eq (tgt := 160) hx hb dX4_heirs_109 (by decide) (fun c_109 => ?_) (fun c_109 => ?_)
    · skip
      exact absurd c_109 (by decide)
    · skip
      refine lv_iload hx hb dX4_heirs_112 (lv_at hl 4 rfl) ?_
      refine lv_iload_n hx hb dX4_heirs_114 rfl (lv_at hl 2 rfl) ?_
      refine lv_icmp_ge (tgt := 160) hx hb dX4_heirs_115 (by decide) (fun c_115 => ?_) (fun c_115 => ?_)
      · skip
        have c_115 : n4 ≤ i := (nI_leI (a := n4) (b := i) (by omega) (by omega)).mp c_115
        obtain rfl : n4 = i := by omega
        exact K1 _ _ _ hall hH (lv_sub hl [0, 1, 2, 3] rfl)
      · skip
        have c_115 : ¬ (n4 ≤ i) := fun h => c_115 ((nI_leI (a := n4) (b := i) (by omega) (by omega)).mpr h)
        refine lv_aload_n hx hb dX4_heirs_118 rfl (lv_at hl 0 rfl) ?_
        refine mm_get (v := .ref (ad 18)) hx hb hT hH 18 (by decide) rfl q799 rfl dX4_heirs_119 ?_
        refine lv_iload hx hb dX4_heirs_122 (lv_at hl 4 rfl) ?_
        refine mm_ild (v := σ.2 18 i) hx hb hT hH 18 (by decide) rfl i rfl (show i < 4 by omega) rfl dX4_heirs_124 ?_
        refine ss_ci (n := 1) (c_X4_noOwner l (σ.2 18 i)) hx hb hml hT.1 hT.2.1 (lw_S q996 q997 q39 q998) (by decide +kernel) ⟨Nat.le_of_ble_eq_true rfl, Nat.le_of_ble_eq_true rfl⟩ rfl hl.1 rfl (Nat.le_of_ble_eq_true rfl) dX4_heirs_125 ⟨Nat.le_refl _, Nat.le_refl _⟩ (fun r_125 hp_125 => ?_)
        rcases hp_125 with ⟨rfl, h_125⟩ | ⟨rfl, h_125⟩
        · skip
          refine lv_if_ne (tgt := 151) hx hb dX4_heirs_128 (by decide) (fun c_128 => ?_) (fun c_128 => ?_)
          · skip
            refine lv_iconst (v := 0) hx hb dX4_heirs_151 (by decide) ?_
            refine lv_istore (lv' := [(11, .int 0), (0, .ref (ad 0)), (1, .int (nI k)), (2, .int (nI n4)), (12, .int (nI i))]) hx hb dX4_heirs_152 hl (by decide) rfl (fun ls hl => ?_)
            refine lv_iinc (v := nI (i + 1)) (lv' := [(12, .int (nI (i + 1))), (11, .int 0), (0, .ref (ad 0)), (1, .int (nI k)), (2, .int (nI n4))]) hx hb dX4_heirs_154 hl (k := 4) rfl (nI_add i 1) (by decide) rfl (fun ls hl => ?_)
            refine lv_goto (tgt := 107) hx hb dX4_heirs_157 (by decide) ?_
            refine lv_iload hx hb dX4_heirs_107 (lv_at hl 1 rfl) ?_
            refine lv_if_eq (tgt := 160) hx hb dX4_heirs_109 (by decide) (fun c_109 => ?_) (fun c_109 => ?_)
            · skip
              exact K0 _ _ _ (fun g => h_125 (g i (by omega)).1) hH (lv_sub hl [2, 3, 4, 1] rfl)
            · skip
              exact absurd c_109 (by decide)
          · skip
            exact absurd c_128 (by decide)
        · skip
          refine lv_if_ne (tgt := 151) hx hb dX4_heirs_128 (by decide) (fun c_128 => ?_) (fun c_128 => ?_)
          · skip
            exact absurd c_128 (by decide)
          · skip
            refine lv_aload_n hx hb dX4_heirs_131 rfl (lv_at hl 0 rfl) ?_
            refine mm_get (v := .ref (ad 19)) hx hb hT hH 19 (by decide) rfl q800 rfl dX4_heirs_132 ?_
            refine lv_iload hx hb dX4_heirs_135 (lv_at hl 4 rfl) ?_
            refine mm_ild (v := σ.2 19 i) hx hb hT hH 19 (by decide) rfl i rfl (show i < 4 by omega) rfl dX4_heirs_137 ?_
            refine lv_iconst (v := 1) hx hb dX4_heirs_138 (by decide) ?_
            refine lv_bipush (v := 100) hx hb dX4_heirs_139 (by decide) ?_
            refine ss_ci (n := 3) (c_X4_in l (σ.2 19 i) 1 100) hx hb hml hT.1 hT.2.1 (lw_S q899 q900 q39 q901) (by decide +kernel) ⟨Nat.le_of_ble_eq_true rfl, Nat.le_of_ble_eq_true rfl⟩ rfl hl.1 rfl (Nat.le_of_ble_eq_true rfl) dX4_heirs_141 ⟨Nat.le_refl _, Nat.le_refl _⟩ (fun r_141 hp_141 => ?_)
            rcases hp_141 with ⟨rfl, h_141⟩ | ⟨rfl, h_141⟩
            · skip
              refine lv_if_eq (tgt := 151) hx hb dX4_heirs_144 (by decide) (fun c_144 => ?_) (fun c_144 => ?_)
              · skip
                exact absurd c_144 (by decide)
              · skip
                refine lv_iconst (v := 1) hx hb dX4_heirs_147 (by decide) ?_
                refine lv_goto (tgt := 152) hx hb dX4_heirs_148 (by decide) ?_
                refine lv_istore (lv' := [(11, .int 1), (0, .ref (ad 0)), (1, .int (nI k)), (2, .int (nI n4)), (12, .int (nI i))]) hx hb dX4_heirs_152 hl (by decide) rfl (fun ls hl => ?_)
                refine lv_iinc (v := nI (i + 1)) (lv' := [(12, .int (nI (i + 1))), (11, .int 1), (0, .ref (ad 0)), (1, .int (nI k)), (2, .int (nI n4))]) hx hb dX4_heirs_154 hl (k := 4) rfl (nI_add i 1) (by decide) rfl (fun ls hl => ?_)
                refine lv_goto (tgt := 107) hx hb dX4_heirs_157 (by decide) ?_
                exact ih (i + 1) (by omega) (by omega) (fun j hj => by rcases Nat.lt_or_ge j i with y | y; exact hall j y; rw [show j = i by omega]; exact ⟨h_125, h_141⟩) _ _ _ hH (lv_sub hl [2, 3, 4, 1, 0] rfl)
            · skip
              refine lv_if_eq (tgt := 151) hx hb dX4_heirs_144 (by decide) (fun c_144 => ?_) (fun c_144 => ?_)
              · skip
                refine lv_iconst (v := 0) hx hb dX4_heirs_151 (by decide) ?_
                refine lv_istore (lv' := [(11, .int 0), (0, .ref (ad 0)), (1, .int (nI k)), (2, .int (nI n4)), (12, .int (nI i))]) hx hb dX4_heirs_152 hl (by decide) rfl (fun ls hl => ?_)
                refine lv_iinc (v := nI (i + 1)) (lv' := [(12, .int (nI (i + 1))), (11, .int 0), (0, .ref (ad 0)), (1, .int (nI k)), (2, .int (nI n4))]) hx hb dX4_heirs_154 hl (k := 4) rfl (nI_add i 1) (by decide) rfl (fun ls hl => ?_)
                refine lv_goto (tgt := 107) hx hb dX4_heirs_157 (by decide) ?_
                refine lv_iload hx hb dX4_heirs_107 (lv_at hl 1 rfl) ?_
                refine lv_if_eq (tgt := 160) hx hb dX4_heirs_109 (by decide) (fun c_109 => ?_) (fun c_109 => ?_)
                · skip
                  exact K0 _ _ _ (fun g => h_141 (g i (by omega)).2) hH (lv_sub hl [2, 3, 4, 1] rfl)
                · skip
                  exact absurd c_109 (by decide)
              · skip
                exact absurd c_144 (by decide)

set_option maxHeartbeats 1000000 in
set_option maxRecDepth 100000 in
theorem lp_X4_heirs2 {p : Program} {l : Launch} {e : Env} {s : State} {m : MethodId} {args : Array Value} {below : List Frame} {meth : Method} {c : Code} {Q : State → Prop} {G : gw_G} {A : Nat → Prop} {H0 : Heap} {ad : Nat → Nat} (σ : mS) (k n4 : Nat) (h4 : n4 ≤ 4) (F a : Nat) (P : Nat → Nat) (hP : ∀ j, j < n4 → σ.2 19 j = nI (P j) ∧ 1 ≤ P j ∧ P j ≤ 100) (X : gx_X RX4 cX4_heirs 20 (some .int) G p s m args meth c) (K : (∀ (H : Heap) (locs : List Loc) (ls : Array Slot), mm_H G A H0 H locs ad σ → lv_has ls 20 [(0, .ref (ad 0)), (1, .int (nI k)), (2, .int (nI n4)), (12, .int (nI (7 * k))), (13, .int (nI F)), (14, .int (nI a)), (15, .int (nI (hSum P n4)))] → W p l e (mm_rm 4) s m args below meth c H locs 0 0 Q (F0 m 241 ls []))) : ∀ (n : Nat) (i : Nat), n4 < i + n → i ≤ n4 → ∀ (H : Heap) (locs : List Loc) (ls : Array Slot), mm_H G A H0 H locs ad σ → lv_has ls 20 [(0, .ref (ad 0)), (1, .int (nI k)), (2, .int (nI n4)), (12, .int (nI (7 * k))), (13, .int (nI F)), (14, .int (nI a)), (15, .int (nI (hSum P i))), (16, .int (nI i))] → W p l e (mm_rm 4) s m args below meth c H locs 0 0 Q (F0 m 217 ls []) := by
  obtain ⟨hx, hb, hml, hT, hr, hlocks⟩ := id X
  intro n
  induction n with
  | zero =>
    intro i h0 hi
    exact absurd h0 (by omega)
  | succ n ih =>
    intro i h0 hi H locs ls hH hl
    refine lv_iload hx hb dX4_heirs_217 (lv_at hl 7 rfl) ?_
    refine lv_iload_n hx hb dX4_heirs_219 rfl (lv_at hl 2 rfl) ?_
    refine lv_icmp_ge (tgt := 241) hx hb dX4_heirs_220 (by decide) (fun c_220 => ?_) (fun c_220 => ?_)
    · skip
      have c_220 : n4 ≤ i := (nI_leI (a := n4) (b := i) (by omega) (by omega)).mp c_220
      obtain rfl : n4 = i := by omega
      exact K _ _ _ hH (lv_sub hl [0, 1, 2, 3, 4, 5, 6] rfl)
    · skip
      have c_220 : ¬ (n4 ≤ i) := fun h => c_220 ((nI_leI (a := n4) (b := i) (by omega) (by omega)).mpr h)
      refine lv_iload hx hb dX4_heirs_223 (lv_at hl 6 rfl) ?_
      refine lv_aload_n hx hb dX4_heirs_225 rfl (lv_at hl 0 rfl) ?_
      refine mm_get (v := .ref (ad 19)) hx hb hT hH 19 (by decide) rfl q800 rfl dX4_heirs_226 ?_
      refine lv_iload hx hb dX4_heirs_229 (lv_at hl 7 rfl) ?_
      refine mm_ild (v := σ.2 19 i) hx hb hT hH 19 (by decide) rfl i rfl (show i < 4 by omega) rfl dX4_heirs_231 ?_
      refine lv_as ((hP i (by omega)).1) ?_
      refine lv_iadd hx hb dX4_heirs_232 ?_
      refine lv_as (nI_add (hSum P i) (P i)) ?_
      refine lv_istore (lv' := [(15, .int (nI ((hSum P i) + (P i)))), (0, .ref (ad 0)), (1, .int (nI k)), (2, .int (nI n4)), (12, .int (nI (7 * k))), (13, .int (nI F)), (14, .int (nI a)), (16, .int (nI i))]) hx hb dX4_heirs_233 hl (by decide) rfl (fun ls hl => ?_)
      refine lv_iinc (v := nI (i + 1)) (lv' := [(16, .int (nI (i + 1))), (15, .int (nI ((hSum P i) + (P i)))), (0, .ref (ad 0)), (1, .int (nI k)), (2, .int (nI n4)), (12, .int (nI (7 * k))), (13, .int (nI F)), (14, .int (nI a))]) hx hb dX4_heirs_235 hl (k := 7) rfl (nI_add i 1) (by decide) rfl (fun ls hl => ?_)
      refine lv_goto (tgt := 217) hx hb dX4_heirs_238 (by decide) ?_
      exact ih (i + 1) (by omega) (by omega) _ _ _ hH (lv_sub hl [2, 3, 4, 5, 6, 7, 1, 0] rfl)

set_option maxHeartbeats 1000000 in
set_option maxRecDepth 100000 in
theorem lp_X4_heirs3 {p : Program} {l : Launch} {e : Env} {s : State} {m : MethodId} {args : Array Value} {below : List Frame} {meth : Method} {c : Code} {Q : State → Prop} {G : gw_G} {A : Nat → Prop} {H0 : Heap} {ad : Nat → Nat} (σ : mS) (k n4 : Nat) (h4 : n4 ≤ 4) (F a : Nat) (P : Nat → Nat) (hP : ∀ j, j < n4 → σ.2 19 j = nI (P j) ∧ 1 ≤ P j ∧ P j ≤ 100) (S : Nat) (hS0 : 0 < S) (hS1 : hSum P n4 ≤ S) (hS2 : S ≤ 400) (ha : a ≤ 21600) (X : gx_X RX4 cX4_heirs 20 (some .int) G p s m args meth c) (K : ∀ τ : mS, pSame τ σ 20 → (∀ j, j < n4 → τ.2 20 j = nI (a * P j / S)) → (∀ (H : Heap) (locs : List Loc) (ls : Array Slot), mm_H G A H0 H locs ad τ → lv_has ls 20 [(0, .ref (ad 0)), (1, .int (nI k)), (2, .int (nI n4)), (12, .int (nI (7 * k))), (13, .int (nI F)), (14, .int (nI a)), (15, .int (nI S)), (16, .int (nI (a - hTot a S P n4)))] → W p l e (mm_rm 4) s m args below meth c H locs 0 0 Q (F0 m 292 ls []))) : ∀ (n : Nat) (i : Nat) (τ : mS), n4 < i + n → i ≤ n4 → pSame τ σ 20 → (∀ j, j < i → τ.2 20 j = nI (a * P j / S)) → ∀ (H : Heap) (locs : List Loc) (ls : Array Slot), mm_H G A H0 H locs ad τ → lv_has ls 20 [(0, .ref (ad 0)), (1, .int (nI k)), (2, .int (nI n4)), (12, .int (nI (7 * k))), (13, .int (nI F)), (14, .int (nI a)), (15, .int (nI S)), (16, .int (nI (a - hTot a S P i))), (17, .int (nI i))] → W p l e (mm_rm 4) s m args below meth c H locs 0 0 Q (F0 m 248 ls []) := by
  obtain ⟨hx, hb, hml, hT, hr, hlocks⟩ := id X
  intro n
  induction n with
  | zero =>
    intro i τ h0 hi hτ hlo
    exact absurd h0 (by omega)
  | succ n ih =>
    intro i τ h0 hi hτ hlo H locs ls hH hl
    refine lv_iload hx hb dX4_heirs_248 (lv_at hl 8 rfl) ?_
    refine lv_iload_n hx hb dX4_heirs_250 rfl (lv_at hl 2 rfl) ?_
    refine lv_icmp_ge (tgt := 292) hx hb dX4_heirs_251 (by decide) (fun c_251 => ?_) (fun c_251 => ?_)
    · skip
      have c_251 : n4 ≤ i := (nI_leI (a := n4) (b := i) (by omega) (by omega)).mp c_251
      obtain rfl : n4 = i := by omega
      exact K τ hτ hlo _ _ _ hH (lv_sub hl [0, 1, 2, 3, 4, 5, 6, 7] rfl)
    · skip
      have c_251 : ¬ (n4 ≤ i) := fun h => c_251 ((nI_leI (a := n4) (b := i) (by omega) (by omega)).mpr h)
      have hPi := hP i (by omega)
      have hm : a * P i ≤ 21600 * 100 := Nat.mul_le_mul ha hPi.2.2
      have ht : hTot a S P (i + 1) ≤ a := hTot_le hS0 (Nat.le_trans (hSum_mono P (by omega)) hS1)
      have ht2 : hTot a S P (i + 1) = hTot a S P i + a * P i / S := rfl
      refine lv_aload_n hx hb dX4_heirs_254 rfl (lv_at hl 0 rfl) ?_
      refine mm_get (v := .ref (ad 20)) hx hb hT hH 20 (by decide) rfl q801 rfl dX4_heirs_255 ?_
      refine lv_iload hx hb dX4_heirs_258 (lv_at hl 8 rfl) ?_
      refine lv_iload hx hb dX4_heirs_260 (lv_at hl 5 rfl) ?_
      refine lv_aload_n hx hb dX4_heirs_262 rfl (lv_at hl 0 rfl) ?_
      refine mm_get (v := .ref (ad 19)) hx hb hT hH 19 (by decide) rfl q800 rfl dX4_heirs_263 ?_
      refine lv_iload hx hb dX4_heirs_266 (lv_at hl 8 rfl) ?_
      refine mm_ild (v := τ.2 19 i) hx hb hT hH 19 (by decide) rfl i rfl (show i < 4 by omega) rfl dX4_heirs_268 ?_
      refine lv_as ((congrFun (hτ.2 19 (by decide)) _).trans (hP i (by omega)).1) ?_
      refine lv_imul hx hb dX4_heirs_269 ?_
      refine lv_as (pk_mul a (P i)) ?_
      refine lv_iload hx hb dX4_heirs_270 (lv_at hl 6 rfl) ?_
      refine lv_idiv hx hb dX4_heirs_272 (nI_ne0 hS0 (by omega)) ?_
      refine lv_as (z := nI (a * P i / S)) (pk_div (a := a * P i) (d := S) (by omega) hS0 (by omega)) ?_
      refine mm_ist hx hb hT hH 20 (by decide) rfl i rfl (show i < 4 by omega) dX4_heirs_273 (fun H locs hH => ?_)
      refine lv_iload hx hb dX4_heirs_274 (lv_at hl 7 rfl) ?_
      refine lv_aload_n hx hb dX4_heirs_276 rfl (lv_at hl 0 rfl) ?_
      refine mm_get (v := .ref (ad 20)) hx hb hT hH 20 (by decide) rfl q801 rfl dX4_heirs_277 ?_
      refine lv_iload hx hb dX4_heirs_280 (lv_at hl 8 rfl) ?_
      refine mm_ild (v := nI (a * P i / S)) hx hb hT hH 20 (by decide) rfl i rfl (show i < 4 by omega) (mm_ar_s _ _ _ _) dX4_heirs_282 ?_
      refine lv_isub hx hb dX4_heirs_283 ?_
      refine lv_as (z := nI (a - hTot a S P (i + 1))) (by rw [pk_sub (by omega)]; congr 1; omega) ?_
      refine lv_istore (lv' := [(16, .int (nI (a - hTot a S P (i + 1)))), (0, .ref (ad 0)), (1, .int (nI k)), (2, .int (nI n4)), (12, .int (nI (7 * k))), (13, .int (nI F)), (14, .int (nI a)), (15, .int (nI S)), (17, .int (nI i))]) hx hb dX4_heirs_284 hl (by decide) rfl (fun ls hl => ?_)
      refine lv_iinc (v := nI (i + 1)) (lv' := [(17, .int (nI (i + 1))), (16, .int (nI (a - hTot a S P (i + 1)))), (0, .ref (ad 0)), (1, .int (nI k)), (2, .int (nI n4)), (12, .int (nI (7 * k))), (13, .int (nI F)), (14, .int (nI a)), (15, .int (nI S))]) hx hb dX4_heirs_286 hl (k := 8) rfl (nI_add i 1) (by decide) rfl (fun ls hl => ?_)
      refine lv_goto (tgt := 248) hx hb dX4_heirs_289 (by decide) ?_
      refine ih (i + 1) (mm_ar τ 20 i (nI (a * P i / S))) (by omega) (by omega) ⟨hτ.1, fun j hj => (mm_ar_o hj).trans (hτ.2 j hj)⟩ (fun j hj => ?_) _ _ _ hH (lv_sub hl [2, 3, 4, 5, 6, 7, 8, 1, 0] rfl)
      by_cases e : j = i
      · subst e; exact mm_ar_s _ _ _ _
      · rw [mm_ar_n e]; exact hlo j (by omega)

set_option maxHeartbeats 1000000 in
set_option maxRecDepth 100000 in
theorem lp_X4_heirs4 {p : Program} {l : Launch} {e : Env} {s : State} {m : MethodId} {args : Array Value} {below : List Frame} {meth : Method} {c : Code} {Q : State → Prop} {G : gw_G} {A : Nat → Prop} {H0 : Heap} {ad : Nat → Nat} (σ : mS) (k n4 : Nat) (h4 : n4 ≤ 4) (F a : Nat) (P : Nat → Nat) (S lf : Nat) (hbb : ∀ j, j < n4 → a * P j / S < 100000000) (hlf : lf < 100000000) (X : gx_X RX4 cX4_heirs 20 (some .int) G p s m args meth c) (K : ∀ τ : mS, pSame τ σ 20 → (∀ j, j < n4 → τ.2 20 j = nI (hLn a S P lf j)) → (∀ (H : Heap) (locs : List Loc) (ls : Array Slot), mm_H G A H0 H locs ad τ → lv_has ls 20 [(0, .ref (ad 0)), (1, .int (nI k)), (2, .int (nI n4)), (12, .int (nI (7 * k))), (13, .int (nI F)), (17, .int (nI (hPc (hLn a S P lf) n4)))] → W p l e (mm_rm 4) s m args below meth c H locs 0 0 Q (F0 m 352 ls []))) : ∀ (n : Nat) (i : Nat) (τ : mS), n4 < i + n → i ≤ n4 → pSame τ σ 20 → (∀ j, j < i → τ.2 20 j = nI (hLn a S P lf j)) → (∀ j, i ≤ j → j < n4 → τ.2 20 j = nI (a * P j / S)) → ∀ (H : Heap) (locs : List Loc) (ls : Array Slot), mm_H G A H0 H locs ad τ → lv_has ls 20 [(0, .ref (ad 0)), (1, .int (nI k)), (2, .int (nI n4)), (12, .int (nI (7 * k))), (13, .int (nI F)), (16, .int (nI lf)), (17, .int (nI (hPc (hLn a S P lf) i))), (18, .int (nI i))] → W p l e (mm_rm 4) s m args below meth c H locs 0 0 Q (F0 m 298 ls []) := by
  obtain ⟨hx, hb, hml, hT, hr, hlocks⟩ := id X
  intro n
  induction n with
  | zero =>
    intro i τ h0 hi hτ hlo hhi
    exact absurd h0 (by omega)
  | succ n ih =>
    intro i τ h0 hi hτ hlo hhi H locs ls hH hl
    refine lv_iload hx hb dX4_heirs_298 (lv_at hl 7 rfl) ?_
    refine lv_iload_n hx hb dX4_heirs_300 rfl (lv_at hl 2 rfl) ?_
    refine lv_icmp_ge (tgt := 352) hx hb dX4_heirs_301 (by decide) (fun c_301 => ?_) (fun c_301 => ?_)
    · skip
      have c_301 : n4 ≤ i := (nI_leI (a := n4) (b := i) (by omega) (by omega)).mp c_301
      obtain rfl : n4 = i := by omega
      exact K τ hτ hlo _ _ _ hH (lv_sub hl [0, 1, 2, 3, 4, 6] rfl)
    · skip
      have c_301 : ¬ (n4 ≤ i) := fun h => c_301 ((nI_leI (a := n4) (b := i) (by omega) (by omega)).mpr h)
      have hbi := hbb i (by omega)
      refine lv_aload_n hx hb dX4_heirs_304 rfl (lv_at hl 0 rfl) ?_
      refine mm_get (v := .ref (ad 20)) hx hb hT hH 20 (by decide) rfl q801 rfl dX4_heirs_305 ?_
      refine lv_iload hx hb dX4_heirs_308 (lv_at hl 7 rfl) ?_
      refine lv_dup2_11 hx hb dX4_heirs_310 rfl rfl ?_
      refine mm_ild (v := τ.2 20 i) hx hb hT hH 20 (by decide) rfl i rfl (show i < 4 by omega) rfl dX4_heirs_311 ?_
      refine lv_as (hhi i (by omega) (by omega)) ?_
      refine lv_iload hx hb dX4_heirs_312 (lv_at hl 7 rfl) ?_
      refine lv_iload hx hb dX4_heirs_314 (lv_at hl 5 rfl) ?_
      refine lv_icmp_ge (tgt := 323) hx hb dX4_heirs_316 (by decide) (fun c_316 => ?_) (fun c_316 => ?_)
      · skip
        have c_316 : lf ≤ i := (nI_leI (a := lf) (b := i) (by omega) (by omega)).mp c_316
        refine lv_iconst (v := 0) hx hb dX4_heirs_323 (by decide) ?_
        refine lv_iadd hx hb dX4_heirs_324 ?_
        refine lv_as (nI_add (a * P i / S) 0) ?_
        refine mm_ist hx hb hT hH 20 (by decide) rfl i rfl (show i < 4 by omega) dX4_heirs_325 (fun H locs hH => ?_)
        have hln : hLn a S P lf i = a * P i / S + 0 := by rw [hLn, if_neg (by omega)]
        refine lv_iload hx hb dX4_heirs_326 (lv_at hl 6 rfl) ?_
        refine lv_aload_n hx hb dX4_heirs_328 rfl (lv_at hl 0 rfl) ?_
        refine mm_get (v := .ref (ad 20)) hx hb hT hH 20 (by decide) rfl q801 rfl dX4_heirs_329 ?_
        refine lv_iload hx hb dX4_heirs_332 (lv_at hl 7 rfl) ?_
        refine mm_ild (v := nI (a * P i / S + 0)) hx hb hT hH 20 (by decide) rfl i rfl (show i < 4 by omega) (mm_ar_s _ _ _ _) dX4_heirs_334 ?_
        refine lv_if_le (tgt := 342) hx hb dX4_heirs_335 (by decide) (fun c_335 => ?_) (fun c_335 => ?_)
        · skip
          have c_335 : (a * P i / S + 0) ≤ 0 := (nI_leI (a := (a * P i / S + 0)) (b := 0) (by omega) (by omega)).mp c_335
          refine lv_iconst (v := 0) hx hb dX4_heirs_342 (by decide) ?_
          refine lv_iadd hx hb dX4_heirs_343 ?_
          refine lv_as (nI_add (hPc (hLn a S P lf) i) 0) ?_
          refine lv_istore (lv' := [(17, .int (nI ((hPc (hLn a S P lf) i) + 0))), (0, .ref (ad 0)), (1, .int (nI k)), (2, .int (nI n4)), (12, .int (nI (7 * k))), (13, .int (nI F)), (16, .int (nI lf)), (18, .int (nI i))]) hx hb dX4_heirs_344 hl (by decide) rfl (fun ls hl => ?_)
          refine lv_iinc (v := nI (i + 1)) (lv' := [(18, .int (nI (i + 1))), (17, .int (nI ((hPc (hLn a S P lf) i) + 0))), (0, .ref (ad 0)), (1, .int (nI k)), (2, .int (nI n4)), (12, .int (nI (7 * k))), (13, .int (nI F)), (16, .int (nI lf))]) hx hb dX4_heirs_346 hl (k := 7) rfl (nI_add i 1) (by decide) rfl (fun ls hl => ?_)
          refine lv_goto (tgt := 298) hx hb dX4_heirs_349 (by decide) ?_
          have e17 : hPc (hLn a S P lf) (i + 1) = (hPc (hLn a S P lf) i) + 0 := by
            rw [hPc, if_neg (show ¬ 0 < hLn a S P lf i by rw [hln]; omega)]
          have hl := lv_sub (l' := [(0, .ref (ad 0)), (1, .int (nI k)), (2, .int (nI n4)), (12, .int (nI (7 * k))), (13, .int (nI F)), (16, .int (nI lf)), (17, .int (nI ((hPc (hLn a S P lf) i) + 0))), (18, .int (nI (i + 1)))]) hl [2, 3, 4, 5, 6, 7, 1, 0] rfl
          rw [← e17] at hl
          refine ih (i + 1) (mm_ar τ 20 i (nI ((a * P i / S) + 0))) (by omega) (by omega) ⟨hτ.1, fun j hj => (mm_ar_o hj).trans (hτ.2 j hj)⟩ (fun j hj => ?_) (fun j hj hj2 => ?_) _ _ _ hH hl
          · by_cases e : j = i
            · subst e; rw [mm_ar_s, hln]
            · rw [mm_ar_n e]; exact hlo j (by omega)
          · rw [mm_ar_n (by omega)]; exact hhi j (by omega) hj2
        · skip
          have c_335 : ¬ ((a * P i / S + 0) ≤ 0) := fun h => c_335 ((nI_leI (a := (a * P i / S + 0)) (b := 0) (by omega) (by omega)).mpr h)
          refine lv_iconst (v := 1) hx hb dX4_heirs_338 (by decide) ?_
          refine lv_goto (tgt := 343) hx hb dX4_heirs_339 (by decide) ?_
          refine lv_iadd hx hb dX4_heirs_343 ?_
          refine lv_as (nI_add (hPc (hLn a S P lf) i) 1) ?_
          refine lv_istore (lv' := [(17, .int (nI ((hPc (hLn a S P lf) i) + 1))), (0, .ref (ad 0)), (1, .int (nI k)), (2, .int (nI n4)), (12, .int (nI (7 * k))), (13, .int (nI F)), (16, .int (nI lf)), (18, .int (nI i))]) hx hb dX4_heirs_344 hl (by decide) rfl (fun ls hl => ?_)
          refine lv_iinc (v := nI (i + 1)) (lv' := [(18, .int (nI (i + 1))), (17, .int (nI ((hPc (hLn a S P lf) i) + 1))), (0, .ref (ad 0)), (1, .int (nI k)), (2, .int (nI n4)), (12, .int (nI (7 * k))), (13, .int (nI F)), (16, .int (nI lf))]) hx hb dX4_heirs_346 hl (k := 7) rfl (nI_add i 1) (by decide) rfl (fun ls hl => ?_)
          refine lv_goto (tgt := 298) hx hb dX4_heirs_349 (by decide) ?_
          have e17 : hPc (hLn a S P lf) (i + 1) = (hPc (hLn a S P lf) i) + 1 := by
            rw [hPc, if_pos (show 0 < hLn a S P lf i by rw [hln]; omega)]
          have hl := lv_sub (l' := [(0, .ref (ad 0)), (1, .int (nI k)), (2, .int (nI n4)), (12, .int (nI (7 * k))), (13, .int (nI F)), (16, .int (nI lf)), (17, .int (nI ((hPc (hLn a S P lf) i) + 1))), (18, .int (nI (i + 1)))]) hl [2, 3, 4, 5, 6, 7, 1, 0] rfl
          rw [← e17] at hl
          refine ih (i + 1) (mm_ar τ 20 i (nI ((a * P i / S) + 0))) (by omega) (by omega) ⟨hτ.1, fun j hj => (mm_ar_o hj).trans (hτ.2 j hj)⟩ (fun j hj => ?_) (fun j hj hj2 => ?_) _ _ _ hH hl
          · by_cases e : j = i
            · subst e; rw [mm_ar_s, hln]
            · rw [mm_ar_n e]; exact hlo j (by omega)
          · rw [mm_ar_n (by omega)]; exact hhi j (by omega) hj2
      · skip
        have c_316 : ¬ (lf ≤ i) := fun h => c_316 ((nI_leI (a := lf) (b := i) (by omega) (by omega)).mpr h)
        refine lv_iconst (v := 1) hx hb dX4_heirs_319 (by decide) ?_
        refine lv_goto (tgt := 324) hx hb dX4_heirs_320 (by decide) ?_
        refine lv_iadd hx hb dX4_heirs_324 ?_
        refine lv_as (nI_add (a * P i / S) 1) ?_
        refine mm_ist hx hb hT hH 20 (by decide) rfl i rfl (show i < 4 by omega) dX4_heirs_325 (fun H locs hH => ?_)
        have hln : hLn a S P lf i = a * P i / S + 1 := by rw [hLn, if_pos (by omega)]
        refine lv_iload hx hb dX4_heirs_326 (lv_at hl 6 rfl) ?_
        refine lv_aload_n hx hb dX4_heirs_328 rfl (lv_at hl 0 rfl) ?_
        refine mm_get (v := .ref (ad 20)) hx hb hT hH 20 (by decide) rfl q801 rfl dX4_heirs_329 ?_
        refine lv_iload hx hb dX4_heirs_332 (lv_at hl 7 rfl) ?_
        refine mm_ild (v := nI (a * P i / S + 1)) hx hb hT hH 20 (by decide) rfl i rfl (show i < 4 by omega) (mm_ar_s _ _ _ _) dX4_heirs_334 ?_
        refine lv_if_le (tgt := 342) hx hb dX4_heirs_335 (by decide) (fun c_335 => ?_) (fun c_335 => ?_)
        · skip
          have c_335 : (a * P i / S + 1) ≤ 0 := (nI_leI (a := (a * P i / S + 1)) (b := 0) (by omega) (by omega)).mp c_335
          refine lv_iconst (v := 0) hx hb dX4_heirs_342 (by decide) ?_
          refine lv_iadd hx hb dX4_heirs_343 ?_
          refine lv_as (nI_add (hPc (hLn a S P lf) i) 0) ?_
          refine lv_istore (lv' := [(17, .int (nI ((hPc (hLn a S P lf) i) + 0))), (0, .ref (ad 0)), (1, .int (nI k)), (2, .int (nI n4)), (12, .int (nI (7 * k))), (13, .int (nI F)), (16, .int (nI lf)), (18, .int (nI i))]) hx hb dX4_heirs_344 hl (by decide) rfl (fun ls hl => ?_)
          refine lv_iinc (v := nI (i + 1)) (lv' := [(18, .int (nI (i + 1))), (17, .int (nI ((hPc (hLn a S P lf) i) + 0))), (0, .ref (ad 0)), (1, .int (nI k)), (2, .int (nI n4)), (12, .int (nI (7 * k))), (13, .int (nI F)), (16, .int (nI lf))]) hx hb dX4_heirs_346 hl (k := 7) rfl (nI_add i 1) (by decide) rfl (fun ls hl => ?_)
          refine lv_goto (tgt := 298) hx hb dX4_heirs_349 (by decide) ?_
          have e17 : hPc (hLn a S P lf) (i + 1) = (hPc (hLn a S P lf) i) + 0 := by
            rw [hPc, if_neg (show ¬ 0 < hLn a S P lf i by rw [hln]; omega)]
          have hl := lv_sub (l' := [(0, .ref (ad 0)), (1, .int (nI k)), (2, .int (nI n4)), (12, .int (nI (7 * k))), (13, .int (nI F)), (16, .int (nI lf)), (17, .int (nI ((hPc (hLn a S P lf) i) + 0))), (18, .int (nI (i + 1)))]) hl [2, 3, 4, 5, 6, 7, 1, 0] rfl
          rw [← e17] at hl
          refine ih (i + 1) (mm_ar τ 20 i (nI ((a * P i / S) + 1))) (by omega) (by omega) ⟨hτ.1, fun j hj => (mm_ar_o hj).trans (hτ.2 j hj)⟩ (fun j hj => ?_) (fun j hj hj2 => ?_) _ _ _ hH hl
          · by_cases e : j = i
            · subst e; rw [mm_ar_s, hln]
            · rw [mm_ar_n e]; exact hlo j (by omega)
          · rw [mm_ar_n (by omega)]; exact hhi j (by omega) hj2
        · skip
          have c_335 : ¬ ((a * P i / S + 1) ≤ 0) := fun h => c_335 ((nI_leI (a := (a * P i / S + 1)) (b := 0) (by omega) (by omega)).mpr h)
          refine lv_iconst (v := 1) hx hb dX4_heirs_338 (by decide) ?_
          refine lv_goto (tgt := 343) hx hb dX4_heirs_339 (by decide) ?_
          refine lv_iadd hx hb dX4_heirs_343 ?_
          refine lv_as (nI_add (hPc (hLn a S P lf) i) 1) ?_
          refine lv_istore (lv' := [(17, .int (nI ((hPc (hLn a S P lf) i) + 1))), (0, .ref (ad 0)), (1, .int (nI k)), (2, .int (nI n4)), (12, .int (nI (7 * k))), (13, .int (nI F)), (16, .int (nI lf)), (18, .int (nI i))]) hx hb dX4_heirs_344 hl (by decide) rfl (fun ls hl => ?_)
          refine lv_iinc (v := nI (i + 1)) (lv' := [(18, .int (nI (i + 1))), (17, .int (nI ((hPc (hLn a S P lf) i) + 1))), (0, .ref (ad 0)), (1, .int (nI k)), (2, .int (nI n4)), (12, .int (nI (7 * k))), (13, .int (nI F)), (16, .int (nI lf))]) hx hb dX4_heirs_346 hl (k := 7) rfl (nI_add i 1) (by decide) rfl (fun ls hl => ?_)
          refine lv_goto (tgt := 298) hx hb dX4_heirs_349 (by decide) ?_
          have e17 : hPc (hLn a S P lf) (i + 1) = (hPc (hLn a S P lf) i) + 1 := by
            rw [hPc, if_pos (show 0 < hLn a S P lf i by rw [hln]; omega)]
          have hl := lv_sub (l' := [(0, .ref (ad 0)), (1, .int (nI k)), (2, .int (nI n4)), (12, .int (nI (7 * k))), (13, .int (nI F)), (16, .int (nI lf)), (17, .int (nI ((hPc (hLn a S P lf) i) + 1))), (18, .int (nI (i + 1)))]) hl [2, 3, 4, 5, 6, 7, 1, 0] rfl
          rw [← e17] at hl
          refine ih (i + 1) (mm_ar τ 20 i (nI ((a * P i / S) + 1))) (by omega) (by omega) ⟨hτ.1, fun j hj => (mm_ar_o hj).trans (hτ.2 j hj)⟩ (fun j hj => ?_) (fun j hj hj2 => ?_) _ _ _ hH hl
          · by_cases e : j = i
            · subst e; rw [mm_ar_s, hln]
            · rw [mm_ar_n e]; exact hlo j (by omega)
          · rw [mm_ar_n (by omega)]; exact hhi j (by omega) hj2

set_option maxHeartbeats 1000000 in
set_option maxRecDepth 100000 in
theorem lp_X4_heirs5 {p : Program} {l : Launch} {e : Env} {s : State} {m : MethodId} {args : Array Value} {below : List Frame} {meth : Method} {c : Code} {Q : State → Prop} {G : gw_G} {A : Nat → Prop} {H0 : Heap} {ad : Nat → Nat} (σ : mS) (k n4 : Nat) (h4 : n4 ≤ 4) (F nS : Nat) (hk : k < 60) (hkS : k < nS) (h17 : σ.1 17 = nI nS) (Ln : Nat → Nat) (hL : ∀ j, j < n4 → σ.2 20 j = nI (Ln j)) (hLb : ∀ j, j < n4 → Ln j < 100000000) (pz : Nat) (hfit : nS + hPc Ln n4 ≤ 61) (X : gx_X RX4 cX4_heirs 20 (some .int) G p s m args meth c) (K : (∀ (H : Heap) (locs : List Loc) (ls : Array Slot), mm_H G A H0 H locs ad (hSt σ k nS F (σ.2 18) Ln n4) → lv_has ls 20 [(17, .int (nI pz))] → W p l e (mm_rm 4) s m args below meth c H locs 0 0 Q (F0 m 489 ls []))) : ∀ (n : Nat) (i : Nat) (fl : Int32), n4 < i + n → i ≤ n4 → ((fl = 1 ∧ hPc Ln i = 0) ∨ (fl = 0 ∧ ¬ hPc Ln i = 0)) → ∀ (H : Heap) (locs : List Loc) (ls : Array Slot), mm_H G A H0 H locs ad (hSt σ k nS F (σ.2 18) Ln i) → lv_has ls 20 [(0, .ref (ad 0)), (1, .int (nI k)), (2, .int (nI n4)), (12, .int (nI (7 * k))), (13, .int (nI (F + hSum Ln i))), (17, .int (nI pz)), (18, .int fl), (19, .int (nI i))] → W p l e (mm_rm 4) s m args below meth c H locs 0 0 Q (F0 m 387 ls []) := by
  obtain ⟨hx, hb, hml, hT, hr, hlocks⟩ := id X
  intro n
  induction n with
  | zero =>
    intro i fl h0 hi hfl
    exact absurd h0 (by omega)
  | succ n ih =>
    intro i fl h0 hi hfl H locs ls hH hl
    refine lv_iload hx hb dX4_heirs_387 (lv_at hl 7 rfl) ?_
    refine lv_iload_n hx hb dX4_heirs_389 rfl (lv_at hl 2 rfl) ?_
    refine lv_icmp_ge (tgt := 489) hx hb dX4_heirs_390 (by decide) (fun c_390 => ?_) (fun c_390 => ?_)
    · skip
      have c_390 : n4 ≤ i := (nI_leI (a := n4) (b := i) (by omega) (by omega)).mp c_390
      obtain rfl : n4 = i := by omega
      exact K _ _ _ hH (lv_sub hl [5] rfl)
    · skip
      have c_390 : ¬ (n4 ≤ i) := fun h => c_390 ((nI_leI (a := n4) (b := i) (by omega) (by omega)).mpr h)
      have hmo := hPc_mono Ln (show i + 1 ≤ n4 by omega)
      have hpi : hPc Ln (i + 1) = hPc Ln i + (if 0 < Ln i then 1 else 0) := rfl
      have hLi := hLb i (by omega)
      refine lv_aload_n hx hb dX4_heirs_393 rfl (lv_at hl 0 rfl) ?_
      refine mm_get (v := .ref (ad 20)) hx hb hT hH 20 (by decide) rfl q801 rfl dX4_heirs_394 ?_
      refine lv_iload hx hb dX4_heirs_397 (lv_at hl 7 rfl) ?_
      refine mm_ild (v := nI (Ln i)) hx hb hT hH 20 (by decide) rfl i rfl (show i < 4 by omega) ((congrFun (hSt_o _ _ _ _ _ _ (by decide) _) _).trans (hL i (by omega))) dX4_heirs_399 ?_
      refine lv_if_ne (tgt := 406) hx hb dX4_heirs_400 (by decide) (fun c_400 => ?_) (fun c_400 => ?_)
      · skip
        have c_400 : ¬ ((Ln i) = 0) := fun h => c_400 ((nI_eq (a := (Ln i)) (b := 0) (by omega) (by omega)).mpr h)
        refine lv_iload hx hb dX4_heirs_406 (lv_at hl 6 rfl) ?_
        refine lv_if_eq (tgt := 438) hx hb dX4_heirs_408 (by decide) (fun c_408 => ?_) (fun c_408 => ?_)
        · skip
          have hz0 : ¬ hPc Ln i = 0 := hfl.elim (fun h => absurd c_408 (by rw [h.1]; decide)) (fun h => h.2)
          rw [if_pos (show 0 < Ln i by omega)] at hpi
          refine lv_aload_n hx hb dX4_heirs_438 rfl (lv_at hl 0 rfl) ?_
          refine lv_aload_n hx hb dX4_heirs_439 rfl (lv_at hl 0 rfl) ?_
          refine mm_get (v := .ref (ad 16)) hx hb hT hH 16 (by decide) rfl q797 rfl dX4_heirs_440 ?_
          refine lv_iload hx hb dX4_heirs_443 (lv_at hl 3 rfl) ?_
          refine mm_ild (v := σ.2 16 (7 * k)) hx hb hT hH 16 (by decide) rfl (7 * k) rfl (show 7 * k < 420 by omega) (hSt_ch _ _ _ _ _ _ hkS _) dX4_heirs_445 ?_
          refine lv_iload hx hb dX4_heirs_446 (lv_at hl 4 rfl) ?_
          refine lv_iload hx hb dX4_heirs_448 (lv_at hl 4 rfl) ?_
          refine lv_aload_n hx hb dX4_heirs_450 rfl (lv_at hl 0 rfl) ?_
          refine mm_get (v := .ref (ad 20)) hx hb hT hH 20 (by decide) rfl q801 rfl dX4_heirs_451 ?_
          refine lv_iload hx hb dX4_heirs_454 (lv_at hl 7 rfl) ?_
          refine mm_ild (v := nI (Ln i)) hx hb hT hH 20 (by decide) rfl i rfl (show i < 4 by omega) ((congrFun (hSt_o _ _ _ _ _ _ (by decide) _) _).trans (hL i (by omega))) dX4_heirs_456 ?_
          refine lv_iadd hx hb dX4_heirs_457 ?_
          refine lv_as (nI_add (F + hSum Ln i) (Ln i)) ?_
          refine lv_aload_n hx hb dX4_heirs_458 rfl (lv_at hl 0 rfl) ?_
          refine mm_get (v := .ref (ad 18)) hx hb hT hH 18 (by decide) rfl q799 rfl dX4_heirs_459 ?_
          refine lv_iload hx hb dX4_heirs_462 (lv_at hl 7 rfl) ?_
          refine mm_ild (v := σ.2 18 i) hx hb hT hH 18 (by decide) rfl i rfl (show i < 4 by omega) (congrFun (hSt_o _ _ _ _ _ _ (by decide) _) _) dX4_heirs_464 ?_
          refine mm_cVv (n := 4) (c_X4_adds l (hSt σ k nS F (σ.2 18) Ln i) (nS := nS + hPc Ln i - 1) (by rw [hSt_17 σ k nS F (σ.2 18) Ln h17 (by omega) i, if_neg hz0]) (by omega) (σ.2 16 (7 * k)) (nI (F + hSum Ln i)) (nI ((F + hSum Ln i) + (Ln i))) (σ.2 18 i)) hx hb hml hT hH (lw_V q935 q937 qs16 q39 q938) (by decide +kernel) ⟨Nat.le_of_ble_eq_true rfl, Nat.le_of_ble_eq_true rfl⟩ rfl hl.1 rfl (Nat.le_of_ble_eq_true rfl) dX4_heirs_465 ⟨Nat.le_refl _, Nat.le_refl _⟩ (fun u_465 H locs hp_465 hH => ?_)
          obtain rfl := hp_465
          refine lv_iconst (v := 0) hx hb dX4_heirs_468 (by decide) ?_
          refine lv_istore (lv' := [(18, .int 0), (0, .ref (ad 0)), (1, .int (nI k)), (2, .int (nI n4)), (12, .int (nI (7 * k))), (13, .int (nI (F + hSum Ln i))), (17, .int (nI pz)), (19, .int (nI i))]) hx hb dX4_heirs_469 hl (by decide) rfl (fun ls hl => ?_)
          refine lv_iload hx hb dX4_heirs_471 (lv_at hl 5 rfl) ?_
          refine lv_aload_n hx hb dX4_heirs_473 rfl (lv_at hl 1 rfl) ?_
          refine mm_get (v := .ref (ad 20)) hx hb hT hH 20 (by decide) rfl q801 rfl dX4_heirs_474 ?_
          refine lv_iload hx hb dX4_heirs_477 (lv_at hl 7 rfl) ?_
          refine mm_ild (v := nI (Ln i)) hx hb hT hH 20 (by decide) rfl i rfl (show i < 4 by omega) ((congrFun ((pAdds_o _ _ _ _ _ _ (by decide)).trans (hSt_o _ _ _ _ _ _ (by decide) _)) _).trans (hL i (by omega))) dX4_heirs_479 ?_
          refine lv_iadd hx hb dX4_heirs_480 ?_
          refine lv_as (z := nI (F + hSum Ln (i + 1))) (by rw [nI_add, hSum, Nat.add_assoc]) ?_
          refine lv_istore (lv' := [(13, .int (nI (F + hSum Ln (i + 1)))), (18, .int 0), (0, .ref (ad 0)), (1, .int (nI k)), (2, .int (nI n4)), (12, .int (nI (7 * k))), (17, .int (nI pz)), (19, .int (nI i))]) hx hb dX4_heirs_481 hl (by decide) rfl (fun ls hl => ?_)
          refine lv_iinc (v := nI (i + 1)) (lv' := [(19, .int (nI (i + 1))), (13, .int (nI (F + hSum Ln (i + 1)))), (18, .int 0), (0, .ref (ad 0)), (1, .int (nI k)), (2, .int (nI n4)), (12, .int (nI (7 * k))), (17, .int (nI pz))]) hx hb dX4_heirs_483 hl (k := 7) rfl (nI_add i 1) (by decide) rfl (fun ls hl => ?_)
          refine lv_goto (tgt := 387) hx hb dX4_heirs_486 (by decide) ?_
          have ep : hPc Ln (i + 1) = hPc Ln i + 1 := by rw [hPc, if_pos (by omega)]
          have hH : mm_H G A H0 H locs ad (hSt σ k nS F (σ.2 18) Ln (i + 1)) := by rw [hSt, if_neg c_400, if_neg hz0]; exact hH
          exact ih (i + 1) 0 (by omega) (by omega) (Or.inr ⟨rfl, by omega⟩) _ _ _ hH (lv_sub hl [3, 4, 5, 6, 1, 7, 2, 0] rfl)
        · skip
          have hz0 : hPc Ln i = 0 := hfl.elim (fun h => h.2) (fun h => absurd h.1 c_408)
          refine lv_aload_n hx hb dX4_heirs_411 rfl (lv_at hl 0 rfl) ?_
          refine lv_iload_n hx hb dX4_heirs_412 rfl (lv_at hl 1 rfl) ?_
          refine lv_iload hx hb dX4_heirs_413 (lv_at hl 4 rfl) ?_
          refine lv_iload hx hb dX4_heirs_415 (lv_at hl 4 rfl) ?_
          refine lv_aload_n hx hb dX4_heirs_417 rfl (lv_at hl 0 rfl) ?_
          refine mm_get (v := .ref (ad 20)) hx hb hT hH 20 (by decide) rfl q801 rfl dX4_heirs_418 ?_
          refine lv_iload hx hb dX4_heirs_421 (lv_at hl 7 rfl) ?_
          refine mm_ild (v := nI (Ln i)) hx hb hT hH 20 (by decide) rfl i rfl (show i < 4 by omega) ((congrFun (hSt_o _ _ _ _ _ _ (by decide) _) _).trans (hL i (by omega))) dX4_heirs_423 ?_
          refine lv_iadd hx hb dX4_heirs_424 ?_
          refine lv_as (nI_add (F + hSum Ln i) (Ln i)) ?_
          refine lv_aload_n hx hb dX4_heirs_425 rfl (lv_at hl 0 rfl) ?_
          refine mm_get (v := .ref (ad 18)) hx hb hT hH 18 (by decide) rfl q799 rfl dX4_heirs_426 ?_
          refine lv_iload hx hb dX4_heirs_429 (lv_at hl 7 rfl) ?_
          refine mm_ild (v := σ.2 18 i) hx hb hT hH 18 (by decide) rfl i rfl (show i < 4 by omega) (congrFun (hSt_o _ _ _ _ _ _ (by decide) _) _) dX4_heirs_431 ?_
          refine mm_cVv (n := 4) (c_X4_sets l (hSt σ k nS F (σ.2 18) Ln i) k hk (nI (F + hSum Ln i)) (nI ((F + hSum Ln i) + (Ln i))) (σ.2 18 i)) hx hb hml hT hH (lw_V q939 q941 qs17 q39 q942) (by decide +kernel) ⟨Nat.le_of_ble_eq_true rfl, Nat.le_of_ble_eq_true rfl⟩ rfl hl.1 rfl (Nat.le_of_ble_eq_true rfl) dX4_heirs_432 ⟨Nat.le_refl _, Nat.le_refl _⟩ (fun u_432 H locs hp_432 hH => ?_)
          obtain rfl := hp_432
          refine lv_goto (tgt := 468) hx hb dX4_heirs_435 (by decide) ?_
          refine lv_iconst (v := 0) hx hb dX4_heirs_468 (by decide) ?_
          refine lv_istore (lv' := [(18, .int 0), (0, .ref (ad 0)), (1, .int (nI k)), (2, .int (nI n4)), (12, .int (nI (7 * k))), (13, .int (nI (F + hSum Ln i))), (17, .int (nI pz)), (19, .int (nI i))]) hx hb dX4_heirs_469 hl (by decide) rfl (fun ls hl => ?_)
          refine lv_iload hx hb dX4_heirs_471 (lv_at hl 5 rfl) ?_
          refine lv_aload_n hx hb dX4_heirs_473 rfl (lv_at hl 1 rfl) ?_
          refine mm_get (v := .ref (ad 20)) hx hb hT hH 20 (by decide) rfl q801 rfl dX4_heirs_474 ?_
          refine lv_iload hx hb dX4_heirs_477 (lv_at hl 7 rfl) ?_
          refine mm_ild (v := nI (Ln i)) hx hb hT hH 20 (by decide) rfl i rfl (show i < 4 by omega) ((congrFun ((pSets_o _ _ _ _ _ (by decide)).trans (hSt_o _ _ _ _ _ _ (by decide) _)) _).trans (hL i (by omega))) dX4_heirs_479 ?_
          refine lv_iadd hx hb dX4_heirs_480 ?_
          refine lv_as (z := nI (F + hSum Ln (i + 1))) (by rw [nI_add, hSum, Nat.add_assoc]) ?_
          refine lv_istore (lv' := [(13, .int (nI (F + hSum Ln (i + 1)))), (18, .int 0), (0, .ref (ad 0)), (1, .int (nI k)), (2, .int (nI n4)), (12, .int (nI (7 * k))), (17, .int (nI pz)), (19, .int (nI i))]) hx hb dX4_heirs_481 hl (by decide) rfl (fun ls hl => ?_)
          refine lv_iinc (v := nI (i + 1)) (lv' := [(19, .int (nI (i + 1))), (13, .int (nI (F + hSum Ln (i + 1)))), (18, .int 0), (0, .ref (ad 0)), (1, .int (nI k)), (2, .int (nI n4)), (12, .int (nI (7 * k))), (17, .int (nI pz))]) hx hb dX4_heirs_483 hl (k := 7) rfl (nI_add i 1) (by decide) rfl (fun ls hl => ?_)
          refine lv_goto (tgt := 387) hx hb dX4_heirs_486 (by decide) ?_
          have ep : hPc Ln (i + 1) = hPc Ln i + 1 := by rw [hPc, if_pos (by omega)]
          have hH : mm_H G A H0 H locs ad (hSt σ k nS F (σ.2 18) Ln (i + 1)) := by rw [hSt, if_neg c_400, if_pos hz0]; exact hH
          exact ih (i + 1) 0 (by omega) (by omega) (Or.inr ⟨rfl, by omega⟩) _ _ _ hH (lv_sub hl [3, 4, 5, 6, 1, 7, 2, 0] rfl)
      · skip
        have c_400 : (Ln i) = 0 := (nI_eq (a := (Ln i)) (b := 0) (by omega) (by omega)).mp c_400
        refine lv_goto (tgt := 483) hx hb dX4_heirs_403 (by decide) ?_
        refine lv_iinc (v := nI (i + 1)) (lv' := [(19, .int (nI (i + 1))), (0, .ref (ad 0)), (1, .int (nI k)), (2, .int (nI n4)), (12, .int (nI (7 * k))), (13, .int (nI (F + hSum Ln i))), (17, .int (nI pz)), (18, .int fl)]) hx hb dX4_heirs_483 hl (k := 7) rfl (nI_add i 1) (by decide) rfl (fun ls hl => ?_)
        refine lv_goto (tgt := 387) hx hb dX4_heirs_486 (by decide) ?_
        have es : hSum Ln (i + 1) = hSum Ln i := by rw [hSum, c_400]; rfl
        have ep : hPc Ln (i + 1) = hPc Ln i := by rw [hPc, if_neg (by omega)]; rfl
        have eS : hSt σ k nS F (σ.2 18) Ln (i + 1) = hSt σ k nS F (σ.2 18) Ln i := by rw [hSt, if_pos c_400]
        have hl := lv_sub (l' := [(0, .ref (ad 0)), (1, .int (nI k)), (2, .int (nI n4)), (12, .int (nI (7 * k))), (13, .int (nI (F + hSum Ln i))), (17, .int (nI pz)), (18, .int fl), (19, .int (nI (i + 1)))]) hl [1, 2, 3, 4, 5, 6, 7, 0] rfl
        rw [← es] at hl
        rw [← eS] at hH
        exact ih (i + 1) fl (by omega) (by omega) (by rw [ep]; exact hfl) _ _ _ hH hl
