theorem xs_ar_ar (σ : xS) (k n : Nat) (v w : Int32) : xs_ar (xs_ar σ k n v) k n w = xs_ar σ k n w := by
  have e : ∀ (m : mS), mm_ar (mm_ar m k n v) k n w = mm_ar m k n w := by
    intro m
    refine Prod.ext rfl (funext fun j => funext fun i => ?_)
    by_cases h : j = k
    · subst h
      by_cases g : i = n
      · subst g; rw [mm_ar_s, mm_ar_s]
      · rw [mm_ar_n g, mm_ar_n g, mm_ar_n g]
    · rw [mm_ar_o h, mm_ar_o h, mm_ar_o h]
  unfold xs_ar
  rw [e]
def xSame (τ σ : xS) (k : Nat) : Prop := pSame τ.1 σ.1 k ∧ τ.2 = σ.2
theorem xSame.ar {τ σ : xS} {k : Nat} (h : xSame τ σ k) (n : Nat) (v : Int32) : xSame (xs_ar τ k n v) σ k := ⟨⟨h.1.1, fun j hj => (mm_ar_o hj).trans (h.1.2 j hj)⟩, h.2⟩

set_option maxHeartbeats 1000000 in
set_option maxRecDepth 100000 in
theorem lp_X1_least1 {p : Program} {l : Launch} {e : Env} {s : State} {m : MethodId} {args : Array Value} {below : List Frame} {meth : Method} {c : Code} {Q : State → Prop} {G : gw_G} {A : Nat → Prop} {ad wk wv : Nat → Nat} (σ : xS) {nF : Nat} (hF : nF ≤ 9) (q : Nat) (hq : q < 512) (X : gx_Y RX1 cX1_least 5 (some .int) G A wk wv p s m args meth c)  (K : (∀ (H : Heap) (locs : List Loc) (ls : Array Slot), xx_H G A s.heap H locs ad wk σ → lv_has ls 5 [(0, .ref (ad 0)), (1, .int (nI nF)), (2, .int (nI q)), (3, .int (pEnd (σ.1.2 31) q nF))] → W p l e (xx_rm 1 0 0) s m args below meth c H locs 0 0 Q (F0 m 67 ls []))) : ∀ (n : Nat) (i : Nat), nF < i + n → i ≤ nF → ∀ (H : Heap) (locs : List Loc) (ls : Array Slot), xx_H G A s.heap H locs ad wk σ → lv_has ls 5 [(0, .ref (ad 0)), (1, .int (nI nF)), (2, .int (nI q)), (3, .int (pEnd (σ.1.2 31) q i)), (4, .int (nI i))] → W p l e (xx_rm 1 0 0) s m args below meth c H locs 0 0 Q (F0 m 31 ls []) := by
  obtain ⟨hx, hb, hml, hT, hr, hlocks, hxc, hA⟩ := id X
  intro n
  induction n with
  | zero =>
    intro i h0 hi
    exact absurd h0 (by omega)
  | succ n ih =>
    intro i h0 hi H locs ls hH hl
    refine lv_iload hx hb dX1_least_31 (lv_at hl 4 rfl) ?_
    refine lv_iload_n hx hb dX1_least_33 rfl (lv_at hl 1 rfl) ?_
    refine lv_icmp_ge (tgt := 67) hx hb dX1_least_34 (by decide) (fun c_34 => ?_) (fun c_34 => ?_)
    · skip
      have c_34 : nF ≤ i := (nI_leI (a := nF) (b := i) (by omega) (by omega)).mp c_34
      obtain rfl : nF = i := by omega
      exact K _ _ _ hH (lv_sub hl [0, 1, 2, 3] rfl)
    · skip
      have c_34 : ¬ (nF ≤ i) := fun h => c_34 ((nI_leI (a := nF) (b := i) (by omega) (by omega)).mpr h)
      refine lv_iload_n hx hb dX1_least_37 rfl (lv_at hl 3 rfl) ?_
      refine lv_iload_n hx hb dX1_least_38 rfl (lv_at hl 2 rfl) ?_
      refine lv_iload hx hb dX1_least_39 (lv_at hl 4 rfl) ?_
      refine lv_ishr hx hb dX1_least_41 ?_
      refine lv_iconst (v := 1) hx hb dX1_least_42 (by decide) ?_
      refine lv_iand hx hb dX1_least_43 ?_
      refine lv_as (z := nI (q / 2 ^ i % 2)) (b_bit (by omega) (by omega)) ?_
      refine lv_iconst (v := 1) hx hb dX1_least_44 (by decide) ?_
      have hm : q / 2 ^ i % 2 < 2 := Nat.mod_lt _ (by decide)
      refine lv_icmp_ne (tgt := 58) hx hb dX1_least_45 (by decide) (fun c_45 => ?_) (fun c_45 => ?_)
      · skip
        have c_45 : ¬ ((q / 2 ^ i % 2) = 1) := fun h => c_45 ((nI_eq (a := (q / 2 ^ i % 2)) (b := 1) (by omega) (by omega)).mpr h)
        refine lv_iconst (v := 0) hx hb dX1_least_58 (by decide) ?_
        refine lv_iadd hx hb dX1_least_59 ?_
        refine lv_as (z := pEnd (σ.1.2 31) q (i + 1)) (by rw [pEnd, if_neg c_45]) ?_
        refine lv_istore_n (lv' := [(3, .int (pEnd (σ.1.2 31) q (i + 1))), (0, .ref (ad 0)), (1, .int (nI nF)), (2, .int (nI q)), (4, .int (nI i))]) hx hb dX1_least_60 rfl hl (by decide) rfl (fun ls hl => ?_)
        refine lv_iinc (v := nI (i + 1)) (lv' := [(4, .int (nI (i + 1))), (3, .int (pEnd (σ.1.2 31) q (i + 1))), (0, .ref (ad 0)), (1, .int (nI nF)), (2, .int (nI q))]) hx hb dX1_least_61 hl (k := 4) rfl (nI_add i 1) (by decide) rfl (fun ls hl => ?_)
        refine lv_goto (tgt := 31) hx hb dX1_least_64 (by decide) ?_
        exact ih (i + 1) (by omega) (by omega) _ _ _ hH (lv_sub hl [2, 3, 4, 1, 0] rfl)
      · skip
        have c_45 : (q / 2 ^ i % 2) = 1 := (nI_eq (a := (q / 2 ^ i % 2)) (b := 1) (by omega) (by omega)).mp c_45
        refine lv_aload_n hx hb dX1_least_48 rfl (lv_at hl 0 rfl) ?_
        refine gw_get (C := RX1) (T := TX1) (N := 21) (ci := 1) (fs := xx_fs1 ad σ.1.1) (v := .ref (ad 31)) hx hb hT hH.1 0 xx_0 rfl in_X1 5 (by decide) rfl q181 rfl dX1_least_49 ?_
        refine lv_iload hx hb dX1_least_52 (lv_at hl 4 rfl) ?_
        refine xx_ild (v := σ.1.2 31 i) hx hb hT hH.1 31 (by decide) (by decide) rfl i rfl (show i < 9 by omega) rfl dX1_least_54 ?_
        refine lv_goto (tgt := 59) hx hb dX1_least_55 (by decide) ?_
        refine lv_iadd hx hb dX1_least_59 ?_
        refine lv_as (z := pEnd (σ.1.2 31) q (i + 1)) (by rw [pEnd, if_pos c_45]) ?_
        refine lv_istore_n (lv' := [(3, .int (pEnd (σ.1.2 31) q (i + 1))), (0, .ref (ad 0)), (1, .int (nI nF)), (2, .int (nI q)), (4, .int (nI i))]) hx hb dX1_least_60 rfl hl (by decide) rfl (fun ls hl => ?_)
        refine lv_iinc (v := nI (i + 1)) (lv' := [(4, .int (nI (i + 1))), (3, .int (pEnd (σ.1.2 31) q (i + 1))), (0, .ref (ad 0)), (1, .int (nI nF)), (2, .int (nI q))]) hx hb dX1_least_61 hl (k := 4) rfl (nI_add i 1) (by decide) rfl (fun ls hl => ?_)
        refine lv_goto (tgt := 31) hx hb dX1_least_64 (by decide) ?_
        exact ih (i + 1) (by omega) (by omega) _ _ _ hH (lv_sub hl [2, 3, 4, 1, 0] rfl)

set_option maxHeartbeats 1000000 in
set_option maxRecDepth 100000 in
theorem lp_X1_least2 {p : Program} {l : Launch} {e : Env} {s : State} {m : MethodId} {args : Array Value} {below : List Frame} {meth : Method} {c : Code} {Q : State → Prop} {G : gw_G} {A : Nat → Prop} {ad wk wv : Nat → Nat} (σ : xS) {nF : Nat} (hF : nF ≤ 9) (q : Nat) (hq : q < 512) (x : Int32) (X : gx_Y RX1 cX1_least 5 (some .int) G A wk wv p s m args meth c)  (K : (∀ (H : Heap) (locs : List Loc) (ls : Array Slot), xx_H G A s.heap H locs ad wk (xs_ar σ 35 q (pLow (σ.1.2 35) (σ.1.2 33) (σ.1.2 32) x q nF)) → lv_has ls 5 [(0, .ref (ad 0)), (1, .int (nI nF)), (2, .int (nI q))] → W p l e (xx_rm 1 0 0) s m args below meth c H locs 0 0 Q (F0 m 149 ls []))) : ∀ (n : Nat) (i : Nat), nF < i + n → i ≤ nF → ∀ (H : Heap) (locs : List Loc) (ls : Array Slot), xx_H G A s.heap H locs ad wk (xs_ar σ 35 q (pLow (σ.1.2 35) (σ.1.2 33) (σ.1.2 32) x q i)) → lv_has ls 5 [(0, .ref (ad 0)), (1, .int (nI nF)), (2, .int (nI q)), (3, .int x), (4, .int (nI i))] → W p l e (xx_rm 1 0 0) s m args below meth c H locs 0 0 Q (F0 m 79 ls []) := by
  obtain ⟨hx, hb, hml, hT, hr, hlocks, hxc, hA⟩ := id X
  intro n
  induction n with
  | zero =>
    intro i h0 hi
    exact absurd h0 (by omega)
  | succ n ih =>
    intro i h0 hi H locs ls hH hl
    refine lv_iload hx hb dX1_least_79 (lv_at hl 4 rfl) ?_
    refine lv_iload_n hx hb dX1_least_81 rfl (lv_at hl 1 rfl) ?_
    refine lv_icmp_ge (tgt := 149) hx hb dX1_least_82 (by decide) (fun c_82 => ?_) (fun c_82 => ?_)
    · skip
      have c_82 : nF ≤ i := (nI_leI (a := nF) (b := i) (by omega) (by omega)).mp c_82
      obtain rfl : nF = i := by omega
      exact K _ _ _ hH (lv_sub hl [0, 1, 2] rfl)
    · skip
      have c_82 : ¬ (nF ≤ i) := fun h => c_82 ((nI_leI (a := nF) (b := i) (by omega) (by omega)).mpr h)
      refine lv_iload_n hx hb dX1_least_85 rfl (lv_at hl 2 rfl) ?_
      refine lv_iload hx hb dX1_least_86 (lv_at hl 4 rfl) ?_
      refine lv_ishr hx hb dX1_least_88 ?_
      refine lv_iconst (v := 1) hx hb dX1_least_89 (by decide) ?_
      refine lv_iand hx hb dX1_least_90 ?_
      refine lv_as (z := nI (q / 2 ^ i % 2)) (b_bit (by omega) (by omega)) ?_
      refine lv_iconst (v := 1) hx hb dX1_least_91 (by decide) ?_
      have hm : q / 2 ^ i % 2 < 2 := Nat.mod_lt _ (by decide)
      refine lv_icmp_ne (tgt := 143) hx hb dX1_least_92 (by decide) (fun c_92 => ?_) (fun c_92 => ?_)
      · skip
        have c_92 : ¬ ((q / 2 ^ i % 2) = 1) := fun h => c_92 ((nI_eq (a := (q / 2 ^ i % 2)) (b := 1) (by omega) (by omega)).mpr h)
        refine lv_iinc (v := nI (i + 1)) (lv' := [(4, .int (nI (i + 1))), (0, .ref (ad 0)), (1, .int (nI nF)), (2, .int (nI q)), (3, .int x)]) hx hb dX1_least_143 hl (k := 4) rfl (nI_add i 1) (by decide) rfl (fun ls hl => ?_)
        refine lv_goto (tgt := 79) hx hb dX1_least_146 (by decide) ?_
        have e : pLow (σ.1.2 35) (σ.1.2 33) (σ.1.2 32) x q (i + 1) = pLow (σ.1.2 35) (σ.1.2 33) (σ.1.2 32) x q i := by rw [pLow, if_neg c_92]
        have hH : xx_H G A s.heap H locs ad wk (xs_ar σ 35 q (pLow (σ.1.2 35) (σ.1.2 33) (σ.1.2 32) x q (i + 1))) := by rw [e]; exact hH
        exact ih (i + 1) (by omega) (by omega) _ _ _ hH (lv_sub hl [1, 2, 3, 4, 0] rfl)
      · skip
        have c_92 : (q / 2 ^ i % 2) = 1 := (nI_eq (a := (q / 2 ^ i % 2)) (b := 1) (by omega) (by omega)).mp c_92
        refine lv_aload_n hx hb dX1_least_95 rfl (lv_at hl 0 rfl) ?_
        refine gw_get (C := RX1) (T := TX1) (N := 21) (ci := 1) (fs := xx_fs1 ad (xs_ar σ 35 q (pLow (σ.1.2 35) (σ.1.2 33) (σ.1.2 32) x q i)).1.1) (v := .ref (ad 35)) hx hb hT hH.1 0 xx_0 rfl in_X1 8 (by decide) rfl q184 rfl dX1_least_96 ?_
        refine lv_iload_n hx hb dX1_least_99 rfl (lv_at hl 2 rfl) ?_
        refine lv_aload_n hx hb dX1_least_100 rfl (lv_at hl 0 rfl) ?_
        refine gw_get (C := RX1) (T := TX1) (N := 21) (ci := 1) (fs := xx_fs1 ad (xs_ar σ 35 q (pLow (σ.1.2 35) (σ.1.2 33) (σ.1.2 32) x q i)).1.1) (v := .ref (ad 35)) hx hb hT hH.1 0 xx_0 rfl in_X1 8 (by decide) rfl q184 rfl dX1_least_101 ?_
        refine lv_iload_n hx hb dX1_least_104 rfl (lv_at hl 2 rfl) ?_
        refine xx_ild (v := pLow (σ.1.2 35) (σ.1.2 33) (σ.1.2 32) x q i) hx hb hT hH.1 35 (by decide) (by decide) rfl q rfl (show q < 512 by omega) (xs_ar_s _ _ _ _) dX1_least_105 ?_
        refine lv_aload_n hx hb dX1_least_106 rfl (lv_at hl 0 rfl) ?_
        refine gw_get (C := RX1) (T := TX1) (N := 21) (ci := 1) (fs := xx_fs1 ad (xs_ar σ 35 q (pLow (σ.1.2 35) (σ.1.2 33) (σ.1.2 32) x q i)).1.1) (v := .ref (ad 35)) hx hb hT hH.1 0 xx_0 rfl in_X1 8 (by decide) rfl q184 rfl dX1_least_107 ?_
        refine lv_iload_n hx hb dX1_least_110 rfl (lv_at hl 2 rfl) ?_
        refine lv_iconst (v := 1) hx hb dX1_least_111 (by decide) ?_
        refine lv_iload hx hb dX1_least_112 (lv_at hl 4 rfl) ?_
        refine lv_ishl hx hb dX1_least_114 ?_
        refine lv_as (z := nI (2 ^ i)) (b_one i (by omega)) ?_
        refine lv_ixor hx hb dX1_least_115 ?_
        refine lv_as (z := nI (q - 2 ^ i)) (b_xor q (by omega) i (by omega) c_92) ?_
        refine xx_ild (v := σ.1.2 35 (q - 2 ^ i)) hx hb hT hH.1 35 (by decide) (by decide) rfl (q - 2 ^ i) rfl (Nat.lt_of_le_of_lt (Nat.sub_le _ _) (show q < 512 by omega)) (xs_ar_n (Nat.ne_of_lt (b_lt q (by omega) i (by omega) c_92))) dX1_least_116 ?_
        refine lv_aload_n hx hb dX1_least_117 rfl (lv_at hl 0 rfl) ?_
        refine gw_get (C := RX1) (T := TX1) (N := 21) (ci := 1) (fs := xx_fs1 ad (xs_ar σ 35 q (pLow (σ.1.2 35) (σ.1.2 33) (σ.1.2 32) x q i)).1.1) (v := .ref (ad 33)) hx hb hT hH.1 0 xx_0 rfl in_X1 7 (by decide) rfl q183 rfl dX1_least_118 ?_
        refine lv_iload hx hb dX1_least_121 (lv_at hl 4 rfl) ?_
        refine xx_ild (v := σ.1.2 33 i) hx hb hT hH.1 33 (by decide) (by decide) rfl i rfl (show i < 9 by omega) (congrFun (xs_ar_o (by decide)) _) dX1_least_123 ?_
        refine lv_iconst (v := 0) hx hb dX1_least_124 (by decide) ?_
        refine lv_iload_n hx hb dX1_least_125 rfl (lv_at hl 3 rfl) ?_
        refine lv_aload_n hx hb dX1_least_126 rfl (lv_at hl 0 rfl) ?_
        refine gw_get (C := RX1) (T := TX1) (N := 21) (ci := 1) (fs := xx_fs1 ad (xs_ar σ 35 q (pLow (σ.1.2 35) (σ.1.2 33) (σ.1.2 32) x q i)).1.1) (v := .ref (ad 32)) hx hb hT hH.1 0 xx_0 rfl in_X1 6 (by decide) rfl q182 rfl dX1_least_127 ?_
        refine lv_iload hx hb dX1_least_130 (lv_at hl 4 rfl) ?_
        refine xx_ild (v := σ.1.2 32 i) hx hb hT hH.1 32 (by decide) (by decide) rfl i rfl (show i < 9 by omega) (congrFun (xs_ar_o (by decide)) _) dX1_least_132 ?_
        refine lv_isub hx hb dX1_least_133 ?_
        refine va_mmax hx hb (hml.trans hl.1.symm) hT.1 (hT.2.1 _ q266) (hT.2.1 _ q267) (hT.2.1 _ q48) (hT.2.1 _ q268) (by decide) (Nat.le_of_ble_eq_true rfl) (Nat.zero_le _) (Nat.zero_le _) dX1_least_134 ?_
        refine lv_imul hx hb dX1_least_137 ?_
        refine lv_iadd hx hb dX1_least_138 ?_
        refine va_mmin hx hb (hml.trans hl.1.symm) hT.1 (hT.2.1 _ q269) (hT.2.1 _ q270) (hT.2.1 _ q48) (hT.2.1 _ q271) (by decide) (Nat.le_of_ble_eq_true rfl) (Nat.zero_le _) (Nat.zero_le _) dX1_least_139 ?_
        refine xx_ist hx hb hT hH 35 (by decide) (by decide) rfl q rfl (show q < 512 by omega) dX1_least_142 (fun H locs hH => ?_)
        refine lv_iinc (v := nI (i + 1)) (lv' := [(4, .int (nI (i + 1))), (0, .ref (ad 0)), (1, .int (nI nF)), (2, .int (nI q)), (3, .int x)]) hx hb dX1_least_143 hl (k := 4) rfl (nI_add i 1) (by decide) rfl (fun ls hl => ?_)
        refine lv_goto (tgt := 79) hx hb dX1_least_146 (by decide) ?_
        have e : pLow (σ.1.2 35) (σ.1.2 33) (σ.1.2 32) x q (i + 1) = pMin (pLow (σ.1.2 35) (σ.1.2 33) (σ.1.2 32) x q i) (σ.1.2 35 (q - 2 ^ i) + σ.1.2 33 i * pMax 0 (x - σ.1.2 32 i)) := by rw [pLow, if_pos c_92]
        have hH : xx_H G A s.heap H locs ad wk (xs_ar σ 35 q (pLow (σ.1.2 35) (σ.1.2 33) (σ.1.2 32) x q (i + 1))) := by rw [xs_ar_ar] at hH; rw [e]; exact hH
        exact ih (i + 1) (by omega) (by omega) _ _ _ hH (lv_sub hl [1, 2, 3, 4, 0] rfl)

set_option maxHeartbeats 1000000 in
set_option maxRecDepth 100000 in
theorem lp_X1_least3 {p : Program} {l : Launch} {e : Env} {s : State} {m : MethodId} {args : Array Value} {below : List Frame} {meth : Method} {c : Code} {Q : State → Prop} {G : gw_G} {A : Nat → Prop} {ad wk wv : Nat → Nat} (σ : xS) {nF : Nat} (hF : nF ≤ 9) (X : gx_Y RX1 cX1_least 5 (some .int) G A wk wv p s m args meth c)  (K : ∀ τ : xS, xSame τ σ 35 → (∀ j, j ≤ 2 ^ nF - 1 → τ.1.2 35 j = pLst (σ.1.2 31) (σ.1.2 32) (σ.1.2 33) nF (2 ^ nF - 1) j) → (∀ (H : Heap) (locs : List Loc) (ls : Array Slot), xx_H G A s.heap H locs ad wk τ → lv_has ls 5 [(0, .ref (ad 0)), (1, .int (nI nF))] → W p l e (xx_rm 1 0 0) s m args below meth c H locs 0 0 Q (F0 m 155 ls []))) : ∀ (n : Nat) (q : Nat) (τ : xS), 2 ^ nF < q + 1 + n → q + 1 ≤ 2 ^ nF → xSame τ σ 35 → (∀ j, j ≤ q → τ.1.2 35 j = pLst (σ.1.2 31) (σ.1.2 32) (σ.1.2 33) nF q j) → ∀ (H : Heap) (locs : List Loc) (ls : Array Slot), xx_H G A s.heap H locs ad wk τ → lv_has ls 5 [(0, .ref (ad 0)), (1, .int (nI nF)), (2, .int (nI (q + 1)))] → W p l e (xx_rm 1 0 0) s m args below meth c H locs 0 0 Q (F0 m 19 ls []) := by
  obtain ⟨hx, hb, hml, hT, hr, hlocks, hxc, hA⟩ := id X
  intro n
  induction n with
  | zero =>
    intro q τ h0 hi hτ hlo
    exact absurd h0 (by omega)
  | succ n ih =>
    intro q τ h0 hi hτ hlo H locs ls hH hl
    have hp := b_pw hF
    refine lv_iload_n hx hb dX1_least_19 rfl (lv_at hl 2 rfl) ?_
    refine lv_iconst (v := 1) hx hb dX1_least_20 (by decide) ?_
    refine lv_iload_n hx hb dX1_least_21 rfl (lv_at hl 1 rfl) ?_
    refine lv_ishl hx hb dX1_least_22 ?_
    refine lv_as (z := nI (2 ^ nF)) (b_one nF (by omega)) ?_
    refine lv_icmp_ge (tgt := 155) hx hb dX1_least_23 (by decide) (fun c_23 => ?_) (fun c_23 => ?_)
    · skip
      have c_23 : (2 ^ nF) ≤ (q + 1) := (nI_leI (a := (2 ^ nF)) (b := (q + 1)) (by omega) (by omega)).mp c_23
      obtain rfl : q = 2 ^ nF - 1 := by omega
      exact K τ hτ hlo _ _ _ hH (lv_sub hl [0, 1] rfl)
    · skip
      have c_23 : ¬ ((2 ^ nF) ≤ (q + 1)) := fun h => c_23 ((nI_leI (a := (2 ^ nF)) (b := (q + 1)) (by omega) (by omega)).mpr h)
      refine lv_iconst (v := 0) hx hb dX1_least_26 (by decide) ?_
      refine lv_istore_n (lv' := [(3, .int 0), (0, .ref (ad 0)), (1, .int (nI nF)), (2, .int (nI (q + 1)))]) hx hb dX1_least_27 rfl hl (by decide) rfl (fun ls hl => ?_)
      refine lv_iconst (v := 0) hx hb dX1_least_28 (by decide) ?_
      refine lv_istore (lv' := [(4, .int 0), (3, .int 0), (0, .ref (ad 0)), (1, .int (nI nF)), (2, .int (nI (q + 1)))]) hx hb dX1_least_29 hl (by decide) rfl (fun ls hl => ?_)
      refine lp_X1_least1 τ (nF := nF) hF (q + 1) (by omega) X ?_ (nF + 1) 0 (by omega) (Nat.zero_le _) _ _ _ hH (lv_sub hl [2, 3, 4, 1, 0] rfl)
      intro H locs ls hH hl
      refine lv_aload_n hx hb dX1_least_67 rfl (lv_at hl 0 rfl) ?_
      refine gw_get (C := RX1) (T := TX1) (N := 21) (ci := 1) (fs := xx_fs1 ad τ.1.1) (v := .ref (ad 35)) hx hb hT hH.1 0 xx_0 rfl in_X1 8 (by decide) rfl q184 rfl dX1_least_68 ?_
      refine lv_iload_n hx hb dX1_least_71 rfl (lv_at hl 2 rfl) ?_
      refine lv_ldcw (v := 2147483647) hx hb hT.1 (hT.2.1 _ q265) dX1_least_72 ?_
      refine xx_ist hx hb hT hH 35 (by decide) (by decide) rfl (q + 1) rfl (show q + 1 < 512 by omega) dX1_least_75 (fun H locs hH => ?_)
      refine lv_iconst (v := 0) hx hb dX1_least_76 (by decide) ?_
      refine lv_istore (lv' := [(4, .int 0), (0, .ref (ad 0)), (1, .int (nI nF)), (2, .int (nI (q + 1))), (3, .int (pEnd (τ.1.2 31) (q + 1) nF))]) hx hb dX1_least_77 hl (by decide) rfl (fun ls hl => ?_)
      refine lp_X1_least2 τ (nF := nF) hF (q + 1) (by omega) (pEnd (τ.1.2 31) (q + 1) nF) X ?_ (nF + 1) 0 (by omega) (Nat.zero_le _) _ _ _ hH (lv_sub hl [1, 2, 3, 4, 0] rfl)
      intro H locs ls hH hl
      refine lv_iinc (v := nI (q + 1 + 1)) (lv' := [(2, .int (nI (q + 1 + 1))), (0, .ref (ad 0)), (1, .int (nI nF))]) hx hb dX1_least_149 hl (k := 2) rfl (nI_add (q + 1) 1) (by decide) rfl (fun ls hl => ?_)
      refine lv_goto (tgt := 19) hx hb dX1_least_152 (by decide) ?_
      refine ih (q + 1) (xs_ar τ 35 (q + 1) (pLow (τ.1.2 35) (τ.1.2 33) (τ.1.2 32) (pEnd (τ.1.2 31) (q + 1) nF) (q + 1) nF)) (by omega) (by omega) (hτ.ar _ _) (fun j hj => ?_) _ _ _ hH (lv_sub hl [1, 2, 0] rfl)
      rw [pLst]
      by_cases e : j = q + 1
      · subst e
        rw [xs_ar_s, pk_us, hτ.1.2 31 (by decide), hτ.1.2 32 (by decide), hτ.1.2 33 (by decide)]
        exact pLow_g (by omega) (fun z hz => hlo z (by omega)) nF hF
      · rw [xs_ar_n e, pk_un e]
        exact hlo j (by omega)

set_option maxHeartbeats 1000000 in
set_option maxRecDepth 100000 in
theorem c_X1_least (l : Launch) (σ : xS) {nF : Nat} (h34 : σ.1.1 34 = nI nF) (hF : nF ≤ 9) : xz_C l yX1_least (Cond.code yX1_least cX1_least 5 (some .int)) 1 0 0 (fun ad => [.ref (ad 0)]) σ (fun r u => xSame u (xs_st σ 34 0) 35 ∧ some (.int (pLst (σ.1.2 31) (σ.1.2 32) (σ.1.2 33) nF (2 ^ nF - 1) (2 ^ nF - 1))) = r) (fun _ _ => False) := by
  refine xz_of (by decide) (fun ad => Nat.le_of_ble_eq_true rfl) ?_
  intro p e s m args below meth c G A ad wk wv ls X hE hH hl
  obtain ⟨hx, hb, hml, hT, hr, hlocks, hxc, hA⟩ := id X
  have hl : lv_has ls 5 [(0, .ref (ad 0))] := hl
  refine lv_aload_n hx hb dX1_least_0 rfl (lv_at hl 0 rfl) ?_
  refine gw_get (C := RX1) (T := TX1) (N := 21) (ci := 1) (fs := xx_fs1 ad σ.1.1) (v := .int (σ.1.1 34)) hx hb hT hH.1 0 xx_0 rfl in_X1 19 (by decide) rfl q195 rfl dX1_least_1 ?_
  refine lv_as h34 ?_
  refine lv_istore_n (lv' := [(1, .int (nI nF)), (0, .ref (ad 0))]) hx hb dX1_least_4 rfl hl (by decide) rfl (fun ls hl => ?_)
  refine lv_aload_n hx hb dX1_least_5 rfl (lv_at hl 1 rfl) ?_
  refine lv_iconst (v := 0) hx hb dX1_least_6 (by decide) ?_
  refine gw_put (C := RX1) (T := TX1) (N := 21) (ci := 1) (fs := xx_fs1 ad σ.1.1) (v := .int 0) hx hb hT hH 0 xx_0 rfl in_X1 tyX1 tyX1_ok nmX1 19 (by decide) rfl rfl q195 rfl rfl (Nat.le_of_ble_eq_true rfl) dX1_least_7 (fun H locs hH => ?_)
  rw [xx_up1 (k := 19) (j := 34) (by decide) 0] at hH
  refine lv_aload_n hx hb dX1_least_10 rfl (lv_at hl 1 rfl) ?_
  refine gw_get (C := RX1) (T := TX1) (N := 21) (ci := 1) (fs := xx_fs1 ad (xs_st σ 34 0).1.1) (v := .ref (ad 35)) hx hb hT hH.1 0 xx_0 rfl in_X1 8 (by decide) rfl q184 rfl dX1_least_11 ?_
  refine lv_iconst (v := 0) hx hb dX1_least_14 (by decide) ?_
  refine lv_iconst (v := 0) hx hb dX1_least_15 (by decide) ?_
  refine xx_ist hx hb hT hH 35 (by decide) (by decide) rfl 0 rfl (show 0 < 512 by omega) dX1_least_16 (fun H locs hH => ?_)
  refine lv_iconst (v := 1) hx hb dX1_least_17 (by decide) ?_
  refine lv_istore_n (lv' := [(2, .int 1), (1, .int (nI nF)), (0, .ref (ad 0))]) hx hb dX1_least_18 rfl hl (by decide) rfl (fun ls hl => ?_)
  have hp := b_pw hF
  refine lp_X1_least3 (xs_st σ 34 0) (nF := nF) hF X ?_ (2 ^ nF + 1) 0 (xs_ar (xs_st σ 34 0) 35 0 0) (by omega) (by omega) (xSame.ar ⟨⟨rfl, fun j hj => rfl⟩, rfl⟩ _ _) (fun j hj => ?_) _ _ _ hH (lv_sub hl [2, 1, 0] rfl)
  · intro τ hτ hlo H locs ls hH hl
    refine lv_aload_n hx hb dX1_least_155 rfl (lv_at hl 0 rfl) ?_
    refine gw_get (C := RX1) (T := TX1) (N := 21) (ci := 1) (fs := xx_fs1 ad τ.1.1) (v := .ref (ad 35)) hx hb hT hH.1 0 xx_0 rfl in_X1 8 (by decide) rfl q184 rfl dX1_least_156 ?_
    refine lv_iconst (v := 1) hx hb dX1_least_159 (by decide) ?_
    refine lv_iload_n hx hb dX1_least_160 rfl (lv_at hl 1 rfl) ?_
    refine lv_ishl hx hb dX1_least_161 ?_
    refine lv_as (z := nI (2 ^ nF)) (b_one nF (by omega)) ?_
    refine lv_iconst (v := 1) hx hb dX1_least_162 (by decide) ?_
    refine lv_isub hx hb dX1_least_163 ?_
    refine lv_as (z := nI (2 ^ nF - 1)) (pk_sub (a := 2 ^ nF) (b := 1) (by omega)) ?_
    refine xx_ild (v := pLst (σ.1.2 31) (σ.1.2 32) (σ.1.2 33) nF (2 ^ nF - 1) (2 ^ nF - 1)) hx hb hT hH.1 35 (by decide) (by decide) rfl (2 ^ nF - 1) rfl (show 2 ^ nF - 1 < 512 by omega) (hlo _ (Nat.le_refl _)) dX1_least_164 ?_
    exact xz_ri hx hb hr hlocks hT hH rfl dX1_least_165 (⟨hτ, rfl⟩) (Nat.le_of_ble_eq_true rfl) (Nat.le_of_ble_eq_true rfl)
  · obtain rfl : j = 0 := by omega
    exact xs_ar_s _ _ _ _
