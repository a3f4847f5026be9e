theorem xs_ar_ar (σ : xS) (k n : Nat) (v w : Int32) : xs_ar (xs_ar σ k n v) k n w = xs_ar σ k n w := by
  have e : ∀ (m : mS), mm_ar (mm_ar m k n v) k n w = mm_ar m k n w := by
    intro m
    refine Prod.ext rfl (funext fun j => funext fun i => ?_)
    by_cases h : j = k
    · subst h
      by_cases g : i = n
      · subst g; rw [mm_ar_s, mm_ar_s]
      · rw [mm_ar_n g, mm_ar_n g, mm_ar_n g]
    · rw [mm_ar_o h, mm_ar_o h, mm_ar_o h]
  unfold xs_ar
  rw [e]
def xSame (τ σ : xS) (k : Nat) : Prop := pSame τ.1 σ.1 k ∧ τ.2 = σ.2
theorem xSame.ar {τ σ : xS} {k : Nat} (h : xSame τ σ k) (n : Nat) (v : Int32) : xSame (xs_ar τ k n v) σ k := ⟨⟨h.1.1, fun j hj => (mm_ar_o hj).trans (h.1.2 j hj)⟩, h.2⟩

set_option maxHeartbeats 1000000 in
set_option maxRecDepth 100000 in
theorem lp_X1_least1 {p : Program} {l : Launch} {e : Env} {s : State} {m : MethodId} {args : Array Value} {below : List Frame} {meth : Method} {c : Code} {Q : State → Prop} {G : gw_G} {A : Nat → Prop} {ad wk wv : Nat → Nat} (σ : xS) {nF : Nat} (hF : nF ≤ 9) (q : Nat) (hq : q < 512) (X : gx_Y RX1 cX1_least 5 (some .int) G A wk wv p s m args meth c)  (K : (∀ (H : Heap) (locs : List Loc) (ls : Array Slot), xx_H G A s.heap H locs ad wk σ → lv_has ls 5 [(0, .ref (ad 0)), (1, .int (nI nF)), (2, .int (nI q)), (3, .int (pEnd (σ.1.2 31) q nF))] → W p l e (xx_rm 1 0 0) s m args below meth c H locs 0 0 Q (F0 m 67 ls []))) : ∀ (n : Nat) (i : Nat), nF < i + n → i ≤ nF → ∀ (H : Heap) (locs : List Loc) (ls : Array Slot), xx_H G A s.heap H locs ad wk σ → lv_has ls 5 [(0, .ref (ad 0)), (1, .int (nI nF)), (2, .int (nI q)), (3, .int (pEnd (σ.1.2 31) q i)), (4, .int (nI i))] → W p l e (xx_rm 1 0 0) s m args below meth c H locs 0 0 Q (F0 m 31 ls []) := by
  obtain ⟨hx, hb, hml, hT, hr, hlocks, hxc, hA⟩ := id X
  intro n
  induction n with
  | zero =>
    intro i h0 hi
    exact absurd h0 (by omega)
  | succ n ih =>
    intro i h0 hi H locs ls hH hl
    refine lv_iload hx hb dX1_least_31 (lv_at hl 4 rfl) ?_
    refine lv_iload_n hx hb dX1_least_33 rfl (lv_at hl 1 rfl) ?_
    refine lv_icmp_ge (tgt := 67) hx hb dX1_least_34 (by decide) (fun c_34 => ?_) (fun c_34 => ?_)
    · skip
      have c_34 : nF ≤ i := (nI_leI (a := nF) (b := i) (by omega) (by omega)).mp c_34
      obtain rfl : nF = i := by omega
      exact K _ _ _ hH (lv_sub hl [0, 1, 2, 3] rfl)
    · skip
      have c_34 : ¬ (nF ≤ i) := fun h => c_34 ((nI_leI (a := nF) (b := i) (by omega) (by omega)).mpr h)
      refine lv_iload_n hx hb dX1_least_37 rfl (lv_at hl 3 rfl) ?_
      refine lv_iload_n hx hb dX1_least_38 rfl (lv_at hl 2 rfl) ?_
      refine lv_iload hx hb dX1_least_39 (lv_at hl 4 rfl) ?_
      refine lv_ishr hx hb dX1_least_41 ?_
      refine lv_iconst (v := 1) hx hb dX1_least_42 (by decide) ?_
      refine lv_iand hx hb dX1_least_43 ?_
      refine lv_as (z := nI (q / 2 ^ i % 2)) (b_bit (by omega) (by omega)) ?_
      refine lv_iconst (v := 1) hx hb dX1_least_44 (by decide) ?_
      have hm : q / 2 ^ i % 2 < 2 := Nat.mod_lt _ (by decide)
      refine lv_icmp_ne (tgt := 58) hx hb dX1_least_45 (by decide) (fun c_45 => ?_) (fun c_45 => ?_)
      · skip
        have c_45 : ¬ ((q / 2 ^ i % 2) = 1) := fun h => c_45 ((nI_eq (a := (q / 2 ^ i % 2)) (b := 1) (by omega) (by omega)).mpr h)
        refine lv_iconst (v := 0) hx hb dX1_least_58 (by decide) ?_
        refine lv_iadd hx hb dX1_least_59 ?_
        refine lv_as (z := pEnd (σ.1.2 31) q (i + 1)) (by rw [pEnd, if_neg c_45]) ?_
        refine lv_istore_n (lv' := [(3, .int (pEnd (σ.1.2 31) q (i + 1))), (0, .ref (ad 0)), (1, .int (nI nF)), (2, .int (nI q)), (4, .int (nI i))]) hx hb dX1_least_60 rfl hl (by decide) rfl (fun ls hl => ?_)
        refine lv_iinc (v := nI (i + 1)) (lv' := [(4, .int (nI (i + 1))), (3, .int (pEnd (σ.1.2 31) q (i + 1))), (0, .ref (ad 0)), (1, .int (nI nF)), (2, .int (nI q))]) hx hb dX1_least_61 hl (k := 4) rfl (nI_add i 1) (by decide) rfl (fun ls hl => ?_)
        refine lv_goto (tgt := 31) hx hb dX1_least_64 (by decide) ?_
        exact ih (i + 1) (by omega) (by omega) _ _ _ hH (lv_sub hl [2, 3, 4, 1, 0] rfl)
      · skip
        have c_45 : (q / 2 ^ i % 2) = 1 := (nI_eq (a := (q / 2 ^ i % 2)) (b := 1) (by omega) (by omega)).mp c_45
        refine lv_aload_n hx hb dX1_least_48 rfl (lv_at hl 0 rfl) ?_
        refine gw_get (C := RX1) (T := TX1) (N := 21) (ci := 1) (fs := xx_fs1 ad σ.1.1) (v := .ref (ad 31)) hx hb hT hH.1 0 xx_0 rfl in_X1 5 (by decide) rfl q181 rfl dX1_least_49 ?_
        refine lv_iload hx hb dX1_least_52 (lv_at hl 4 rfl) ?_
        refine xx_ild (v := σ.1.2 31 i) hx hb hT hH.1 31 (by decide) (by decide) rfl i rfl (show i < 9 by omega) rfl dX1_least_54 ?_
        refine lv_goto (tgt := 59) hx hb dX1_least_55 (by decide) ?_
        refine lv_iadd hx hb dX1_least_59 ?_
        refine lv_as (z := pEnd (σ.1.2 31) q (i + 1)) (by rw [pEnd, if_pos c_45]) ?_
        refine lv_istore_n (lv' := [(3, .int (pEnd (σ.1.2 31) q (i + 1))), (0, .ref (ad 0)), (1, .int (nI nF)), (2, .int (nI q)), (4, .int (nI i))]) hx hb dX1_least_60 rfl hl (by decide) rfl (fun ls hl => ?_)
        refine lv_iinc (v := nI (i + 1)) (lv' := [(4, .int (nI (i + 1))), (3, .int (pEnd (σ.1.2 31) q (i + 1))), (0, .ref (ad 0)), (1, .int (nI nF)), (2, .int (nI q))]) hx hb dX1_least_61 hl (k := 4) rfl (nI_add i 1) (by decide) rfl (fun ls hl => ?_)
        refine lv_goto (tgt := 31) hx hb dX1_least_64 (by decide) ?_
        exact ih (i + 1) (by omega) (by omega) _ _ _ hH (lv_sub hl [2, 3, 4, 1, 0] rfl)

set_option maxHeartbeats 1000000 in
set_option maxRecDepth 100000 in
theorem lp_X1_least2 {p : Program} {l : Launch} {e : Env} {s : State} {m : MethodId} {args : Array Value} {below : List Frame} {meth : Method} {c : Code} {Q : State → Prop} {G : gw_G} {A : Nat → Prop} {ad wk wv : Nat → Nat} (σ : xS) {nF : Nat} (hF : nF ≤ 9) (q : Nat) (hq : q < 512) (x : Int32) (X : gx_Y RX1 cX1_least 5 (some .int) G A wk wv p s m args meth c)  (K : (∀ (H : Heap) (locs : List Loc) (ls : Array Slot), xx_H G A s.heap H locs ad wk (xs_ar σ 35 q (pLow (σ.1.2 35) (σ.1.2 33) (σ.1.2 32) x q nF)) → lv_has ls 5 [(0, .ref (ad 0)), (1, .int (nI nF)), (2, .int (nI q))] → W p l e (xx_rm 1 0 0) s m args below meth c H locs 0 0 Q (F0 m 149 ls []))) : ∀ (n : Nat) (i : Nat), nF < i + n → i ≤ nF → ∀ (H : Heap) (locs : List Loc) (ls : Array Slot), xx_H G A s.heap H locs ad wk (xs_ar σ 35 q (pLow (σ.1.2 35) (σ.1.2 33) (σ.1.2 32) x q i)) → lv_has ls 5 [(0, .ref (ad 0)), (1, .int (nI nF)), (2, .int (nI q)), (3, .int x), (4, .int (nI i))] → W p l e (xx_rm 1 0 0) s m args below meth c H locs 0 0 Q (F0 m 79 ls []) := by
  obtain ⟨hx, hb, hml, hT, hr, hlocks, hxc, hA⟩ := id X
  intro n
  induction n with
  | zero =>
    intro i h0 hi
    exact absurd h0 (by omega)
  | succ n ih =>
    intro i h0 hi H locs ls hH hl
    refine lv_iload hx hb dX1_least_79 (lv_at hl 4 rfl) ?_
    refine lv_iload_n hx hb dX1_least_81 rfl (lv_at hl 1 rfl) ?_
    refine lv_icmp_ge (tgt := 149) hx hb dX1_least_82 (by decide) (fun c_82 => ?_) (fun c_82 => ?_)
    · skip
      have c_82 : nF ≤ i := (nI_leI (a := nF) (b := i) (by omega) (by omega)).mp c_82
      obtain rfl : nF = i := by omega
      exact K _ _ _ hH (lv_sub hl [0, 1, 2] rfl)
    · skip
      have c_82 : ¬ (nF ≤ i) := fun h => c_82 ((nI_leI (a := nF) (b := i) (by omega) (by omega)).mpr h)
      refine lv_iload_n hx hb dX1_least_85 rfl (lv_at hl 2 rfl) ?_
      refine lv_iload hx hb dX1_least_86 (lv_at hl 4 rfl) ?_
      refine lv_ishr hx hb dX1_least_88 ?_
      refine lv_iconst (v := 1) hx hb dX1_least_89 (by decide) ?_
      refine lv_iand hx hb dX1_least_90 ?_
      refine lv_as (z := nI (q / 2 ^ i % 2)) (b_bit (by omega) (by omega)) ?_
      refine lv_iconst (v := 1) hx hb dX1_least_91 (by decide) ?_
      have hm : q / 2 ^ i % 2 < 2 := Nat.mod_lt _ (by decide)
      refine lv_icmp_ne (tgt := 143) hx hb dX1_least_92 (by decide) (fun c_92 => ?_) (fun c_92 => ?_)
      · skip
        have c_92 : ¬ ((q / 2 ^ i % 2) = 1) := fun h => c_92 ((nI_eq (a := (q / 2 ^ i % 2)) (b := 1) (by omega) (by omega)).mpr h)
        refine lv_iinc (v := nI (i + 1)) (lv' := [(4, .int (nI (i + 1))), (0, .ref (ad 0)), (1, .int (nI nF)), (2, .int (nI q)), (3, .int x)]) hx hb dX1_least_143 hl (k := 4) rfl (nI_add i 1) (by decide) rfl (fun ls hl => ?_)
        refine lv_goto (tgt := 79) hx hb dX1_least_146 (by decide) ?_
        have e : pLow (σ.1.2 35) (σ.1.2 33) (σ.1.2 32) x q (i + 1) = pLow (σ.1.2 35) (σ.1.2 33) (σ.1.2 32) x q i := by rw [pLow, if_neg c_92]
        have hH : xx_H G A s.heap H locs ad wk (xs_ar σ 35 q (pLow (σ.1.2 35) (σ.1.2 33) (σ.1.2 32) x q (i + 1))) := by rw [e]; exact hH
        exact ih (i + 1) (by omega) (by omega) _ _ _ hH (lv_sub hl [1, 2, 3, 4, 0] rfl)
      · skip
        have c_92 : (q / 2 ^ i % 2) = 1 := (nI_eq (a := (q / 2 ^ i % 2)) (b := 1) (by omega) (by omega)).mp c_92
        refine lv_aload_n hx hb dX1_least_95 rfl (lv_at hl 0 rfl) ?_
        refine gw_get (C := RX1) (T := TX1) (N := 21) (ci := 1) (fs := xx_fs1 ad (xs_ar σ 35 q (pLow (σ.1.2 35) (σ.1.2 33) (σ.1.2 32) x q i)).1.1) (v := .ref (ad 35)) hx hb hT hH.1 0 xx_0 rfl in_X1 8 (by decide) rfl q184 rfl dX1_least_96 ?_
        refine lv_iload_n hx hb dX1_least_99 rfl (lv_at hl 2 rfl) ?_
        refine lv_aload_n hx hb dX1_least_100 rfl (lv_at hl 0 rfl) ?_
        refine gw_get (C := RX1) (T := TX1) (N := 21) (ci := 1) (fs := xx_fs1 ad (xs_ar σ 35 q (pLow (σ.1.2 35) (σ.1.2 33) (σ.1.2 32) x q i)).1.1) (v := .ref (ad 35)) hx hb hT hH.1 0 xx_0 rfl in_X1 8 (by decide) rfl q184 rfl dX1_least_101 ?_
        refine lv_iload_n hx hb dX1_least_104 rfl (lv_at hl 2 rfl) ?_
        refine xx_ild (v := pLow (σ.1.2 35) (σ.1.2 33) (σ.1.2 32) x q i) hx hb hT hH.1 35 (by decide) (by decide) rfl q rfl (show q < 512 by omega) (xs_ar_s _ _ _ _) dX1_least_105 ?_
        refine lv_aload_n hx hb dX1_least_106 rfl (lv_at hl 0 rfl) ?_
        refine gw_get (C := RX1) (T := TX1) (N := 21) (ci := 1) (fs := xx_fs1 ad (xs_ar σ 35 q (pLow (σ.1.2 35) (σ.1.2 33) (σ.1.2 32) x q i)).1.1) (v := .ref (ad 35)) hx hb hT hH.1 0 xx_0 rfl in_X1 8 (by decide) rfl q184 rfl dX1_least_107 ?_
        refine lv_iload_n hx hb dX1_least_110 rfl (lv_at hl 2 rfl) ?_
        refine lv_iconst (v := 1) hx hb dX1_least_111 (by decide) ?_
        refine lv_iload hx hb dX1_least_112 (lv_at hl 4 rfl) ?_
        refine lv_ishl hx hb dX1_least_114 ?_
        refine lv_as (z := nI (2 ^ i)) (b_one i (by omega)) ?_
        refine lv_ixor hx hb dX1_least_115 ?_
        refine lv_as (z := nI (q - 2 ^ i)) (b_xor q (by omega) i (by omega) c_92) ?_
        refine xx_ild (v := σ.1.2 35 (q - 2 ^ i)) hx hb hT hH.1 35 (by decide) (by decide) rfl (q - 2 ^ i) rfl (Nat.lt_of_le_of_lt (Nat.sub_le _ _) (show q < 512 by omega)) (xs_ar_n (Nat.ne_of_lt (b_lt q (by omega) i (by omega) c_92))) dX1_least_116 ?_
        refine lv_aload_n hx hb dX1_least_117 rfl (lv_at hl 0 rfl) ?_
        refine gw_get (C := RX1) (T := TX1) (N := 21) (ci := 1) (fs := xx_fs1 ad (xs_ar σ 35 q (pLow (σ.1.2 35) (σ.1.2 33) (σ.1.2 32) x q i)).1.1) (v := .ref (ad 33)) hx hb hT hH.1 0 xx_0 rfl in_X1 7 (by decide) rfl q183 rfl dX1_least_118 ?_
        refine lv_iload hx hb dX1_least_121 (lv_at hl 4 rfl) ?_
        refine xx_ild (v := σ.1.2 33 i) hx hb hT hH.1 33 (by decide) (by decide) rfl i rfl (show i < 9 by omega) (congrFun (xs_ar_o (by decide)) _) dX1_least_123 ?_
        refine lv_iconst (v := 0) hx hb dX1_least_124 (by decide) ?_
        refine lv_iload_n hx hb dX1_least_125 rfl (lv_at hl 3 rfl) ?_
        refine lv_aload_n hx hb dX1_least_126 rfl (lv_at hl 0 rfl) ?_
        refine gw_get (C := RX1) (T := TX1) (N := 21) (ci := 1) (fs := xx_fs1 ad (xs_ar σ 35 q (pLow (σ.1.2 35) (σ.1.2 33) (σ.1.2 32) x q i)).1.1) (v := .ref (ad 32)) hx hb hT hH.1 0 xx_0 rfl in_X1 6 (by decide) rfl q182 rfl dX1_least_127 ?_
        refine lv_iload hx hb dX1_least_130 (lv_at hl 4 rfl) ?_
        refine xx_ild (v := σ.1.2 32 i) hx hb hT hH.1 32 (by decide) (by decide) rfl i rfl (show i < 9 by omega) (congrFun (xs_ar_o (by decide)) _) dX1_least_132 ?_
        refine lv_isub hx hb dX1_least_133 ?_
        refine va_mmax hx hb (hml.trans hl.1.symm) hT.1 (hT.2.1 _ q266) (hT.2.1 _ q267) (hT.2.1 _ q48) (hT.2.1 _ q268) (by decide) (Nat.le_of_ble_eq_true rfl) (Nat.zero_le _) (Nat.zero_le _) dX1_least_134 ?_
        refine lv_imul hx hb dX1_least_137 ?_
        refine lv_iadd hx hb dX1_least_138 ?_
        refine va_mmin hx hb (hml.trans hl.1.symm) hT.1 (hT.2.1 _ q269) (hT.2.1 _ q270) (hT.2.1 _ q48) (hT.2.1 _ q271) (by decide) (Nat.le_of_ble_eq_true rfl) (Nat.zero_le _) (Nat.zero_le _) dX1_least_139 ?_
        refine xx_ist hx hb hT hH 35 (by decide) (by decide) rfl q rfl (show q < 512 by omega) dX1_least_142 (fun H locs hH => ?_)
        refine lv_iinc (v := nI (i + 1)) (lv' := [(4, .int (nI (i + 1))), (0, .ref (ad 0)), (1, .int (nI nF)), (2, .int (nI q)), (3, .int x)]) hx hb dX1_least_143 hl (k := 4) rfl (nI_add i 1) (by decide) rfl (fun ls hl => ?_)
        refine lv_goto (tgt := 79) hx hb dX1_least_146 (by decide) ?_
        have e : pLow (σ.1.2 35) (σ.1.2 33) (σ.1.2 32) x q (i + 1) = pMin (pLow (σ.1.2 35) (σ.1.2 33) (σ.1.2 32) x q i) (σ.1.2 35 (q - 2 ^ i) + σ.1.2 33 i * pMax 0 (x - σ.1.2 32 i)) := by rw [pLow, if_pos c_92]
        have hH : xx_H G A s.heap H locs ad wk (xs_ar σ 35 q (pLow (σ.1.2 35) (σ.1.2 33) (σ.1.2 32) x q (i + 1))) := by rw [xs_ar_ar] at hH; rw [e]; exact hH
        exact ih (i + 1) (by omega) (by omega) _ _ _ hH (lv_sub hl [1, 2, 3, 4, 0] rfl)

set_option maxHeartbeats 1000000 in
set_option maxRecDepth 100000 in
theorem lp_X1_least3 {p : Program} {l : Launch} {e : Env} {s : State} {m : MethodId} {args : Array Value} {below : List Frame} {meth : Method} {c : Code} {Q : State → Prop} {G : gw_G} {A : Nat → Prop} {ad wk wv : Nat → Nat} (σ : xS) {nF : Nat} (hF : nF ≤ 9) (X : gx_Y RX1 cX1_least 5 (some .int) G A wk wv p s m args meth c)  (K : ∀ τ : xS, xSame τ σ 35 → (∀ j, j ≤ 2 ^ nF - 1 → τ.1.2 35 j = pLst (σ.1.2 31) (σ.1.2 32) (σ.1.2 33) nF (2 ^ nF - 1) j) → (∀ (H : Heap) (locs : List Loc) (ls : Array Slot), xx_H G A s.heap H locs ad wk τ → lv_has ls 5 [(0, .ref (ad 0)), (1, .int (nI nF))] → W p l e (xx_rm 1 0 0) s m args below meth c H locs 0 0 Q (F0 m 155 ls []))) : ∀ (n : Nat) (q : Nat) (τ : xS), 2 ^ nF < q + 1 + n → q + 1 ≤ 2 ^ nF → xSame τ σ 35 → (∀ j, j ≤ q → τ.1.2 35 j = pLst (σ.1.2 31) (σ.1.2 32) (σ.1.2 33) nF q j) → ∀ (H : Heap) (locs : List Loc) (ls : Array Slot), xx_H G A s.heap H locs ad wk τ → lv_has ls 5 [(0, .ref (ad 0)), (1, .int (nI nF)), (2, .int (nI (q + 1)))] → W p l e (xx_rm 1 0 0) s m args below meth c H locs 0 0 Q (F0 m 19 ls []) := by
  obtain ⟨hx, hb, hml, hT, hr, hlocks, hxc, hA⟩ := id X
  intro n
  induction n with
  | zero =>
    intro q τ h0 hi hτ hlo
    exact absurd h0 (by omega)
  | succ n ih =>
    intro q τ h0 hi hτ hlo H locs ls hH hl
    have hp := b_pw hF
    refine lv_iload_n hx hb dX1_least_19 rfl (lv_at hl 2 rfl) ?_
    refine lv_iconst (v := 1) hx hb dX1_least_20 (by decide) ?_
    refine lv_iload_n hx hb dX1_least_21 rfl (lv_at hl 1 rfl) ?_
    refine lv_ishl hx hb dX1_least_22 ?_
    refine lv_as (z := nI (2 ^ nF)) (b_one nF (by omega)) ?_
    refine lv_icmp_ge (tgt := 155) hx hb dX1_least_23 (by decide) (fun c_23 => ?_) (fun c_23 => ?_)
    · skip
      have c_23 : (2 ^ nF) ≤ (q + 1) := (nI_leI (a := (2 ^ nF)) (b := (q + 1)) (by omega) (by omega)).mp c_23
      obtain rfl : q = 2 ^ nF - 1 := by omega
      exact K τ hτ hlo _ _ _ hH (lv_sub hl [0, 1] rfl)
    · skip
      have c_23 : ¬ ((2 ^ nF) ≤ (q + 1)) := fun h => c_23 ((nI_leI (a := (2 ^ nF)) (b := (q + 1)) (by omega) (by omega)).mpr h)
      refine lv_iconst (v := 0) hx hb dX1_least_26 (by decide) ?_
      refine lv_istore_n (lv' := [(3, .int 0), (0, .ref (ad 0)), (1, .int (nI nF)), (2, .int (nI (q + 1)))]) hx hb dX1_least_27 rfl hl (by decide) rfl (fun ls hl => ?_)
      refine lv_iconst (v := 0) hx hb dX1_least_28 (by decide) ?_
      refine lv_istore (lv' := [(4, .int 0), (3, .int 0), (0, .ref (ad 0)), (1, .int (nI nF)), (2, .int (nI (q + 1)))]) hx hb dX1_least_29 hl (by decide) rfl (fun ls hl => ?_)
      refine lp_X1_least1 τ (nF := nF) hF (q + 1) (by omega) X ?_ (nF + 1) 0 (by omega) (Nat.zero_le _) _ _ _ hH (lv_sub hl [2, 3, 4, 1, 0] rfl)
      intro H locs ls hH hl
      refine lv_aload_n hx hb dX1_least_67 rfl (lv_at hl 0 rfl) ?_
      refine gw_get (C := RX1) (T := TX1) (N := 21) (ci := 1) (fs := xx_fs1 ad τ.1.1) (v := .ref (ad 35)) hx hb hT hH.1 0 xx_0 rfl in_X1 8 (by decide) rfl q184 rfl dX1_least_68 ?_
      refine lv_iload_n hx hb dX1_least_71 rfl (lv_at hl 2 rfl) ?_
      refine lv_ldcw (v := 2147483647) hx hb hT.1 (hT.2.1 _ q265) dX1_least_72 ?_
      refine xx_ist hx hb hT hH 35 (by decide) (by decide) rfl (q + 1) rfl (show q + 1 < 512 by omega) dX1_least_75 (fun H locs hH => ?_)
      refine lv_iconst (v := 0) hx hb dX1_least_76 (by decide) ?_
      refine lv_istore (lv' := [(4, .int 0), (0, .ref (ad 0)), (1, .int (nI nF)), (2, .int (nI (q + 1))), (3, .int (pEnd (τ.1.2 31) (q + 1) nF))]) hx hb dX1_least_77 hl (by decide) rfl (fun ls hl => ?_)
      refine lp_X1_least2 τ (nF := nF) hF (q + 1) (by omega) (pEnd (τ.1.2 31) (q + 1) nF) X ?_ (nF + 1) 0 (by omega) (Nat.zero_le _) _ _ _ hH (lv_sub hl [1, 2, 3, 4, 0] rfl)
      intro H locs ls hH hl
      refine lv_iinc (v := nI (q + 1 + 1)) (lv' := [(2, .int (nI (q + 1 + 1))), (0, .ref (ad 0)), (1, .int (nI nF))]) hx hb dX1_least_149 hl (k := 2) rfl (nI_add (q + 1) 1) (by decide) rfl (fun ls hl => ?_)
      refine lv_goto (tgt := 19) hx hb dX1_least_152 (by decide) ?_
      refine ih (q + 1) (xs_ar τ 35 (q + 1) (pLow (τ.1.2 35) (τ.1.2 33) (τ.1.2 32) (pEnd (τ.1.2 31) (q + 1) nF) (q + 1) nF)) (by omega) (by omega) (hτ.ar _ _) (fun j hj => ?_) _ _ _ hH (lv_sub hl [1, 2, 0] rfl)
      rw [pLst]
      by_cases e : j = q + 1
      · subst e
        rw [xs_ar_s, pk_us, hτ.1.2 31 (by decide), hτ.1.2 32 (by decide), hτ.1.2 33 (by decide)]
        exact pLow_g (by omega) (fun z hz => hlo z (by omega)) nF hF
      · rw [xs_ar_n e, pk_un e]
        exact hlo j (by omega)

set_option maxHeartbeats 1000000 in
set_option maxRecDepth 100000 in
theorem c_X1_least (l : Launch) (σ : xS) {nF : Nat} (h34 : σ.1.1 34 = nI nF) (hF : nF ≤ 9) : xz_C l yX1_least (Cond.code yX1_least cX1_least 5 (some .int)) 1 0 0 (fun ad => [.ref (ad 0)]) σ (fun r u => xSame u (xs_st σ 34 0) 35 ∧ some (.int (pLst (σ.1.2 31) (σ.1.2 32) (σ.1.2 33) nF (2 ^ nF - 1) (2 ^ nF - 1))) = r) (fun _ _ => False) := by
  refine xz_of (by decide) (fun ad => Nat.le_of_ble_eq_true rfl) ?_
  intro p e s m args below meth c G A ad wk wv ls X hE hH hl
  obtain ⟨hx, hb, hml, hT, hr, hlocks, hxc, hA⟩ := id X
  have hl : lv_has ls 5 [(0, .ref (ad 0))] := hl
  refine lv_aload_n hx hb dX1_least_0 rfl (lv_at hl 0 rfl) ?_
  refine gw_get (C := RX1) (T := TX1) (N := 21) (ci := 1) (fs := xx_fs1 ad σ.1.1) (v := .int (σ.1.1 34)) hx hb hT hH.1 0 xx_0 rfl in_X1 19 (by decide) rfl q195 rfl dX1_least_1 ?_
  refine lv_as h34 ?_
  refine lv_istore_n (lv' := [(1, .int (nI nF)), (0, .ref (ad 0))]) hx hb dX1_least_4 rfl hl (by decide) rfl (fun ls hl => ?_)
  refine lv_aload_n hx hb dX1_least_5 rfl (lv_at hl 1 rfl) ?_
  refine lv_iconst (v := 0) hx hb dX1_least_6 (by decide) ?_
  refine gw_put (C := RX1) (T := TX1) (N := 21) (ci := 1) (fs := xx_fs1 ad σ.1.1) (v := .int 0) hx hb hT hH 0 xx_0 rfl in_X1 tyX1 tyX1_ok nmX1 19 (by decide) rfl rfl q195 rfl rfl (Nat.le_of_ble_eq_true rfl) dX1_least_7 (fun H locs hH => ?_)
  rw [xx_up1 (k := 19) (j := 34) (by decide) 0] at hH
  refine lv_aload_n hx hb dX1_least_10 rfl (lv_at hl 1 rfl) ?_
  refine gw_get (C := RX1) (T := TX1) (N := 21) (ci := 1) (fs := xx_fs1 ad (xs_st σ 34 0).1.1) (v := .ref (ad 35)) hx hb hT hH.1 0 xx_0 rfl in_X1 8 (by decide) rfl q184 rfl dX1_least_11 ?_
  refine lv_iconst (v := 0) hx hb dX1_least_14 (by decide) ?_
  refine lv_iconst (v := 0) hx hb dX1_least_15 (by decide) ?_
  refine xx_ist hx hb hT hH 35 (by decide) (by decide) rfl 0 rfl (show 0 < 512 by omega) dX1_least_16 (fun H locs hH => ?_)
  refine lv_iconst (v := 1) hx hb dX1_least_17 (by decide) ?_
  refine lv_istore_n (lv' := [(2, .int 1), (1, .int (nI nF)), (0, .ref (ad 0))]) hx hb dX1_least_18 rfl hl (by decide) rfl (fun ls hl => ?_)
  have hp := b_pw hF
  refine lp_X1_least3 (xs_st σ 34 0) (nF := nF) hF X ?_ (2 ^ nF + 1) 0 (xs_ar (xs_st σ 34 0) 35 0 0) (by omega) (by omega) (xSame.ar ⟨⟨rfl, fun j hj => rfl⟩, rfl⟩ _ _) (fun j hj => ?_) _ _ _ hH (lv_sub hl [2, 1, 0] rfl)
  · intro τ hτ hlo H locs ls hH hl
    refine lv_aload_n hx hb dX1_least_155 rfl (lv_at hl 0 rfl) ?_
    refine gw_get (C := RX1) (T := TX1) (N := 21) (ci := 1) (fs := xx_fs1 ad τ.1.1) (v := .ref (ad 35)) hx hb hT hH.1 0 xx_0 rfl in_X1 8 (by decide) rfl q184 rfl dX1_least_156 ?_
    refine lv_iconst (v := 1) hx hb dX1_least_159 (by decide) ?_
    refine lv_iload_n hx hb dX1_least_160 rfl (lv_at hl 1 rfl) ?_
    refine lv_ishl hx hb dX1_least_161 ?_
    refine lv_as (z := nI (2 ^ nF)) (b_one nF (by omega)) ?_
    refine lv_iconst (v := 1) hx hb dX1_least_162 (by decide) ?_
    refine lv_isub hx hb dX1_least_163 ?_
    refine lv_as (z := nI (2 ^ nF - 1)) (pk_sub (a := 2 ^ nF) (b := 1) (by omega)) ?_
    refine xx_ild (v := pLst (σ.1.2 31) (σ.1.2 32) (σ.1.2 33) nF (2 ^ nF - 1) (2 ^ nF - 1)) hx hb hT hH.1 35 (by decide) (by decide) rfl (2 ^ nF - 1) rfl (show 2 ^ nF - 1 < 512 by omega) (hlo _ (Nat.le_refl _)) dX1_least_164 ?_
    exact xz_ri hx hb hr hlocks hT hH rfl dX1_least_165 (⟨hτ, rfl⟩) (Nat.le_of_ble_eq_true rfl) (Nat.le_of_ble_eq_true rfl)
  · obtain rfl : j = 0 := by omega
    exact xs_ar_s _ _ _ _

def xs_w (σ : xS) (g : Nat → Int64) : xS := (σ.1, va_up σ.2 0 g)
theorem xs_w_lg (σ : xS) (g : Nat → Int64) (n : Nat) (v : Int64) : xs_lg (xs_w σ g) 0 n v = xs_w σ (vp_updL g n v) := by
  refine Prod.ext rfl (funext fun j => ?_)
  show va_up (va_up σ.2 0 g) 0 (vp_updL (va_up σ.2 0 g 0) n v) j = va_up σ.2 0 (vp_updL g n v) j
  by_cases h : j = 0
  · subst h; simp only [va_up, if_true]
  · simp only [va_up, if_neg h]
theorem xs_w_id (σ : xS) : xs_w σ (σ.2 0) = σ := by
  refine Prod.ext rfl (funext fun j => ?_)
  show va_up σ.2 0 (σ.2 0) j = _
  by_cases h : j = 0
  · subst h; simp only [va_up, if_true]
  · simp only [va_up, if_neg h]
theorem xs_w_0 (σ : xS) (g : Nat → Int64) : (xs_w σ g).2 0 = g := by
  show va_up σ.2 0 g 0 = g
  simp only [va_up, if_true]
theorem upL_s (g : Nat → Int64) (k : Nat) (x : Int64) : vp_updL g k x k = x := if_pos rfl
theorem upL_n {g : Nat → Int64} {k j : Nat} {x : Int64} (h : j ≠ k) : vp_updL g k x j = g j := if_neg h
/-- each owner's weight in a channel -/
def xWt (σ : mS) (ow : Nat → Nat) (q : Nat) : Nat → Nat → Int64
  | 0 => fun _ => 0
  | n + 1 => if σ.2 16 (7 * n) = nI q then vp_updL (xWt σ ow q n) (ow n) (if σ.2 21 2 = 1 then 1 else xWt σ ow q n (ow n) + (σ.2 16 (7 * n + 2)).toInt64 - (σ.2 16 (7 * n + 1)).toInt64) else xWt σ ow q n
def xSum (g : Nat → Int64) : Nat → Int64
  | 0 => 0
  | n + 1 => xSum g n + g n
def xRst (co fr : Int32) : Int32 := co - co * fr / 100
def xPor (g : Nat → Int64) (s : Int64) (r : Int32) (n : Nat) : Int32 := (r.toInt64 * g n / s).toInt32
def xLf (g : Nat → Int64) (s : Int64) (r : Int32) : Nat → Int32
  | 0 => r
  | n + 1 => xLf g s r n - xPor g s r n
def xAh (g : Nat → Int64) (z : Nat) : Nat → Nat
  | 0 => 0
  | n + 1 => xAh g z n + (if n < z ∧ 0 < g n then 1 else 0)
theorem xAh_le (g : Nat → Int64) (z : Nat) : ∀ n, xAh g z n ≤ n
  | 0 => Nat.le_refl _
  | n + 1 => by
    have := xAh_le g z n
    rw [xAh]
    split <;> omega
def xPay (g : Nat → Int64) (fr co : Int32) (z : Nat) : Int32 := if g z = 0 then 0 else xPor g (xSum g 31) (xRst co fr) z + (if nI (xAh g z 31) < xLf g (xSum g 31) (xRst co fr) 31 then 1 else 0)
theorem xSum_cg {f g : Nat → Int64} : ∀ n, (∀ j, j < n → f j = g j) → xSum f n = xSum g n
  | 0, _ => rfl
  | n + 1, h => by rw [xSum, xSum, xSum_cg n (fun j hj => h j (by omega)), h n (by omega)]
theorem xAh_cg {f g : Nat → Int64} (z : Nat) : ∀ n, (∀ j, j < n → f j = g j) → xAh f z n = xAh g z n
  | 0, _ => rfl
  | n + 1, h => by rw [xAh, xAh, xAh_cg z n (fun j hj => h j (by omega)), h n (by omega)]
theorem xLf_cg {f g : Nat → Int64} (s : Int64) (r : Int32) : ∀ n, (∀ j, j < n → f j = g j) → xLf f s r n = xLf g s r n
  | 0, _ => rfl
  | n + 1, h => by rw [xLf, xLf, xLf_cg s r n (fun j hj => h j (by omega)), xPor, xPor, h n (by omega)]
theorem xPay_cg {f g : Nat → Int64} (fr co : Int32) {z : Nat} (hz : z < 31) (h : ∀ j, j < 31 → f j = g j) : xPay f fr co z = xPay g fr co z := by
  rw [xPay, xPay, h z hz, xPor, xPor, xSum_cg 31 h, xAh_cg z 31 h, xLf_cg _ _ 31 h, h z hz]

set_option maxHeartbeats 1000000 in
set_option maxRecDepth 100000 in
theorem lp_X1_pays1 {p : Program} {l : Launch} {e : Env} {s : State} {m : MethodId} {args : Array Value} {below : List Frame} {meth : Method} {c : Code} {Q : State → Prop} {G : gw_G} {A : Nat → Prop} {ad wk wv : Nat → Nat} (σ : xS) {nC nS : Nat} {nW : Nat → Nat} (hk : xk σ nC nS nW) (k : Nat) (hkk : k < nC) (z : Nat) (hz : z < 31) (co : Int32) (X : gx_Y RX1 cX1_pays 11 (some .int) G A wk wv p s m args meth c)  (K : ∀ g : Nat → Int64, (∀ j, j < 31 → g j = 0) → (∀ (H : Heap) (locs : List Loc) (ls : Array Slot), xx_H G A s.heap H locs ad wk (xs_w σ g) → lv_has ls 11 [(0, .ref (ad 0)), (2, .int (nI z)), (3, .int co), (4, .ref (ad (40 + k))), (5, .long 0)] → W p l e (xx_rm 9 8 100) s m args below meth c H locs 0 0 Q (F0 m 60 ls []))) : ∀ (n : Nat) (i : Nat) (g : Nat → Int64), 31 < i + n → i ≤ 31 → (∀ j, j < i → g j = 0) → ∀ (H : Heap) (locs : List Loc) (ls : Array Slot), xx_H G A s.heap H locs ad wk (xs_w σ g) → lv_has ls 11 [(0, .ref (ad 0)), (2, .int (nI z)), (3, .int co), (4, .ref (ad (40 + k))), (5, .long 0), (7, .int (nI i))] → W p l e (xx_rm 9 8 100) s m args below meth c H locs 0 0 Q (F0 m 39 ls []) := by
  obtain ⟨hx, hb, hml, hT, hr, hlocks, hxc, hA⟩ := id X
  intro n
  induction n with
  | zero =>
    intro i g h0 hi hg
    exact absurd h0 (by omega)
  | succ n ih =>
    intro i g h0 hi hg H locs ls hH hl
    have h8 := hk.1.2
    have h60 := hk.2.1.2
    replace hk : xk (xs_w σ g) nC nS nW := hk
    refine lv_iload hx hb dX1_pays_39 (lv_at hl 5 rfl) ?_
    refine lv_bipush (v := 31) hx hb dX1_pays_41 (by decide) ?_
    refine lv_icmp_ge (tgt := 60) hx hb dX1_pays_43 (by decide) (fun c_43 => ?_) (fun c_43 => ?_)
    · skip
      have c_43 : 31 ≤ i := (nI_leI (a := 31) (b := i) (by omega) (by omega)).mp c_43
      obtain rfl : i = 31 := by omega
      exact K g hg _ _ _ hH (lv_sub hl [0, 1, 2, 3, 4] rfl)
    · skip
      have c_43 : ¬ (31 ≤ i) := fun h => c_43 ((nI_leI (a := 31) (b := i) (by omega) (by omega)).mpr h)
      refine lv_aload_n hx hb dX1_pays_46 rfl (lv_at hl 0 rfl) ?_
      refine gw_get (C := RX1) (T := TX1) (N := 21) (ci := 1) (fs := xx_fs1 ad (xs_w σ g).1.1) (v := .ref (ad 6)) hx hb hT hH.1 0 xx_0 rfl in_X1 11 (by decide) rfl q187 rfl dX1_pays_47 ?_
      refine lv_iload hx hb dX1_pays_50 (lv_at hl 5 rfl) ?_
      refine lv_lconst (v := 0) hx hb dX1_pays_52 (by decide) ?_
      refine xx_lst hx hb hT hH i rfl (show i < 31 by omega) dX1_pays_53 (fun H locs hH => ?_)
      have hk := hk.lg (k := 0) (n := i) 0
      refine lv_iinc (v := nI (i + 1)) (lv' := [(7, .int (nI (i + 1))), (0, .ref (ad 0)), (2, .int (nI z)), (3, .int co), (4, .ref (ad (40 + k))), (5, .long 0)]) hx hb dX1_pays_54 hl (k := 5) rfl (nI_add i 1) (by decide) rfl (fun ls hl => ?_)
      refine lv_goto (tgt := 39) hx hb dX1_pays_57 (by decide) ?_
      rw [xs_w_lg] at hH
      refine ih (i + 1) (vp_updL g i 0) (by omega) (by omega) (fun j hj => ?_) _ _ _ hH (lv_sub hl [1, 2, 3, 4, 5, 0] rfl)
      by_cases e : j = i
      · subst e; exact upL_s _ _ _
      · rw [upL_n e]; exact hg j (by omega)

set_option maxHeartbeats 1000000 in
set_option maxRecDepth 100000 in
theorem lp_X1_pays2 {p : Program} {l : Launch} {e : Env} {s : State} {m : MethodId} {args : Array Value} {below : List Frame} {meth : Method} {c : Code} {Q : State → Prop} {G : gw_G} {A : Nat → Prop} {ad wk wv : Nat → Nat} (σ : xS) {nC nS : Nat} {nW : Nat → Nat} (hk : xk σ nC nS nW) (k : Nat) (hkk : k < nC) (z : Nat) (hz : z < 31) (co : Int32) (ow : Nat → Nat) (hO : ∀ j, j < nS → σ.1.2 16 (7 * j + 3) = nI (ow j) ∧ ow j < 31) (X : gx_Y RX1 cX1_pays 11 (some .int) G A wk wv p s m args meth c)  (K : ∀ g : Nat → Int64, (∀ j, j < 31 → g j = xWt σ.1 ow k nS j) → (∀ (H : Heap) (locs : List Loc) (ls : Array Slot), xx_H G A s.heap H locs ad wk (xs_w σ g) → lv_has ls 11 [(0, .ref (ad 0)), (2, .int (nI z)), (3, .int co), (4, .ref (ad (40 + k))), (5, .long 0)] → W p l e (xx_rm 9 8 100) s m args below meth c H locs 0 0 Q (F0 m 145 ls []))) : ∀ (n : Nat) (i : Nat) (g : Nat → Int64), nS < i + n → i ≤ nS → (∀ j, j < 31 → g j = xWt σ.1 ow k i j) → ∀ (H : Heap) (locs : List Loc) (ls : Array Slot), xx_H G A s.heap H locs ad wk (xs_w σ g) → lv_has ls 11 [(0, .ref (ad 0)), (2, .int (nI z)), (3, .int co), (4, .ref (ad (40 + k))), (5, .long 0), (7, .int (nI i))] → W p l e (xx_rm 9 8 100) s m args below meth c H locs 0 0 Q (F0 m 63 ls []) := by
  obtain ⟨hx, hb, hml, hT, hr, hlocks, hxc, hA⟩ := id X
  intro n
  induction n with
  | zero =>
    intro i g h0 hi hg
    exact absurd h0 (by omega)
  | succ n ih =>
    intro i g h0 hi hg H locs ls hH hl
    have h8 := hk.1.2
    have h60 := hk.2.1.2
    replace hk : xk (xs_w σ g) nC nS nW := hk
    refine lv_iload hx hb dX1_pays_63 (lv_at hl 5 rfl) ?_
    refine lv_aload_n hx hb dX1_pays_65 rfl (lv_at hl 0 rfl) ?_
    refine gw_get (C := RX1) (T := TX1) (N := 21) (ci := 1) (fs := xx_fs1 ad (xs_w σ g).1.1) (v := .int ((xs_w σ g).1.1 17)) hx hb hT hH.1 0 xx_0 rfl in_X1 14 (by decide) rfl q190 rfl dX1_pays_66 ?_
    refine lv_as hk.2.1.1 ?_
    refine lv_icmp_ge (tgt := 145) hx hb dX1_pays_69 (by decide) (fun c_69 => ?_) (fun c_69 => ?_)
    · skip
      have c_69 : nS ≤ i := (nI_leI (a := nS) (b := i) (by omega) (by omega)).mp c_69
      obtain rfl : nS = i := by omega
      exact K g hg _ _ _ hH (lv_sub hl [0, 1, 2, 3, 4] rfl)
    · skip
      have c_69 : ¬ (nS ≤ i) := fun h => c_69 ((nI_leI (a := nS) (b := i) (by omega) (by omega)).mpr h)
      obtain ⟨q, hqc, hq⟩ := hk.2.2.2 i (by omega)
      replace hq : σ.1.2 16 (7 * i) = nI q := hq
      have hOi := hO i (by omega)
      refine lv_aload_n hx hb dX1_pays_72 rfl (lv_at hl 0 rfl) ?_
      refine gw_get (C := RX1) (T := TX1) (N := 21) (ci := 1) (fs := xx_fs1 ad (xs_w σ g).1.1) (v := .ref (ad 5)) hx hb hT hH.1 0 xx_0 rfl in_X1 2 (by decide) rfl q178 rfl dX1_pays_73 ?_
      refine lv_iload hx hb dX1_pays_76 (lv_at hl 5 rfl) ?_
      refine gw_aald (b := ad (220 + i)) hx hb hT hH.1 5 6 xx_5 rfl i rfl (show i < 60 by omega) (by decide) (xx_shr hk (show i < nS by omega)) dX1_pays_78 ?_
      refine lv_astore (lv' := [(8, .ref (ad (220 + i))), (0, .ref (ad 0)), (2, .int (nI z)), (3, .int co), (4, .ref (ad (40 + k))), (5, .long 0), (7, .int (nI i))]) hx hb dX1_pays_79 hl (by decide) rfl (fun ls hl => ?_)
      refine lv_aload hx hb dX1_pays_81 (lv_at hl 0 rfl) ?_
      refine gw_getN (C := RX7) (T := TX7) (N := 8) (ci := 6) (fs := xx_fs7 ad (xs_w σ g).1 i) (v := .ref (ad (40 + q))) hx hb hT hH.1 (220 + i) (xx_share hk (k := i) (by omega)) rfl in_X7 0 (by decide) rfl (List.mem_of_getElem? (i := 11) rfl) (xx_sch hk hq hqc) dX1_pays_83 ?_
      refine lv_aload hx hb dX1_pays_86 (lv_at hl 4 rfl) ?_
      refine xx_acmp_ne (tgt := 139) (i := q) (j := k) hx hb hH.2.1 hk (show q < nC by omega) (show k < nC by omega) dX1_pays_88 (by decide) (fun c_88 => ?_) (fun c_88 => ?_)
      · skip
        refine lv_iinc (v := nI (i + 1)) (lv' := [(7, .int (nI (i + 1))), (8, .ref (ad (220 + i))), (0, .ref (ad 0)), (2, .int (nI z)), (3, .int co), (4, .ref (ad (40 + k))), (5, .long 0)]) hx hb dX1_pays_139 hl (k := 6) rfl (nI_add i 1) (by decide) rfl (fun ls hl => ?_)
        refine lv_goto (tgt := 63) hx hb dX1_pays_142 (by decide) ?_
        have hne : ¬ σ.1.2 16 (7 * i) = nI k := fun h => c_88 ((nI_eq (by omega) (by omega)).mp (hq.symm.trans h))
        exact ih (i + 1) g (by omega) (by omega) (fun j hj => by rw [xWt, if_neg hne]; exact hg j hj) _ _ _ hH (lv_sub hl [2, 3, 4, 5, 6, 0] rfl)
      · skip
        refine lv_aload_n hx hb dX1_pays_91 rfl (lv_at hl 1 rfl) ?_
        refine gw_get (C := RX1) (T := TX1) (N := 21) (ci := 1) (fs := xx_fs1 ad (xs_w σ g).1.1) (v := .ref (ad 6)) hx hb hT hH.1 0 xx_0 rfl in_X1 11 (by decide) rfl q187 rfl dX1_pays_92 ?_
        refine lv_aload hx hb dX1_pays_95 (lv_at hl 0 rfl) ?_
        refine gw_getN (C := RX7) (T := TX7) (N := 8) (ci := 6) (fs := xx_fs7 ad (xs_w σ g).1 i) (v := .int (nI (ow i))) hx hb hT hH.1 (220 + i) (xx_share hk (k := i) (by omega)) rfl in_X7 4 (by decide) rfl (List.mem_of_getElem? (i := 15) rfl) (congrArg some (congrArg Value.int hOi.1)) dX1_pays_97 ?_
        refine lv_aload_n hx hb dX1_pays_100 rfl (lv_at hl 1 rfl) ?_
        refine gw_get (C := RX1) (T := TX1) (N := 21) (ci := 1) (fs := xx_fs1 ad (xs_w σ g).1.1) (v := .ref (ad 21)) hx hb hT hH.1 0 xx_0 rfl in_X1 3 (by decide) rfl q179 rfl dX1_pays_101 ?_
        refine lv_iconst (v := 2) hx hb dX1_pays_104 (by decide) ?_
        refine xx_ild (v := σ.1.2 21 2) hx hb hT hH.1 21 (by decide) (by decide) rfl 2 rfl (show 2 < 4 by omega) rfl dX1_pays_105 ?_
        refine lv_iconst (v := 1) hx hb dX1_pays_106 (by decide) ?_
        refine lv_icmp_ne (tgt := 114) hx hb dX1_pays_107 (by decide) (fun c_107 => ?_) (fun c_107 => ?_)
        · skip
          refine lv_aload_n hx hb dX1_pays_114 rfl (lv_at hl 1 rfl) ?_
          refine gw_get (C := RX1) (T := TX1) (N := 21) (ci := 1) (fs := xx_fs1 ad (xs_w σ g).1.1) (v := .ref (ad 6)) hx hb hT hH.1 0 xx_0 rfl in_X1 11 (by decide) rfl q187 rfl dX1_pays_115 ?_
          refine lv_aload hx hb dX1_pays_118 (lv_at hl 0 rfl) ?_
          refine gw_getN (C := RX7) (T := TX7) (N := 8) (ci := 6) (fs := xx_fs7 ad (xs_w σ g).1 i) (v := .int (nI (ow i))) hx hb hT hH.1 (220 + i) (xx_share hk (k := i) (by omega)) rfl in_X7 4 (by decide) rfl (List.mem_of_getElem? (i := 15) rfl) (congrArg some (congrArg Value.int hOi.1)) dX1_pays_120 ?_
          refine xx_lld (v := g (ow i)) hx hb hT hH.1 (ow i) rfl (show ow i < 31 by omega) (congrFun (xs_w_0 σ g) _) dX1_pays_123 ?_
          refine lv_aload hx hb dX1_pays_124 (lv_at hl 0 rfl) ?_
          refine gw_getN (C := RX7) (T := TX7) (N := 8) (ci := 6) (fs := xx_fs7 ad (xs_w σ g).1 i) (v := .int (σ.1.2 16 (7 * i + 2))) hx hb hT hH.1 (220 + i) (xx_share hk (k := i) (by omega)) rfl in_X7 3 (by decide) rfl (List.mem_of_getElem? (i := 14) rfl) rfl dX1_pays_126 ?_
          refine lv_i2l (v := (σ.1.2 16 (7 * i + 2)).toInt64) hx hb dX1_pays_129 rfl ?_
          refine lv_ladd hx hb dX1_pays_130 ?_
          refine lv_aload hx hb dX1_pays_131 (lv_at hl 0 rfl) ?_
          refine gw_getN (C := RX7) (T := TX7) (N := 8) (ci := 6) (fs := xx_fs7 ad (xs_w σ g).1 i) (v := .int (σ.1.2 16 (7 * i + 1))) hx hb hT hH.1 (220 + i) (xx_share hk (k := i) (by omega)) rfl in_X7 2 (by decide) rfl (List.mem_of_getElem? (i := 13) rfl) rfl dX1_pays_133 ?_
          refine lv_i2l (v := (σ.1.2 16 (7 * i + 1)).toInt64) hx hb dX1_pays_136 rfl ?_
          refine lv_lsub hx hb dX1_pays_137 ?_
          refine xx_lst hx hb hT hH (ow i) rfl (show ow i < 31 by omega) dX1_pays_138 (fun H locs hH => ?_)
          have hk := hk.lg (k := 0) (n := ow i) (((g (ow i)) + ((σ.1.2 16 (7 * i + 2)).toInt64)) - ((σ.1.2 16 (7 * i + 1)).toInt64))
          refine lv_iinc (v := nI (i + 1)) (lv' := [(7, .int (nI (i + 1))), (8, .ref (ad (220 + i))), (0, .ref (ad 0)), (2, .int (nI z)), (3, .int co), (4, .ref (ad (40 + k))), (5, .long 0)]) hx hb dX1_pays_139 hl (k := 6) rfl (nI_add i 1) (by decide) rfl (fun ls hl => ?_)
          refine lv_goto (tgt := 63) hx hb dX1_pays_142 (by decide) ?_
          rw [xs_w_lg] at hH
          have heq : σ.1.2 16 (7 * i) = nI k := hq.trans (congrArg nI c_88)
          refine ih (i + 1) (vp_updL g (ow i) (((g (ow i)) + ((σ.1.2 16 (7 * i + 2)).toInt64)) - ((σ.1.2 16 (7 * i + 1)).toInt64))) (by omega) (by omega) (fun j hj => ?_) _ _ _ hH (lv_sub hl [2, 3, 4, 5, 6, 0] rfl)
          rw [xWt, if_pos heq, if_neg c_107]
          by_cases e : j = ow i
          · subst e
            rw [upL_s, upL_s, hg _ hOi.2]
          · rw [upL_n e, upL_n e]; exact hg j hj
        · skip
          refine lv_lconst (v := 1) hx hb dX1_pays_110 (by decide) ?_
          refine lv_goto (tgt := 138) hx hb dX1_pays_111 (by decide) ?_
          refine xx_lst hx hb hT hH (ow i) rfl (show ow i < 31 by omega) dX1_pays_138 (fun H locs hH => ?_)
          have hk := hk.lg (k := 0) (n := ow i) 1
          refine lv_iinc (v := nI (i + 1)) (lv' := [(7, .int (nI (i + 1))), (8, .ref (ad (220 + i))), (0, .ref (ad 0)), (2, .int (nI z)), (3, .int co), (4, .ref (ad (40 + k))), (5, .long 0)]) hx hb dX1_pays_139 hl (k := 6) rfl (nI_add i 1) (by decide) rfl (fun ls hl => ?_)
          refine lv_goto (tgt := 63) hx hb dX1_pays_142 (by decide) ?_
          rw [xs_w_lg] at hH
          have heq : σ.1.2 16 (7 * i) = nI k := hq.trans (congrArg nI c_88)
          refine ih (i + 1) (vp_updL g (ow i) 1) (by omega) (by omega) (fun j hj => ?_) _ _ _ hH (lv_sub hl [2, 3, 4, 5, 6, 0] rfl)
          rw [xWt, if_pos heq, if_pos c_107]
          by_cases e : j = ow i
          · subst e
            rw [upL_s, upL_s]
          · rw [upL_n e, upL_n e]; exact hg j hj

set_option maxHeartbeats 1000000 in
set_option maxRecDepth 100000 in
theorem lp_X1_pays3 {p : Program} {l : Launch} {e : Env} {s : State} {m : MethodId} {args : Array Value} {below : List Frame} {meth : Method} {c : Code} {Q : State → Prop} {G : gw_G} {A : Nat → Prop} {ad wk wv : Nat → Nat} (σ : xS) {nC nS : Nat} {nW : Nat → Nat} (hk : xk σ nC nS nW) (k : Nat) (hkk : k < nC) (z : Nat) (hz : z < 31) (co : Int32) (g : Nat → Int64) (X : gx_Y RX1 cX1_pays 11 (some .int) G A wk wv p s m args meth c)  (K : (∀ (H : Heap) (locs : List Loc) (ls : Array Slot), xx_H G A s.heap H locs ad wk (xs_w σ g) → lv_has ls 11 [(0, .ref (ad 0)), (2, .int (nI z)), (3, .int co), (5, .long (xSum g 31))] → W p l e (xx_rm 9 8 100) s m args below meth c H locs 0 0 Q (F0 m 173 ls []))) : ∀ (n : Nat) (i : Nat), 31 < i + n → i ≤ 31 → ∀ (H : Heap) (locs : List Loc) (ls : Array Slot), xx_H G A s.heap H locs ad wk (xs_w σ g) → lv_has ls 11 [(0, .ref (ad 0)), (2, .int (nI z)), (3, .int co), (5, .long (xSum g i)), (7, .int (nI i))] → W p l e (xx_rm 9 8 100) s m args below meth c H locs 0 0 Q (F0 m 148 ls []) := by
  obtain ⟨hx, hb, hml, hT, hr, hlocks, hxc, hA⟩ := id X
  intro n
  induction n with
  | zero =>
    intro i h0 hi
    exact absurd h0 (by omega)
  | succ n ih =>
    intro i h0 hi H locs ls hH hl
    have h8 := hk.1.2
    have h60 := hk.2.1.2
    replace hk : xk (xs_w σ g) nC nS nW := hk
    refine lv_iload hx hb dX1_pays_148 (lv_at hl 4 rfl) ?_
    refine lv_bipush (v := 31) hx hb dX1_pays_150 (by decide) ?_
    refine lv_icmp_ge (tgt := 173) hx hb dX1_pays_152 (by decide) (fun c_152 => ?_) (fun c_152 => ?_)
    · skip
      have c_152 : 31 ≤ i := (nI_leI (a := 31) (b := i) (by omega) (by omega)).mp c_152
      obtain rfl : i = 31 := by omega
      exact K _ _ _ hH (lv_sub hl [0, 1, 2, 3] rfl)
    · skip
      have c_152 : ¬ (31 ≤ i) := fun h => c_152 ((nI_leI (a := 31) (b := i) (by omega) (by omega)).mpr h)
      refine lv_lload hx hb dX1_pays_155 (lv_at hl 3 rfl) ?_
      refine lv_aload_n hx hb dX1_pays_157 rfl (lv_at hl 0 rfl) ?_
      refine gw_get (C := RX1) (T := TX1) (N := 21) (ci := 1) (fs := xx_fs1 ad (xs_w σ g).1.1) (v := .ref (ad 6)) hx hb hT hH.1 0 xx_0 rfl in_X1 11 (by decide) rfl q187 rfl dX1_pays_158 ?_
      refine lv_iload hx hb dX1_pays_161 (lv_at hl 4 rfl) ?_
      refine xx_lld (v := g i) hx hb hT hH.1 i rfl (show i < 31 by omega) (congrFun (xs_w_0 σ g) _) dX1_pays_163 ?_
      refine lv_ladd hx hb dX1_pays_164 ?_
      refine lv_asl (z := xSum g (i + 1)) rfl ?_
      refine lv_lstore (lv' := [(5, .long (xSum g (i + 1))), (0, .ref (ad 0)), (2, .int (nI z)), (3, .int co), (7, .int (nI i))]) hx hb dX1_pays_165 hl (by decide) rfl (fun ls hl => ?_)
      refine lv_iinc (v := nI (i + 1)) (lv' := [(7, .int (nI (i + 1))), (5, .long (xSum g (i + 1))), (0, .ref (ad 0)), (2, .int (nI z)), (3, .int co)]) hx hb dX1_pays_167 hl (k := 4) rfl (nI_add i 1) (by decide) rfl (fun ls hl => ?_)
      refine lv_goto (tgt := 148) hx hb dX1_pays_170 (by decide) ?_
      exact ih (i + 1) (by omega) (by omega) _ _ _ hH (lv_sub hl [2, 3, 4, 1, 0] rfl)

set_option maxHeartbeats 1000000 in
set_option maxRecDepth 100000 in
theorem lp_X1_pays4 {p : Program} {l : Launch} {e : Env} {s : State} {m : MethodId} {args : Array Value} {below : List Frame} {meth : Method} {c : Code} {Q : State → Prop} {G : gw_G} {A : Nat → Prop} {ad wk wv : Nat → Nat} (σ : xS) {nC nS : Nat} {nW : Nat → Nat} (hk : xk σ nC nS nW) (k : Nat) (hkk : k < nC) (z : Nat) (hz : z < 31) (co : Int32) (g : Nat → Int64) (S : Int64) (hS0 : ¬ S = 0) (r : Int32) (X : gx_Y RX1 cX1_pays 11 (some .int) G A wk wv p s m args meth c)  (K : (∀ (H : Heap) (locs : List Loc) (ls : Array Slot), xx_H G A s.heap H locs ad wk (xs_w σ g) → lv_has ls 11 [(0, .ref (ad 0)), (2, .int (nI z)), (5, .long S), (7, .int r), (8, .int (xLf g S r 31)), (9, .int (nI (xAh g z 31)))] → W p l e (xx_rm 9 8 100) s m args below meth c H locs 0 0 Q (F0 m 259 ls []))) : ∀ (n : Nat) (i : Nat), 31 < i + n → i ≤ 31 → ∀ (H : Heap) (locs : List Loc) (ls : Array Slot), xx_H G A s.heap H locs ad wk (xs_w σ g) → lv_has ls 11 [(0, .ref (ad 0)), (2, .int (nI z)), (5, .long S), (7, .int r), (8, .int (xLf g S r i)), (9, .int (nI (xAh g z i))), (10, .int (nI i))] → W p l e (xx_rm 9 8 100) s m args below meth c H locs 0 0 Q (F0 m 198 ls []) := by
  obtain ⟨hx, hb, hml, hT, hr, hlocks, hxc, hA⟩ := id X
  intro n
  induction n with
  | zero =>
    intro i h0 hi
    exact absurd h0 (by omega)
  | succ n ih =>
    intro i h0 hi H locs ls hH hl
    have h8 := hk.1.2
    have h60 := hk.2.1.2
    replace hk : xk (xs_w σ g) nC nS nW := hk
    have hle := xAh_le g z i
    refine lv_iload hx hb dX1_pays_198 (lv_at hl 6 rfl) ?_
    refine lv_bipush (v := 31) hx hb dX1_pays_200 (by decide) ?_
    refine lv_icmp_ge (tgt := 259) hx hb dX1_pays_202 (by decide) (fun c_202 => ?_) (fun c_202 => ?_)
    · skip
      have c_202 : 31 ≤ i := (nI_leI (a := 31) (b := i) (by omega) (by omega)).mp c_202
      obtain rfl : i = 31 := by omega
      exact K _ _ _ hH (lv_sub hl [0, 1, 2, 3, 4, 5] rfl)
    · skip
      have c_202 : ¬ (31 ≤ i) := fun h => c_202 ((nI_leI (a := 31) (b := i) (by omega) (by omega)).mpr h)
      refine lv_iload hx hb dX1_pays_205 (lv_at hl 4 rfl) ?_
      refine lv_iload hx hb dX1_pays_207 (lv_at hl 3 rfl) ?_
      refine lv_i2l (v := r.toInt64) hx hb dX1_pays_209 rfl ?_
      refine lv_aload_n hx hb dX1_pays_210 rfl (lv_at hl 0 rfl) ?_
      refine gw_get (C := RX1) (T := TX1) (N := 21) (ci := 1) (fs := xx_fs1 ad (xs_w σ g).1.1) (v := .ref (ad 6)) hx hb hT hH.1 0 xx_0 rfl in_X1 11 (by decide) rfl q187 rfl dX1_pays_211 ?_
      refine lv_iload hx hb dX1_pays_214 (lv_at hl 6 rfl) ?_
      refine xx_lld (v := g i) hx hb hT hH.1 i rfl (show i < 31 by omega) (congrFun (xs_w_0 σ g) _) dX1_pays_216 ?_
      refine lv_lmul hx hb dX1_pays_217 ?_
      refine lv_lload hx hb dX1_pays_218 (lv_at hl 2 rfl) ?_
      refine lv_ldiv hx hb dX1_pays_220 hS0 ?_
      refine lv_l2i (v := ((r.toInt64 * (g i)) / S).toInt32) hx hb dX1_pays_221 rfl ?_
      refine lv_isub hx hb dX1_pays_222 ?_
      refine lv_as (z := xLf g S r (i + 1)) rfl ?_
      refine lv_istore (lv' := [(8, .int (xLf g S r (i + 1))), (0, .ref (ad 0)), (2, .int (nI z)), (5, .long S), (7, .int r), (9, .int (nI (xAh g z i))), (10, .int (nI i))]) hx hb dX1_pays_223 hl (by decide) rfl (fun ls hl => ?_)
      refine lv_iload hx hb dX1_pays_225 (lv_at hl 5 rfl) ?_
      refine lv_iload hx hb dX1_pays_227 (lv_at hl 6 rfl) ?_
      refine lv_iload_n hx hb dX1_pays_229 rfl (lv_at hl 2 rfl) ?_
      refine lv_icmp_ge (tgt := 249) hx hb dX1_pays_230 (by decide) (fun c_230 => ?_) (fun c_230 => ?_)
      · skip
        have c_230 : z ≤ i := (nI_leI (a := z) (b := i) (by omega) (by omega)).mp c_230
        refine lv_iconst (v := 0) hx hb dX1_pays_249 (by decide) ?_
        refine lv_iadd hx hb dX1_pays_250 ?_
        refine lv_as (nI_add (xAh g z i) 0) ?_
        refine lv_istore (lv' := [(9, .int (nI ((xAh g z i) + 0))), (8, .int (xLf g S r (i + 1))), (0, .ref (ad 0)), (2, .int (nI z)), (5, .long S), (7, .int r), (10, .int (nI i))]) hx hb dX1_pays_251 hl (by decide) rfl (fun ls hl => ?_)
        refine lv_iinc (v := nI (i + 1)) (lv' := [(10, .int (nI (i + 1))), (9, .int (nI ((xAh g z i) + 0))), (8, .int (xLf g S r (i + 1))), (0, .ref (ad 0)), (2, .int (nI z)), (5, .long S), (7, .int r)]) hx hb dX1_pays_253 hl (k := 6) rfl (nI_add i 1) (by decide) rfl (fun ls hl => ?_)
        refine lv_goto (tgt := 198) hx hb dX1_pays_256 (by decide) ?_
        have e9 : xAh g z (i + 1) = (xAh g z i) + 0 := by rw [xAh, if_neg (fun h => by omega)]
        have hl := lv_sub (l' := [(0, .ref (ad 0)), (2, .int (nI z)), (5, .long S), (7, .int r), (8, .int (xLf g S r (i + 1))), (9, .int (nI ((xAh g z i) + 0))), (10, .int (nI (i + 1)))]) hl [3, 4, 5, 6, 2, 1, 0] rfl
        rw [← e9] at hl
        exact ih (i + 1) (by omega) (by omega) _ _ _ hH hl
      · skip
        have c_230 : ¬ (z ≤ i) := fun h => c_230 ((nI_leI (a := z) (b := i) (by omega) (by omega)).mpr h)
        refine lv_aload_n hx hb dX1_pays_233 rfl (lv_at hl 1 rfl) ?_
        refine gw_get (C := RX1) (T := TX1) (N := 21) (ci := 1) (fs := xx_fs1 ad (xs_w σ g).1.1) (v := .ref (ad 6)) hx hb hT hH.1 0 xx_0 rfl in_X1 11 (by decide) rfl q187 rfl dX1_pays_234 ?_
        refine lv_iload hx hb dX1_pays_237 (lv_at hl 6 rfl) ?_
        refine xx_lld (v := g i) hx hb hT hH.1 i rfl (show i < 31 by omega) (congrFun (xs_w_0 σ g) _) dX1_pays_239 ?_
        refine lv_lconst (v := 0) hx hb dX1_pays_240 (by decide) ?_
        refine W.lcmp hx hb dX1_pays_241 ?_
        refine lv_if_le (tgt := 249) hx hb dX1_pays_242 (by decide) (fun c_242 => ?_) (fun c_242 => ?_)
        · skip
          refine lv_iconst (v := 0) hx hb dX1_pays_249 (by decide) ?_
          refine lv_iadd hx hb dX1_pays_250 ?_
          refine lv_as (nI_add (xAh g z i) 0) ?_
          refine lv_istore (lv' := [(9, .int (nI ((xAh g z i) + 0))), (8, .int (xLf g S r (i + 1))), (0, .ref (ad 0)), (2, .int (nI z)), (5, .long S), (7, .int r), (10, .int (nI i))]) hx hb dX1_pays_251 hl (by decide) rfl (fun ls hl => ?_)
          refine lv_iinc (v := nI (i + 1)) (lv' := [(10, .int (nI (i + 1))), (9, .int (nI ((xAh g z i) + 0))), (8, .int (xLf g S r (i + 1))), (0, .ref (ad 0)), (2, .int (nI z)), (5, .long S), (7, .int r)]) hx hb dX1_pays_253 hl (k := 6) rfl (nI_add i 1) (by decide) rfl (fun ls hl => ?_)
          refine lv_goto (tgt := 198) hx hb dX1_pays_256 (by decide) ?_
          have e9 : xAh g z (i + 1) = (xAh g z i) + 0 := by rw [xAh, if_neg (fun h => absurd h.2 (Int64.not_lt.mpr ((lg_cmp_le _ _).mp c_242)))]
          have hl := lv_sub (l' := [(0, .ref (ad 0)), (2, .int (nI z)), (5, .long S), (7, .int r), (8, .int (xLf g S r (i + 1))), (9, .int (nI ((xAh g z i) + 0))), (10, .int (nI (i + 1)))]) hl [3, 4, 5, 6, 2, 1, 0] rfl
          rw [← e9] at hl
          exact ih (i + 1) (by omega) (by omega) _ _ _ hH hl
        · skip
          refine lv_iconst (v := 1) hx hb dX1_pays_245 (by decide) ?_
          refine lv_goto (tgt := 250) hx hb dX1_pays_246 (by decide) ?_
          refine lv_iadd hx hb dX1_pays_250 ?_
          refine lv_as (nI_add (xAh g z i) 1) ?_
          refine lv_istore (lv' := [(9, .int (nI ((xAh g z i) + 1))), (8, .int (xLf g S r (i + 1))), (0, .ref (ad 0)), (2, .int (nI z)), (5, .long S), (7, .int r), (10, .int (nI i))]) hx hb dX1_pays_251 hl (by decide) rfl (fun ls hl => ?_)
          refine lv_iinc (v := nI (i + 1)) (lv' := [(10, .int (nI (i + 1))), (9, .int (nI ((xAh g z i) + 1))), (8, .int (xLf g S r (i + 1))), (0, .ref (ad 0)), (2, .int (nI z)), (5, .long S), (7, .int r)]) hx hb dX1_pays_253 hl (k := 6) rfl (nI_add i 1) (by decide) rfl (fun ls hl => ?_)
          refine lv_goto (tgt := 198) hx hb dX1_pays_256 (by decide) ?_
          have e9 : xAh g z (i + 1) = (xAh g z i) + 1 := by rw [xAh, if_pos ⟨by omega, (lg_cmp_gt _ _).mp (in_lt c_242)⟩]
          have hl := lv_sub (l' := [(0, .ref (ad 0)), (2, .int (nI z)), (5, .long S), (7, .int r), (8, .int (xLf g S r (i + 1))), (9, .int (nI ((xAh g z i) + 1))), (10, .int (nI (i + 1)))]) hl [3, 4, 5, 6, 2, 1, 0] rfl
          rw [← e9] at hl
          exact ih (i + 1) (by omega) (by omega) _ _ _ hH hl

set_option maxHeartbeats 1000000 in
set_option maxRecDepth 100000 in
theorem c_X1_pays (l : Launch) (hfl : l.flags = pinnedFlags ++ [noTraceFlag]) (σ : xS) {nC nS : Nat} {nW : Nat → Nat} (hk : xk σ nC nS nW) (v o co : Int32) (ow : Nat → Nat) (hO : ∀ j, j < nS → σ.1.2 16 (7 * j + 3) = nI (ow j) ∧ ow j < 31) (hw : ∀ k, k < nC → ¬ σ.1.2 8 k = -1 → ¬ xSum (xWt σ.1 ow k nS) 31 = 0) : xx_C l yX1_pays (Cond.code yX1_pays cX1_pays 11 (some .int)) 9 8 100 (fun ad => [.ref (ad 0), .int v, .int o, .int co]) σ (fun r u => ∃ k, k < nC ∧ nI k = v ∧ ¬ σ.1.2 8 k = -1 ∧ ((0 ≤ o ∧ o ≤ 30) ∧ (0 ≤ co ∧ co ≤ 1000000)) ∧ ∃ z, z < 31 ∧ nI z = o ∧ (∃ g, xs_w σ g = u) ∧ some (.int (xPay (xWt σ.1 ow k nS) (σ.1.2 21 3) co z)) = r) (fun q u => σ = u ∧ ((q = 1 ∧ (¬ ∃ k, k < nC ∧ nI k = v)) ∨ ∃ k, k < nC ∧ nI k = v ∧ ((q = 2 ∧ σ.1.2 8 k = -1) ∨ (¬ σ.1.2 8 k = -1 ∧ q = 3 ∧ ¬ ((0 ≤ o ∧ o ≤ 30) ∧ (0 ≤ co ∧ co ≤ 1000000)))))) := by
  refine xx_of (by decide) (fun ad => Nat.le_of_ble_eq_true rfl) ?_
  intro p e s m args below meth c G A ad wk wv ls X hE hH hl
  obtain ⟨hx, hb, hml, hT, hr, hlocks, hxc, hA⟩ := id X
  have hl : lv_has ls 11 [(0, .ref (ad 0)), (1, .int v), (2, .int o), (3, .int co)] := hl
  have h8 := hk.1.2
  have h60 := hk.2.1.2
  refine lv_aload_n hx hb dX1_pays_0 rfl (lv_at hl 0 rfl) ?_
  refine lv_iload_n hx hb dX1_pays_1 rfl (lv_at hl 1 rfl) ?_
  by_cases h_2 : ∃ k, k < nC ∧ nI k = v
  · skip
    obtain ⟨k, hkk, rfl⟩ := h_2
    by_cases hdg : σ.1.2 8 k = -1
    · skip
      exact xt_call (k := 2) (yy_V (n := 1) 0 (c_X1_dugAt2 l hfl σ hk k hkk hdg G A ad wk wv) hx hb hml hT hxc hA hH xx_0 rfl q585 (ex_code_of hT.2.1 q585) q584 qs7 q33 q582 (by decide +kernel) ⟨Nat.le_of_ble_eq_true rfl, Nat.le_of_ble_eq_true rfl⟩ rfl hl.1 rfl (Nat.le_of_ble_eq_true rfl) dX1_pays_2 ⟨Nat.le_of_ble_eq_true rfl, Nat.le_of_ble_eq_true rfl⟩) hlocks hE (xx_tq hT hH (fun _ _ _ => rfl) (by decide) (⟨rfl, Or.inr ⟨k, hkk, rfl, Or.inl ⟨rfl, hdg⟩⟩⟩)) hH.2.2.2.2 (Nat.le_of_ble_eq_true rfl) (Nat.le_of_ble_eq_true rfl)
    · skip
      refine xr_Vr (n := 1) 0 ((c_X1_dugAt1 l σ hk k hkk hdg) G ad wk) hx hb hml hT hH.1 hH.2.1 xx_0 rfl (lw_V q582 q584 qs7 q33 q585) (by decide +kernel) ⟨Nat.le_of_ble_eq_true rfl, Nat.le_of_ble_eq_true rfl⟩ rfl hl.1 rfl (Nat.le_of_ble_eq_true rfl) dX1_pays_2 ⟨Nat.le_of_ble_eq_true rfl, Nat.le_of_ble_eq_true rfl⟩ ?_
      refine lv_astore (lv' := [(4, .ref (ad (40 + k))), (0, .ref (ad 0)), (1, .int (nI k)), (2, .int o), (3, .int co)]) hx hb dX1_pays_5 hl (by decide) rfl (fun ls hl => ?_)
      refine lv_iload_n hx hb dX1_pays_7 rfl (lv_at hl 3 rfl) ?_
      refine ss_ci (n := 1) (c_X1_isOwner l o) hx hb hml hT.1 hT.2.1 (lw_S q516 q517 q33 q518) (by decide +kernel) ⟨Nat.le_of_ble_eq_true rfl, Nat.le_of_ble_eq_true rfl⟩ rfl hl.1 rfl (Nat.le_of_ble_eq_true rfl) dX1_pays_8 ⟨Nat.le_of_ble_eq_true rfl, Nat.le_of_ble_eq_true rfl⟩ (fun r_8 hp_8 => ?_)
      rcases hp_8 with ⟨rfl, h_8⟩ | ⟨rfl, h_8⟩
      · skip
        refine lv_if_eq (tgt := 29) hx hb dX1_pays_11 (by decide) (fun c_11 => ?_) (fun c_11 => ?_)
        · skip
          exact absurd c_11 (by decide)
        · skip
          refine lv_iload_n hx hb dX1_pays_14 rfl (lv_at hl 4 rfl) ?_
          refine lv_iconst (v := 0) hx hb dX1_pays_15 (by decide) ?_
          refine lv_ldcw (v := 1000000) hx hb hT.1 (hT.2.1 _ q767) dX1_pays_16 ?_
          refine ss_ci (n := 3) (c_X1_isIn l co 0 1000000) hx hb hml hT.1 hT.2.1 (lw_S q254 q255 q33 q256) (by decide +kernel) ⟨Nat.le_of_ble_eq_true rfl, Nat.le_of_ble_eq_true rfl⟩ rfl hl.1 rfl (Nat.le_of_ble_eq_true rfl) dX1_pays_19 ⟨Nat.le_of_ble_eq_true rfl, Nat.le_of_ble_eq_true rfl⟩ (fun r_19 hp_19 => ?_)
          rcases hp_19 with ⟨rfl, h_19⟩ | ⟨rfl, h_19⟩
          · skip
            refine lv_if_eq (tgt := 29) hx hb dX1_pays_22 (by decide) (fun c_22 => ?_) (fun c_22 => ?_)
            · skip
              exact absurd c_22 (by decide)
            · skip
              refine lv_iconst (v := 1) hx hb dX1_pays_25 (by decide) ?_
              refine lv_goto (tgt := 30) hx hb dX1_pays_26 (by decide) ?_
              refine tk_cSv (n := 1) (c_X1_must1 l) hx hb hml hT.1 hT.2.1 (fun a U g mk h => h) (fun U hU hW => trivial) (lw_S q318 q319 q33 q320) (by decide +kernel) ⟨Nat.le_of_ble_eq_true rfl, Nat.le_of_ble_eq_true rfl⟩ rfl hl.1 rfl (Nat.le_of_ble_eq_true rfl) dX1_pays_30 ⟨Nat.le_of_ble_eq_true rfl, Nat.le_of_ble_eq_true rfl⟩ ?_
              obtain ⟨z, hz, rfl⟩ := (in_rg (n := 31) (by decide) o).mp h_8
              refine lv_lconst (v := 0) hx hb dX1_pays_33 (by decide) ?_
              refine lv_lstore (lv' := [(5, .long 0), (4, .ref (ad (40 + k))), (0, .ref (ad 0)), (1, .int (nI k)), (2, .int (nI z)), (3, .int co)]) hx hb dX1_pays_34 hl (by decide) rfl (fun ls hl => ?_)
              refine lv_iconst (v := 0) hx hb dX1_pays_36 (by decide) ?_
              refine lv_istore (lv' := [(7, .int 0), (5, .long 0), (4, .ref (ad (40 + k))), (0, .ref (ad 0)), (1, .int (nI k)), (2, .int (nI z)), (3, .int co)]) hx hb dX1_pays_37 hl (by decide) rfl (fun ls hl => ?_)
              rw [← xs_w_id σ] at hH
              refine lp_X1_pays1 σ hk k hkk z hz co X ?_ 32 0 (σ.2 0) (by omega) (Nat.zero_le _) (fun j hj => absurd hj (Nat.not_lt_zero j)) _ _ _ hH (lv_sub hl [3, 5, 6, 2, 1, 0] rfl)
              intro g0 hg0 H locs ls hH hl
              refine lv_iconst (v := 0) hx hb dX1_pays_60 (by decide) ?_
              refine lv_istore (lv' := [(7, .int 0), (0, .ref (ad 0)), (2, .int (nI z)), (3, .int co), (4, .ref (ad (40 + k))), (5, .long 0)]) hx hb dX1_pays_61 hl (by decide) rfl (fun ls hl => ?_)
              refine lp_X1_pays2 σ hk k hkk z hz co ow hO X ?_ (nS + 1) 0 g0 (by omega) (Nat.zero_le _) (fun j hj => hg0 j hj) _ _ _ hH (lv_sub hl [1, 2, 3, 4, 5, 0] rfl)
              intro g hg H locs ls hH hl
              refine lv_iconst (v := 0) hx hb dX1_pays_145 (by decide) ?_
              refine lv_istore (lv' := [(7, .int 0), (0, .ref (ad 0)), (2, .int (nI z)), (3, .int co), (4, .ref (ad (40 + k))), (5, .long 0)]) hx hb dX1_pays_146 hl (by decide) rfl (fun ls hl => ?_)
              refine lp_X1_pays3 σ hk k hkk z hz co g X ?_ 32 0 (by omega) (Nat.zero_le _) _ _ _ hH (lv_sub hl [1, 2, 3, 5, 0] rfl)
              intro H locs ls hH hl
              refine lv_iload_n hx hb dX1_pays_173 rfl (lv_at hl 2 rfl) ?_
              refine lv_iload_n hx hb dX1_pays_174 rfl (lv_at hl 2 rfl) ?_
              refine lv_aload_n hx hb dX1_pays_175 rfl (lv_at hl 0 rfl) ?_
              refine gw_get (C := RX1) (T := TX1) (N := 21) (ci := 1) (fs := xx_fs1 ad (xs_w σ g).1.1) (v := .ref (ad 21)) hx hb hT hH.1 0 xx_0 rfl in_X1 3 (by decide) rfl q179 rfl dX1_pays_176 ?_
              refine lv_iconst (v := 3) hx hb dX1_pays_179 (by decide) ?_
              refine xx_ild (v := σ.1.2 21 3) hx hb hT hH.1 21 (by decide) (by decide) rfl 3 rfl (show 3 < 4 by omega) rfl dX1_pays_180 ?_
              refine lv_imul hx hb dX1_pays_181 ?_
              refine lv_bipush (v := 100) hx hb dX1_pays_182 (by decide) ?_
              refine lv_idiv hx hb dX1_pays_184 (by decide : ¬ (100 : Int32) = 0) ?_
              refine lv_isub hx hb dX1_pays_185 ?_
              refine lv_as (z := (xRst co (σ.1.2 21 3))) rfl ?_
              refine lv_istore (lv' := [(7, .int (xRst co (σ.1.2 21 3))), (0, .ref (ad 0)), (2, .int (nI z)), (3, .int co), (5, .long (xSum g 31))]) hx hb dX1_pays_186 hl (by decide) rfl (fun ls hl => ?_)
              refine lv_iload hx hb dX1_pays_188 (lv_at hl 0 rfl) ?_
              refine lv_istore (lv' := [(8, .int (xRst co (σ.1.2 21 3))), (7, .int (xRst co (σ.1.2 21 3))), (0, .ref (ad 0)), (2, .int (nI z)), (3, .int co), (5, .long (xSum g 31))]) hx hb dX1_pays_190 hl (by decide) rfl (fun ls hl => ?_)
              refine lv_iconst (v := 0) hx hb dX1_pays_192 (by decide) ?_
              refine lv_istore (lv' := [(9, .int 0), (8, .int (xRst co (σ.1.2 21 3))), (7, .int (xRst co (σ.1.2 21 3))), (0, .ref (ad 0)), (2, .int (nI z)), (3, .int co), (5, .long (xSum g 31))]) hx hb dX1_pays_193 hl (by decide) rfl (fun ls hl => ?_)
              refine lv_iconst (v := 0) hx hb dX1_pays_195 (by decide) ?_
              refine lv_istore (lv' := [(10, .int 0), (9, .int 0), (8, .int (xRst co (σ.1.2 21 3))), (7, .int (xRst co (σ.1.2 21 3))), (0, .ref (ad 0)), (2, .int (nI z)), (3, .int co), (5, .long (xSum g 31))]) hx hb dX1_pays_196 hl (by decide) rfl (fun ls hl => ?_)
              have hS0 : ¬ xSum g 31 = 0 := by rw [xSum_cg 31 hg]; exact hw k hkk hdg
              refine lp_X1_pays4 σ hk k hkk z hz co g (xSum g 31) hS0 (xRst co (σ.1.2 21 3)) X ?_ 32 0 (by omega) (Nat.zero_le _) _ _ _ hH (lv_sub hl [4, 5, 7, 3, 2, 1, 0] rfl)
              intro H locs ls hH hl
              replace hk : xk (xs_w σ g) nC nS nW := hk
              refine lv_aload_n hx hb dX1_pays_259 rfl (lv_at hl 0 rfl) ?_
              refine gw_get (C := RX1) (T := TX1) (N := 21) (ci := 1) (fs := xx_fs1 ad (xs_w σ g).1.1) (v := .ref (ad 6)) hx hb hT hH.1 0 xx_0 rfl in_X1 11 (by decide) rfl q187 rfl dX1_pays_260 ?_
              refine lv_iload_n hx hb dX1_pays_263 rfl (lv_at hl 1 rfl) ?_
              refine xx_lld (v := g z) hx hb hT hH.1 z rfl (show z < 31 by omega) (congrFun (xs_w_0 σ g) _) dX1_pays_264 ?_
              refine lv_lconst (v := 0) hx hb dX1_pays_265 (by decide) ?_
              refine W.lcmp hx hb dX1_pays_266 ?_
              refine lv_if_ne (tgt := 274) hx hb dX1_pays_267 (by decide) (fun c_267 => ?_) (fun c_267 => ?_)
              · skip
                refine lv_iload hx hb dX1_pays_274 (lv_at hl 3 rfl) ?_
                refine lv_i2l (v := (xRst co (σ.1.2 21 3)).toInt64) hx hb dX1_pays_276 rfl ?_
                refine lv_aload_n hx hb dX1_pays_277 rfl (lv_at hl 0 rfl) ?_
                refine gw_get (C := RX1) (T := TX1) (N := 21) (ci := 1) (fs := xx_fs1 ad (xs_w σ g).1.1) (v := .ref (ad 6)) hx hb hT hH.1 0 xx_0 rfl in_X1 11 (by decide) rfl q187 rfl dX1_pays_278 ?_
                refine lv_iload_n hx hb dX1_pays_281 rfl (lv_at hl 1 rfl) ?_
                refine xx_lld (v := g z) hx hb hT hH.1 z rfl (show z < 31 by omega) (congrFun (xs_w_0 σ g) _) dX1_pays_282 ?_
                refine lv_lmul hx hb dX1_pays_283 ?_
                refine lv_lload hx hb dX1_pays_284 (lv_at hl 2 rfl) ?_
                refine lv_ldiv hx hb dX1_pays_286 hS0 ?_
                refine lv_l2i (v := ((((xRst co (σ.1.2 21 3)).toInt64) * (g z)) / (xSum g 31)).toInt32) hx hb dX1_pays_287 rfl ?_
                refine lv_iload hx hb dX1_pays_288 (lv_at hl 5 rfl) ?_
                refine lv_iload hx hb dX1_pays_290 (lv_at hl 4 rfl) ?_
                refine lv_icmp_ge (tgt := 299) hx hb dX1_pays_292 (by decide) (fun c_292 => ?_) (fun c_292 => ?_)
                · skip
                  refine lv_iconst (v := 0) hx hb dX1_pays_299 (by decide) ?_
                  refine lv_iadd hx hb dX1_pays_300 ?_
                  exact xx_ri hx hb hr hlocks hT hH (fun _ _ _ => rfl) rfl dX1_pays_301 (⟨k, hkk, rfl, hdg, ⟨h_8, h_19⟩, z, hz, rfl, ⟨g, rfl⟩, congrArg (fun x => some (Value.int x)) ((xPay_cg (σ.1.2 21 3) co hz hg).symm.trans ((if_neg (fun h => c_267 ((lg_cmp_eq _ _).mpr h))).trans (by rw [if_neg (Int32.not_lt.mpr c_292)]; rfl)))⟩) (Nat.le_of_ble_eq_true rfl) (Nat.le_of_ble_eq_true rfl)
                · skip
                  refine lv_iconst (v := 1) hx hb dX1_pays_295 (by decide) ?_
                  refine lv_goto (tgt := 300) hx hb dX1_pays_296 (by decide) ?_
                  refine lv_iadd hx hb dX1_pays_300 ?_
                  exact xx_ri hx hb hr hlocks hT hH (fun _ _ _ => rfl) rfl dX1_pays_301 (⟨k, hkk, rfl, hdg, ⟨h_8, h_19⟩, z, hz, rfl, ⟨g, rfl⟩, congrArg (fun x => some (Value.int x)) ((xPay_cg (σ.1.2 21 3) co hz hg).symm.trans ((if_neg (fun h => c_267 ((lg_cmp_eq _ _).mpr h))).trans (by rw [if_pos (in_lt c_292)]; rfl)))⟩) (Nat.le_of_ble_eq_true rfl) (Nat.le_of_ble_eq_true rfl)
              · skip
                refine lv_iconst (v := 0) hx hb dX1_pays_270 (by decide) ?_
                refine lv_goto (tgt := 301) hx hb dX1_pays_271 (by decide) ?_
                exact xx_ri hx hb hr hlocks hT hH (fun _ _ _ => rfl) rfl dX1_pays_301 (⟨k, hkk, rfl, hdg, ⟨h_8, h_19⟩, z, hz, rfl, ⟨g, rfl⟩, congrArg (fun x => some (Value.int x)) ((xPay_cg (σ.1.2 21 3) co hz hg).symm.trans (if_pos ((lg_cmp_eq _ _).mp c_267)))⟩) (Nat.le_of_ble_eq_true rfl) (Nat.le_of_ble_eq_true rfl)
          · skip
            refine lv_if_eq (tgt := 29) hx hb dX1_pays_22 (by decide) (fun c_22 => ?_) (fun c_22 => ?_)
            · skip
              refine lv_iconst (v := 0) hx hb dX1_pays_29 (by decide) ?_
              exact xt_call (k := 3) (yy_S (n := 1) (c_X1_must0 l hfl σ G A ad wk wv) hx hb hml hT hxc hA hH q320 (ex_code_of hT.2.1 q320) (ex_named (hT.2.1 _ q320)) q319 q33 q318 (by decide +kernel) ⟨Nat.le_of_ble_eq_true rfl, Nat.le_of_ble_eq_true rfl⟩ rfl hl.1 rfl (Nat.le_of_ble_eq_true rfl) dX1_pays_30 ⟨Nat.le_of_ble_eq_true rfl, Nat.le_of_ble_eq_true rfl⟩) hlocks hE (xx_tq hT hH (fun _ _ _ => rfl) (by decide) (⟨rfl, Or.inr ⟨k, hkk, rfl, Or.inr ⟨hdg, rfl, fun g => h_19 g.2⟩⟩⟩)) hH.2.2.2.2 (Nat.le_of_ble_eq_true rfl) (Nat.le_of_ble_eq_true rfl)
            · skip
              exact absurd c_22 (by decide)
      · skip
        refine lv_if_eq (tgt := 29) hx hb dX1_pays_11 (by decide) (fun c_11 => ?_) (fun c_11 => ?_)
        · skip
          refine lv_iconst (v := 0) hx hb dX1_pays_29 (by decide) ?_
          exact xt_call (k := 3) (yy_S (n := 1) (c_X1_must0 l hfl σ G A ad wk wv) hx hb hml hT hxc hA hH q320 (ex_code_of hT.2.1 q320) (ex_named (hT.2.1 _ q320)) q319 q33 q318 (by decide +kernel) ⟨Nat.le_of_ble_eq_true rfl, Nat.le_of_ble_eq_true rfl⟩ rfl hl.1 rfl (Nat.le_of_ble_eq_true rfl) dX1_pays_30 ⟨Nat.le_of_ble_eq_true rfl, Nat.le_of_ble_eq_true rfl⟩) hlocks hE (xx_tq hT hH (fun _ _ _ => rfl) (by decide) (⟨rfl, Or.inr ⟨k, hkk, rfl, Or.inr ⟨hdg, rfl, fun g => h_8 g.1⟩⟩⟩)) hH.2.2.2.2 (Nat.le_of_ble_eq_true rfl) (Nat.le_of_ble_eq_true rfl)
        · skip
          exact absurd c_11 (by decide)
  · skip
    exact xt_call (k := 1) (yy_V (n := 1) 0 (c_X1_dugAt0 l hfl σ hk v h_2 G A ad wk wv) hx hb hml hT hxc hA hH xx_0 rfl q585 (ex_code_of hT.2.1 q585) q584 qs7 q33 q582 (by decide +kernel) ⟨Nat.le_of_ble_eq_true rfl, Nat.le_of_ble_eq_true rfl⟩ rfl hl.1 rfl (Nat.le_of_ble_eq_true rfl) dX1_pays_2 ⟨Nat.le_of_ble_eq_true rfl, Nat.le_of_ble_eq_true rfl⟩) hlocks hE (xx_tq hT hH (fun _ _ _ => rfl) (by decide) (⟨rfl, Or.inl ⟨rfl, h_2⟩⟩)) hH.2.2.2.2 (Nat.le_of_ble_eq_true rfl) (Nat.le_of_ble_eq_true rfl)
