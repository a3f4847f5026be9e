theorem b_one : ∀ n, n < 10 → (1 : Int32) <<< (nI n &&& 31) = nI (2 ^ n) := by decide +kernel
theorem b_sc : ∀ n, n < 32 → ((nI n &&& 31).toBitVec.smod 32).toNat = n := by decide +kernel
theorem b_bit {s k : Nat} (hs : s < 512) (hk : k < 9) : (nI s >>> (nI k &&& 31)) &&& 1 = nI (s / 2 ^ k % 2) := by
  rw [pk_shrN (by omega) _ k (b_sc k (by omega)), pk_andN (Nat.lt_of_le_of_lt (Nat.div_le_self _ _) (by omega)) 1 (by decide)]
theorem b_clr : ∀ s, s < 512 → ∀ k, k < 9 → s / 2 ^ k % 2 = 1 → nI s &&& (nI (2 ^ k) ^^^ (-1)) = nI (s - 2 ^ k) := by decide +kernel
theorem b_xor : ∀ s, s < 512 → ∀ k, k < 9 → s / 2 ^ k % 2 = 1 → nI s ^^^ nI (2 ^ k) = nI (s - 2 ^ k) := by decide +kernel
theorem b_lt : ∀ s, s < 512 → ∀ k, k < 9 → s / 2 ^ k % 2 = 1 → s - 2 ^ k < s := by decide +kernel
theorem b_pw {n : Nat} (h : n ≤ 9) : 2 ^ n ≤ 512 ∧ 1 ≤ 2 ^ n := ⟨Nat.pow_le_pow_right (by decide) h, Nat.one_le_two_pow⟩
def pMin (a b : Int32) : Int32 := if b < a then b else a
def pEnd (nd : Nat → Int32) (s : Nat) : Nat → Int32
  | 0 => 0
  | n + 1 => pEnd nd s n + (if s / 2 ^ n % 2 = 1 then nd n else 0)
def pLow (g ls du : Nat → Int32) (en : Int32) (s : Nat) : Nat → Int32
  | 0 => 2147483647
  | n + 1 => if s / 2 ^ n % 2 = 1 then pMin (pLow g ls du en s n) (g (s - 2 ^ n) + ls n * pMax 0 (en - du n)) else pLow g ls du en s n
def pLst (nd du ls : Nat → Int32) (n : Nat) : Nat → Nat → Int32
  | 0 => fun _ => 0
  | s + 1 => upd (pLst nd du ls n s) (s + 1) (pLow (pLst nd du ls n s) ls du (pEnd nd (s + 1) n) (s + 1) n)
theorem pLow_g {g g2 ls du : Nat → Int32} {en : Int32} {s : Nat} (hs : s < 512) (h : ∀ j, j < s → g j = g2 j) : ∀ n, n ≤ 9 → pLow g ls du en s n = pLow g2 ls du en s n
  | 0, _ => rfl
  | n + 1, hn => by
    rw [pLow, pLow, pLow_g hs h n (by omega)]
    split
    · next hb => rw [h _ (b_lt s hs n (by omega) hb)]
    · rfl
/-- the same but for one array -/
def pSame (τ σ : mS) (k : Nat) : Prop := τ.1 = σ.1 ∧ ∀ j, j ≠ k → τ.2 j = σ.2 j

set_option maxHeartbeats 4000000 in
set_option maxRecDepth 100000 in
theorem lp_X4_least1 {p : Program} {l : Launch} {e : Env} {s : State} {m : MethodId} {args : Array Value} {below : List Frame} {meth : Method} {c : Code} {Q : State → Prop} {G : gw_G} {A : Nat → Prop} {H0 : Heap} {ad : Nat → Nat} (σ : mS) {nF : Nat} (h34 : σ.1 34 = nI nF) (hF : nF ≤ 9) (q : Nat) (hq : q < 512) (X : gx_X RX4 cX4_least 5 (some .int) G p s m args meth c) (K : (∀ (H : Heap) (locs : List Loc) (ls : Array Slot), mm_H G A H0 H locs ad σ → lv_has ls 5 [(0, .ref (ad 0)), (1, .int (nI q)), (2, .int (pEnd (σ.2 31) q nF))] → W p l e (mm_rm 1) s m args below meth c H locs 0 0 Q (F0 m 64 ls []))) : ∀ (n : Nat) (i : Nat), nF < i + n → i ≤ nF → ∀ (H : Heap) (locs : List Loc) (ls : Array Slot), mm_H G A H0 H locs ad σ → lv_has ls 5 [(0, .ref (ad 0)), (1, .int (nI q)), (2, .int (pEnd (σ.2 31) q i)), (3, .int (nI i))] → W p l e (mm_rm 1) s m args below meth c H locs 0 0 Q (F0 m 28 ls []) := by
  obtain ⟨hx, hb, hml, hT, hr, hlocks⟩ := id X
  intro n
  induction n with
  | zero =>
    intro i h0 hi
    exact absurd h0 (by omega)
  | succ n ih =>
    intro i h0 hi H locs ls hH hl
    refine lv_iload_n hx hb dX4_least_28 rfl (lv_at hl 3 rfl) ?_
    refine lv_aload_n hx hb dX4_least_29 rfl (lv_at hl 0 rfl) ?_
    refine mm_get (v := .int (σ.1 34)) hx hb hT hH 34 (by decide) rfl q815 rfl dX4_least_30 ?_
    refine lv_as h34 ?_
    refine lv_icmp_ge (tgt := 64) hx hb dX4_least_33 (by decide) (fun c_33 => ?_) (fun c_33 => ?_)
    · skip
      have c_33 : nF ≤ i := (nI_leI (a := nF) (b := i) (by omega) (by omega)).mp c_33
      obtain rfl : nF = i := by omega
      exact K _ _ _ hH (lv_sub hl [0, 1, 2] rfl)
    · skip
      have c_33 : ¬ (nF ≤ i) := fun h => c_33 ((nI_leI (a := nF) (b := i) (by omega) (by omega)).mpr h)
      refine lv_iload_n hx hb dX4_least_36 rfl (lv_at hl 2 rfl) ?_
      refine lv_iload_n hx hb dX4_least_37 rfl (lv_at hl 1 rfl) ?_
      refine lv_iload_n hx hb dX4_least_38 rfl (lv_at hl 3 rfl) ?_
      refine lv_ishr hx hb dX4_least_39 ?_
      refine lv_iconst (v := 1) hx hb dX4_least_40 (by decide) ?_
      refine lv_iand hx hb dX4_least_41 ?_
      refine lv_as (z := nI (q / 2 ^ i % 2)) (b_bit (by omega) (by omega)) ?_
      refine lv_iconst (v := 1) hx hb dX4_least_42 (by decide) ?_
      have hm : q / 2 ^ i % 2 < 2 := Nat.mod_lt _ (by decide)
      refine lv_icmp_ne (tgt := 55) hx hb dX4_least_43 (by decide) (fun c_43 => ?_) (fun c_43 => ?_)
      · skip
        have c_43 : ¬ ((q / 2 ^ i % 2) = 1) := fun h => c_43 ((nI_eq (a := (q / 2 ^ i % 2)) (b := 1) (by omega) (by omega)).mpr h)
        refine lv_iconst (v := 0) hx hb dX4_least_55 (by decide) ?_
        refine lv_iadd hx hb dX4_least_56 ?_
        refine lv_as (z := pEnd (σ.2 31) q (i + 1)) (by rw [pEnd, if_neg c_43]) ?_
        refine lv_istore_n (lv' := [(2, .int (pEnd (σ.2 31) q (i + 1))), (0, .ref (ad 0)), (1, .int (nI q)), (3, .int (nI i))]) hx hb dX4_least_57 rfl hl (by decide) rfl (fun ls hl => ?_)
        refine lv_iinc (v := nI (i + 1)) (lv' := [(3, .int (nI (i + 1))), (2, .int (pEnd (σ.2 31) q (i + 1))), (0, .ref (ad 0)), (1, .int (nI q))]) hx hb dX4_least_58 hl (k := 3) rfl (nI_add i 1) (by decide) rfl (fun ls hl => ?_)
        refine lv_goto (tgt := 28) hx hb dX4_least_61 (by decide) ?_
        exact ih (i + 1) (by omega) (by omega) _ _ _ hH (lv_sub hl [2, 3, 1, 0] rfl)
      · skip
        have c_43 : (q / 2 ^ i % 2) = 1 := (nI_eq (a := (q / 2 ^ i % 2)) (b := 1) (by omega) (by omega)).mp c_43
        refine lv_aload_n hx hb dX4_least_46 rfl (lv_at hl 0 rfl) ?_
        refine mm_get (v := .ref (ad 31)) hx hb hT hH 31 (by decide) rfl q812 rfl dX4_least_47 ?_
        refine lv_iload_n hx hb dX4_least_50 rfl (lv_at hl 3 rfl) ?_
        refine mm_ild (v := σ.2 31 i) hx hb hT hH 31 (by decide) rfl i rfl (show i < 9 by omega) rfl dX4_least_51 ?_
        refine lv_goto (tgt := 56) hx hb dX4_least_52 (by decide) ?_
        refine lv_iadd hx hb dX4_least_56 ?_
        refine lv_as (z := pEnd (σ.2 31) q (i + 1)) (by rw [pEnd, if_pos c_43]) ?_
        refine lv_istore_n (lv' := [(2, .int (pEnd (σ.2 31) q (i + 1))), (0, .ref (ad 0)), (1, .int (nI q)), (3, .int (nI i))]) hx hb dX4_least_57 rfl hl (by decide) rfl (fun ls hl => ?_)
        refine lv_iinc (v := nI (i + 1)) (lv' := [(3, .int (nI (i + 1))), (2, .int (pEnd (σ.2 31) q (i + 1))), (0, .ref (ad 0)), (1, .int (nI q))]) hx hb dX4_least_58 hl (k := 3) rfl (nI_add i 1) (by decide) rfl (fun ls hl => ?_)
        refine lv_goto (tgt := 28) hx hb dX4_least_61 (by decide) ?_
        exact ih (i + 1) (by omega) (by omega) _ _ _ hH (lv_sub hl [2, 3, 1, 0] rfl)

set_option maxHeartbeats 4000000 in
set_option maxRecDepth 100000 in
theorem lp_X4_least2 {p : Program} {l : Launch} {e : Env} {s : State} {m : MethodId} {args : Array Value} {below : List Frame} {meth : Method} {c : Code} {Q : State → Prop} {G : gw_G} {A : Nat → Prop} {H0 : Heap} {ad : Nat → Nat} (σ : mS) {nF : Nat} (h34 : σ.1 34 = nI nF) (hF : nF ≤ 9) (q : Nat) (hq : q < 512) (x : Int32) (X : gx_X RX4 cX4_least 5 (some .int) G p s m args meth c) (K : (∀ (H : Heap) (locs : List Loc) (ls : Array Slot), mm_H G A H0 H locs ad σ → lv_has ls 5 [(0, .ref (ad 0)), (1, .int (nI q)), (3, .int (pLow (σ.2 35) (σ.2 33) (σ.2 32) x q nF))] → W p l e (mm_rm 1) s m args below meth c H locs 0 0 Q (F0 m 135 ls []))) : ∀ (n : Nat) (i : Nat), nF < i + n → i ≤ nF → ∀ (H : Heap) (locs : List Loc) (ls : Array Slot), mm_H G A H0 H locs ad σ → lv_has ls 5 [(0, .ref (ad 0)), (1, .int (nI q)), (2, .int x), (3, .int (pLow (σ.2 35) (σ.2 33) (σ.2 32) x q i)), (4, .int (nI i))] → W p l e (mm_rm 1) s m args below meth c H locs 0 0 Q (F0 m 70 ls []) := by
  obtain ⟨hx, hb, hml, hT, hr, hlocks⟩ := id X
  intro n
  induction n with
  | zero =>
    intro i h0 hi
    exact absurd h0 (by omega)
  | succ n ih =>
    intro i h0 hi H locs ls hH hl
    refine lv_iload hx hb dX4_least_70 (lv_at hl 4 rfl) ?_
    refine lv_aload_n hx hb dX4_least_72 rfl (lv_at hl 0 rfl) ?_
    refine mm_get (v := .int (σ.1 34)) hx hb hT hH 34 (by decide) rfl q815 rfl dX4_least_73 ?_
    refine lv_as h34 ?_
    refine lv_icmp_ge (tgt := 135) hx hb dX4_least_76 (by decide) (fun c_76 => ?_) (fun c_76 => ?_)
    · skip
      have c_76 : nF ≤ i := (nI_leI (a := nF) (b := i) (by omega) (by omega)).mp c_76
      obtain rfl : nF = i := by omega
      exact K _ _ _ hH (lv_sub hl [0, 1, 3] rfl)
    · skip
      have c_76 : ¬ (nF ≤ i) := fun h => c_76 ((nI_leI (a := nF) (b := i) (by omega) (by omega)).mpr h)
      refine lv_iload_n hx hb dX4_least_79 rfl (lv_at hl 1 rfl) ?_
      refine lv_iload hx hb dX4_least_80 (lv_at hl 4 rfl) ?_
      refine lv_ishr hx hb dX4_least_82 ?_
      refine lv_iconst (v := 1) hx hb dX4_least_83 (by decide) ?_
      refine lv_iand hx hb dX4_least_84 ?_
      refine lv_as (z := nI (q / 2 ^ i % 2)) (b_bit (by omega) (by omega)) ?_
      refine lv_iconst (v := 1) hx hb dX4_least_85 (by decide) ?_
      have hm : q / 2 ^ i % 2 < 2 := Nat.mod_lt _ (by decide)
      refine lv_icmp_ne (tgt := 129) hx hb dX4_least_86 (by decide) (fun c_86 => ?_) (fun c_86 => ?_)
      · skip
        have c_86 : ¬ ((q / 2 ^ i % 2) = 1) := fun h => c_86 ((nI_eq (a := (q / 2 ^ i % 2)) (b := 1) (by omega) (by omega)).mpr h)
        refine lv_iinc (v := nI (i + 1)) (lv' := [(4, .int (nI (i + 1))), (0, .ref (ad 0)), (1, .int (nI q)), (2, .int x), (3, .int (pLow (σ.2 35) (σ.2 33) (σ.2 32) x q i))]) hx hb dX4_least_129 hl (k := 4) rfl (nI_add i 1) (by decide) rfl (fun ls hl => ?_)
        refine lv_goto (tgt := 70) hx hb dX4_least_132 (by decide) ?_
        have hl := lv_sub (l' := [(0, .ref (ad 0)), (1, .int (nI q)), (2, .int x), (3, .int (pLow (σ.2 35) (σ.2 33) (σ.2 32) x q i)), (4, .int (nI (i + 1)))]) hl [1, 2, 3, 4, 0] rfl
        rw [show pLow (σ.2 35) (σ.2 33) (σ.2 32) x q i = pLow (σ.2 35) (σ.2 33) (σ.2 32) x q (i + 1) from (by rw [pLow, if_neg c_86])] at hl
        exact ih (i + 1) (by omega) (by omega) _ _ _ hH hl
      · skip
        have c_86 : (q / 2 ^ i % 2) = 1 := (nI_eq (a := (q / 2 ^ i % 2)) (b := 1) (by omega) (by omega)).mp c_86
        refine lv_iload_n hx hb dX4_least_89 rfl (lv_at hl 3 rfl) ?_
        refine lv_aload_n hx hb dX4_least_90 rfl (lv_at hl 0 rfl) ?_
        refine mm_get (v := .ref (ad 35)) hx hb hT hH 35 (by decide) rfl q816 rfl dX4_least_91 ?_
        refine lv_iload_n hx hb dX4_least_94 rfl (lv_at hl 1 rfl) ?_
        refine lv_iconst (v := 1) hx hb dX4_least_95 (by decide) ?_
        refine lv_iload hx hb dX4_least_96 (lv_at hl 4 rfl) ?_
        refine lv_ishl hx hb dX4_least_98 ?_
        refine lv_as (z := nI (2 ^ i)) (b_one i (by omega)) ?_
        refine lv_iconst (v := (-1)) hx hb dX4_least_99 (by decide) ?_
        refine lv_ixor hx hb dX4_least_100 ?_
        refine lv_iand hx hb dX4_least_101 ?_
        refine lv_as (z := nI (q - 2 ^ i)) (b_clr q (by omega) i (by omega) c_86) ?_
        refine mm_ild (v := σ.2 35 (q - 2 ^ i)) hx hb hT hH 35 (by decide) rfl (q - 2 ^ i) rfl (Nat.lt_of_le_of_lt (Nat.sub_le _ _) (show q < 512 by omega)) rfl dX4_least_102 ?_
        refine lv_aload_n hx hb dX4_least_103 rfl (lv_at hl 0 rfl) ?_
        refine mm_get (v := .ref (ad 33)) hx hb hT hH 33 (by decide) rfl q814 rfl dX4_least_104 ?_
        refine lv_iload hx hb dX4_least_107 (lv_at hl 4 rfl) ?_
        refine mm_ild (v := σ.2 33 i) hx hb hT hH 33 (by decide) rfl i rfl (show i < 9 by omega) rfl dX4_least_109 ?_
        refine lv_iconst (v := 0) hx hb dX4_least_110 (by decide) ?_
        refine lv_iload_n hx hb dX4_least_111 rfl (lv_at hl 2 rfl) ?_
        refine lv_aload_n hx hb dX4_least_112 rfl (lv_at hl 0 rfl) ?_
        refine mm_get (v := .ref (ad 32)) hx hb hT hH 32 (by decide) rfl q813 rfl dX4_least_113 ?_
        refine lv_iload hx hb dX4_least_116 (lv_at hl 4 rfl) ?_
        refine mm_ild (v := σ.2 32 i) hx hb hT hH 32 (by decide) rfl i rfl (show i < 9 by omega) rfl dX4_least_118 ?_
        refine lv_isub hx hb dX4_least_119 ?_
        refine va_mmax hx hb (hml.trans hl.1.symm) hT.1 (hT.2.1 _ q930) (hT.2.1 _ q267) (hT.2.1 _ q48) (hT.2.1 _ q268) (by decide) (Nat.le_of_ble_eq_true rfl) (Nat.zero_le _) (Nat.zero_le _) dX4_least_120 ?_
        refine lv_imul hx hb dX4_least_123 ?_
        refine lv_iadd hx hb dX4_least_124 ?_
        refine va_mmin hx hb (hml.trans hl.1.symm) hT.1 (hT.2.1 _ q975) (hT.2.1 _ q270) (hT.2.1 _ q48) (hT.2.1 _ q271) (by decide) (Nat.le_of_ble_eq_true rfl) (Nat.zero_le _) (Nat.zero_le _) dX4_least_125 ?_
        refine lv_as (z := pLow (σ.2 35) (σ.2 33) (σ.2 32) x q (i + 1)) (by rw [pLow, if_pos c_86]; rfl) ?_
        refine lv_istore_n (lv' := [(3, .int (pLow (σ.2 35) (σ.2 33) (σ.2 32) x q (i + 1))), (0, .ref (ad 0)), (1, .int (nI q)), (2, .int x), (4, .int (nI i))]) hx hb dX4_least_128 rfl hl (by decide) rfl (fun ls hl => ?_)
        refine lv_iinc (v := nI (i + 1)) (lv' := [(4, .int (nI (i + 1))), (3, .int (pLow (σ.2 35) (σ.2 33) (σ.2 32) x q (i + 1))), (0, .ref (ad 0)), (1, .int (nI q)), (2, .int x)]) hx hb dX4_least_129 hl (k := 4) rfl (nI_add i 1) (by decide) rfl (fun ls hl => ?_)
        refine lv_goto (tgt := 70) hx hb dX4_least_132 (by decide) ?_
        exact ih (i + 1) (by omega) (by omega) _ _ _ hH (lv_sub hl [2, 3, 4, 1, 0] rfl)

set_option maxHeartbeats 4000000 in
set_option maxRecDepth 100000 in
theorem lp_X4_least3 {p : Program} {l : Launch} {e : Env} {s : State} {m : MethodId} {args : Array Value} {below : List Frame} {meth : Method} {c : Code} {Q : State → Prop} {G : gw_G} {A : Nat → Prop} {H0 : Heap} {ad : Nat → Nat} (σ : mS) {nF : Nat} (h34 : σ.1 34 = nI nF) (hF : nF ≤ 9) (X : gx_X RX4 cX4_least 5 (some .int) G p s m args meth c) (K : ∀ τ : mS, pSame τ σ 35 → (∀ j, j ≤ 2 ^ nF - 1 → τ.2 35 j = pLst (σ.2 31) (σ.2 32) (σ.2 33) nF (2 ^ nF - 1) j) → (∀ (H : Heap) (locs : List Loc) (ls : Array Slot), mm_H G A H0 H locs ad τ → lv_has ls 5 [(0, .ref (ad 0))] → W p l e (mm_rm 1) s m args below meth c H locs 0 0 Q (F0 m 148 ls []))) : ∀ (n : Nat) (q : Nat) (τ : mS), 2 ^ nF < q + 1 + n → q + 1 ≤ 2 ^ nF → pSame τ σ 35 → (∀ j, j ≤ q → τ.2 35 j = pLst (σ.2 31) (σ.2 32) (σ.2 33) nF q j) → ∀ (H : Heap) (locs : List Loc) (ls : Array Slot), mm_H G A H0 H locs ad τ → lv_has ls 5 [(0, .ref (ad 0)), (1, .int (nI (q + 1)))] → W p l e (mm_rm 1) s m args below meth c H locs 0 0 Q (F0 m 14 ls []) := by
  obtain ⟨hx, hb, hml, hT, hr, hlocks⟩ := id X
  intro n
  induction n with
  | zero =>
    intro q τ h0 hi hτ hlo
    exact absurd h0 (by omega)
  | succ n ih =>
    intro q τ h0 hi hτ hlo H locs ls hH hl
    have hp := b_pw hF
    refine lv_iload_n hx hb dX4_least_14 rfl (lv_at hl 1 rfl) ?_
    refine lv_iconst (v := 1) hx hb dX4_least_15 (by decide) ?_
    refine lv_aload_n hx hb dX4_least_16 rfl (lv_at hl 0 rfl) ?_
    refine mm_get (v := .int (τ.1 34)) hx hb hT hH 34 (by decide) rfl q815 rfl dX4_least_17 ?_
    refine lv_as ((congrFun hτ.1 34).trans h34) ?_
    refine lv_ishl hx hb dX4_least_20 ?_
    refine lv_as (z := nI (2 ^ nF)) (b_one nF (by omega)) ?_
    refine lv_icmp_ge (tgt := 148) hx hb dX4_least_21 (by decide) (fun c_21 => ?_) (fun c_21 => ?_)
    · skip
      have c_21 : (2 ^ nF) ≤ (q + 1) := (nI_leI (a := (2 ^ nF)) (b := (q + 1)) (by omega) (by omega)).mp c_21
      obtain rfl : q = 2 ^ nF - 1 := by omega
      exact K τ hτ hlo _ _ _ hH (lv_sub hl [0] rfl)
    · skip
      have c_21 : ¬ ((2 ^ nF) ≤ (q + 1)) := fun h => c_21 ((nI_leI (a := (2 ^ nF)) (b := (q + 1)) (by omega) (by omega)).mpr h)
      refine lv_iconst (v := 0) hx hb dX4_least_24 (by decide) ?_
      refine lv_istore_n (lv' := [(2, .int 0), (0, .ref (ad 0)), (1, .int (nI (q + 1)))]) hx hb dX4_least_25 rfl hl (by decide) rfl (fun ls hl => ?_)
      refine lv_iconst (v := 0) hx hb dX4_least_26 (by decide) ?_
      refine lv_istore_n (lv' := [(3, .int 0), (2, .int 0), (0, .ref (ad 0)), (1, .int (nI (q + 1)))]) hx hb dX4_least_27 rfl hl (by decide) rfl (fun ls hl => ?_)
      refine lp_X4_least1 τ (nF := nF) ((congrFun hτ.1 34).trans h34) hF (q + 1) (by omega) X ?_ (nF + 1) 0 (by omega) (Nat.zero_le _) _ _ _ hH (lv_sub hl [2, 3, 1, 0] rfl)
      intro H locs ls hH hl
      refine lv_ldc (v := 2147483647) hx hb hT.1 (hT.2.1 _ q1091) dX4_least_64 ?_
      refine lv_istore_n (lv' := [(3, .int 2147483647), (0, .ref (ad 0)), (1, .int (nI (q + 1))), (2, .int (pEnd (τ.2 31) (q + 1) nF))]) hx hb dX4_least_66 rfl hl (by decide) rfl (fun ls hl => ?_)
      refine lv_iconst (v := 0) hx hb dX4_least_67 (by decide) ?_
      refine lv_istore (lv' := [(4, .int 0), (3, .int 2147483647), (0, .ref (ad 0)), (1, .int (nI (q + 1))), (2, .int (pEnd (τ.2 31) (q + 1) nF))]) hx hb dX4_least_68 hl (by decide) rfl (fun ls hl => ?_)
      refine lp_X4_least2 τ (nF := nF) ((congrFun hτ.1 34).trans h34) hF (q + 1) (by omega) (pEnd (τ.2 31) (q + 1) nF) X ?_ (nF + 1) 0 (by omega) (Nat.zero_le _) _ _ _ hH (lv_sub hl [2, 3, 4, 1, 0] rfl)
      intro H locs ls hH hl
      refine lv_aload_n hx hb dX4_least_135 rfl (lv_at hl 0 rfl) ?_
      refine mm_get (v := .ref (ad 35)) hx hb hT hH 35 (by decide) rfl q816 rfl dX4_least_136 ?_
      refine lv_iload_n hx hb dX4_least_139 rfl (lv_at hl 1 rfl) ?_
      refine lv_iload_n hx hb dX4_least_140 rfl (lv_at hl 2 rfl) ?_
      refine mm_ist hx hb hT hH 35 (by decide) rfl (q + 1) rfl (show q + 1 < 512 by omega) dX4_least_141 (fun H locs hH => ?_)
      refine lv_iinc (v := nI (q + 1 + 1)) (lv' := [(1, .int (nI (q + 1 + 1))), (0, .ref (ad 0)), (3, .int (pLow (τ.2 35) (τ.2 33) (τ.2 32) (pEnd (τ.2 31) (q + 1) nF) (q + 1) nF))]) hx hb dX4_least_142 hl (k := 1) rfl (nI_add (q + 1) 1) (by decide) rfl (fun ls hl => ?_)
      refine lv_goto (tgt := 14) hx hb dX4_least_145 (by decide) ?_
      refine ih (q + 1) (mm_ar τ 35 (q + 1) (pLow (τ.2 35) (τ.2 33) (τ.2 32) (pEnd (τ.2 31) (q + 1) nF) (q + 1) nF)) (by omega) (by omega) ⟨hτ.1, fun j hj => (mm_ar_o hj).trans (hτ.2 j hj)⟩ (fun j hj => ?_) _ _ _ hH (lv_sub hl [1, 0] rfl)
      rw [pLst]
      by_cases e : j = q + 1
      · subst e
        rw [mm_ar_s, pk_us, hτ.2 31 (by decide), hτ.2 32 (by decide), hτ.2 33 (by decide)]
        exact pLow_g (by omega) (fun z hz => hlo z (by omega)) nF hF
      · rw [mm_ar_n e, pk_un e]
        exact hlo j (by omega)

set_option maxHeartbeats 4000000 in
set_option maxRecDepth 100000 in
theorem c_X4_least (l : Launch) (σ : mS) {nF : Nat} (h34 : σ.1 34 = nI nF) (hF : nF ≤ 9) : mm_Ci l yX4_least cX4_least 5 (some .int) 1 [] σ (fun r u => (∃ τ, pSame τ (mm_st σ 0 0) 35 ∧ mm_st τ 34 0 = u) ∧ pLst (σ.2 31) (σ.2 32) (σ.2 33) nF (2 ^ nF - 1) (2 ^ nF - 1) = r) := by
  refine mm_ofi (by decide) rfl (Nat.le_of_ble_eq_true rfl) ?_
  intro p e s m args below meth c G A ad ls X hH hl
  obtain ⟨hx, hb, hml, hT, hr, hlocks⟩ := id X
  have hl : lv_has ls 5 [(0, .ref (ad 0))] := hl
  refine lv_aload_n hx hb dX4_least_0 rfl (lv_at hl 0 rfl) ?_
  refine lv_iconst (v := 0) hx hb dX4_least_1 (by decide) ?_
  refine mm_put hx hb hT hH 0 (by decide) (by decide) rfl rfl q781 rfl dX4_least_2 (fun H locs hH => ?_)
  refine lv_aload_n hx hb dX4_least_5 rfl (lv_at hl 0 rfl) ?_
  refine mm_get (v := .ref (ad 35)) hx hb hT hH 35 (by decide) rfl q816 rfl dX4_least_6 ?_
  refine lv_iconst (v := 0) hx hb dX4_least_9 (by decide) ?_
  refine lv_iconst (v := 0) hx hb dX4_least_10 (by decide) ?_
  refine mm_ist hx hb hT hH 35 (by decide) rfl 0 rfl (show 0 < 512 by omega) dX4_least_11 (fun H locs hH => ?_)
  refine lv_iconst (v := 1) hx hb dX4_least_12 (by decide) ?_
  refine lv_istore_n (lv' := [(1, .int 1), (0, .ref (ad 0))]) hx hb dX4_least_13 rfl hl (by decide) rfl (fun ls hl => ?_)
  have hp := b_pw hF
  refine lp_X4_least3 (mm_st σ 0 0) (nF := nF) h34 hF X ?_ (2 ^ nF + 1) 0 (mm_ar (mm_st σ 0 0) 35 0 0) (by omega) (by omega) ⟨rfl, fun j hj => mm_ar_o hj⟩ (fun j hj => ?_) _ _ _ hH (lv_sub hl [1, 0] rfl)
  · intro τ hτ hlo H locs ls hH hl
    refine lv_aload_n hx hb dX4_least_148 rfl (lv_at hl 0 rfl) ?_
    refine mm_get (v := .ref (ad 35)) hx hb hT hH 35 (by decide) rfl q816 rfl dX4_least_149 ?_
    refine lv_iconst (v := 1) hx hb dX4_least_152 (by decide) ?_
    refine lv_aload_n hx hb dX4_least_153 rfl (lv_at hl 0 rfl) ?_
    refine mm_get (v := .int (τ.1 34)) hx hb hT hH 34 (by decide) rfl q815 rfl dX4_least_154 ?_
    refine lv_as ((congrFun hτ.1 34).trans h34) ?_
    refine lv_ishl hx hb dX4_least_157 ?_
    refine lv_as (z := nI (2 ^ nF)) (b_one nF (by omega)) ?_
    refine lv_iconst (v := 1) hx hb dX4_least_158 (by decide) ?_
    refine lv_isub hx hb dX4_least_159 ?_
    refine lv_as (z := nI (2 ^ nF - 1)) (pk_sub (a := 2 ^ nF) (b := 1) (by omega)) ?_
    refine mm_ild (v := pLst (σ.2 31) (σ.2 32) (σ.2 33) nF (2 ^ nF - 1) (2 ^ nF - 1)) hx hb hT hH 35 (by decide) rfl (2 ^ nF - 1) rfl (show 2 ^ nF - 1 < 512 by omega) (hlo _ (Nat.le_refl _)) dX4_least_160 ?_
    refine lv_istore_n (lv' := [(1, .int (pLst (σ.2 31) (σ.2 32) (σ.2 33) nF (2 ^ nF - 1) (2 ^ nF - 1))), (0, .ref (ad 0))]) hx hb dX4_least_161 rfl hl (by decide) rfl (fun ls hl => ?_)
    refine lv_aload_n hx hb dX4_least_162 rfl (lv_at hl 1 rfl) ?_
    refine lv_iconst (v := 0) hx hb dX4_least_163 (by decide) ?_
    refine mm_put hx hb hT hH 34 (by decide) (by decide) rfl rfl q815 rfl dX4_least_164 (fun H locs hH => ?_)
    refine lv_iload_n hx hb dX4_least_167 rfl (lv_at hl 0 rfl) ?_
    exact mm_ri hx hb hr hlocks hT hH rfl dX4_least_168 (⟨⟨τ, hτ, rfl⟩, rfl⟩)
  · obtain rfl : j = 0 := by omega
    exact mm_ar_s _ _ _ _
