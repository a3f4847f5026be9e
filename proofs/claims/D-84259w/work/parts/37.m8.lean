/-- each owner's minutes of a channel -/
def pMof (σ : mS) (ow : Nat → Nat) (q : Nat) : Nat → Nat → Int32
  | 0 => fun _ => 0
  | n + 1 => if σ.2 16 (7 * n) = nI q then upd (pMof σ ow q n) (ow n) (pMof σ ow q n (ow n) + (σ.2 16 (7 * n + 2) - σ.2 16 (7 * n + 1))) else pMof σ ow q n
theorem pMof_st (σ : mS) (v : Int32) (ow : Nat → Nat) (q : Nat) : ∀ n, pMof (mm_st σ 0 v) ow q n = pMof σ ow q n
  | 0 => rfl
  | n + 1 => by
    rw [pMof, pMof, pMof_st σ v ow q n]
    rfl
def pHd (g : Nat → Int32) : Nat → Nat
  | 0 => 0
  | n + 1 => pHd g n + (if g n = 0 then 0 else 1)
def pAh (g : Nat → Int32) (z : Nat) : Nat → Nat
  | 0 => 0
  | n + 1 => pAh g z n + (if ¬ g n = 0 ∧ n < z then 1 else 0)
theorem pHd_le (g : Nat → Int32) : ∀ n, pHd g n ≤ n
  | 0 => Nat.le_refl _
  | n + 1 => by
    have := pHd_le g n
    rw [pHd]
    split <;> omega
theorem pHd_pos (g : Nat → Int32) {z : Nat} (hz : ¬ g z = 0) : ∀ n, z < n → 0 < pHd g n
  | 0, h => absurd h (Nat.not_lt_zero _)
  | n + 1, h => by
    rw [pHd]
    by_cases e : z = n
    · subst e
      rw [if_neg hz]
      omega
    · have := pHd_pos g hz n (by omega)
      omega
theorem pAh_le (g : Nat → Int32) (z : Nat) : ∀ n, pAh g z n ≤ n
  | 0 => Nat.le_refl _
  | n + 1 => by
    have := pAh_le g z n
    rw [pAh]
    split <;> omega
def pPor (g : Nat → Int32) (rep t : Int32) (hd : Nat) (r : Int64) (o : Nat) : Int64 := if rep = 1 then r / (nI hd).toInt64 else r * (g o).toInt64 / t.toInt64
def pLf (g : Nat → Int32) (rep t : Int32) (hd : Nat) (r : Int64) : Nat → Int64
  | 0 => r
  | n + 1 => if 0 < g n then pLf g rep t hd r n - pPor g rep t hd r n else pLf g rep t hd r n
def pRest (co fr : Int32) : Int64 := co.toInt64 - co.toInt64 * fr.toInt64 / 100
def pPay (g : Nat → Int32) (rep fr t co : Int32) (z : Nat) : Int32 := (pPor g rep t (pHd g 31) (pRest co fr) z + (if (nI (pAh g z 31)).toInt64 < pLf g rep t (pHd g 31) (pRest co fr) 31 then 1 else 0)).toInt32
theorem toL_ne {x : Int32} (h : ¬ x = 0) : ¬ x.toInt64 = 0 := fun e => h (by
  have h1 := congrArg Int64.toInt e
  rw [Int32.toInt_toInt64] at h1
  exact Int32.toInt_inj.mp h1)
theorem upd_cg {f g : Nat → Int32} (h : ∀ j, j < 31 → f j = g j) {k : Nat} {x y : Int32} (e : x = y) : ∀ j, j < 31 → upd f k x j = upd g k y j := by
  intro j hj
  subst e
  by_cases hk : j = k
  · subst hk
    rw [pk_us, pk_us]
  · rw [pk_un hk, pk_un hk]
    exact h j hj
theorem pHd_cg {f g : Nat → Int32} : ∀ n, (∀ j, j < n → f j = g j) → pHd f n = pHd g n
  | 0, _ => rfl
  | n + 1, h => by rw [pHd, pHd, pHd_cg n (fun j hj => h j (by omega)), h n (by omega)]
theorem pAh_cg {f g : Nat → Int32} (z : Nat) : ∀ n, (∀ j, j < n → f j = g j) → pAh f z n = pAh g z n
  | 0, _ => rfl
  | n + 1, h => by rw [pAh, pAh, pAh_cg z n (fun j hj => h j (by omega)), h n (by omega)]
theorem pPor_cg {f g : Nat → Int32} (rep t : Int32) (hd : Nat) (r : Int64) (o : Nat) (h : f o = g o) : pPor f rep t hd r o = pPor g rep t hd r o := by rw [pPor, pPor, h]
theorem pLf_cg {f g : Nat → Int32} (rep t : Int32) (hd : Nat) (r : Int64) : ∀ n, (∀ j, j < n → f j = g j) → pLf f rep t hd r n = pLf g rep t hd r n
  | 0, _ => rfl
  | n + 1, h => by rw [pLf, pLf, pLf_cg rep t hd r n (fun j hj => h j (by omega)), h n (by omega), pPor_cg rep t hd r n (h n (by omega))]
theorem pPay_cg {f g : Nat → Int32} (rep fr t co : Int32) (z : Nat) (hz : z < 31) (h : ∀ j, j < 31 → f j = g j) : pPay f rep fr t co z = pPay g rep fr t co z := by
  rw [pPay, pPay, pHd_cg 31 h, pAh_cg z 31 h, pLf_cg _ _ _ _ 31 h, pPor_cg _ _ _ _ z (h z hz)]

set_option maxHeartbeats 1000000 in
set_option maxRecDepth 100000 in
theorem c_X4_portion (l : Launch) (σ : mS) (r : Int64) (z q hd : Nat) (hz : z < 31) (hq : q < 8) (hn : ¬ nI hd = 0) (ht : ¬ σ.2 9 q = 0) : mm_Cl l yX4_portion cX4_portion 6 (some .long) 1 [.long r, .int (nI z), .int (nI q), .int (nI hd)] σ (fun x u => σ = u ∧ pPor (σ.2 30) (σ.2 21 2) (σ.2 9 q) hd r z = x) := by
  refine mm_ofl (by decide) rfl (Nat.le_of_ble_eq_true rfl) ?_
  intro p e s m args below meth c G A ad ls X hH hl
  obtain ⟨hx, hb, hml, hT, hr, hlocks⟩ := id X
  have hl : lv_has ls 6 [(0, .ref (ad 0)), (1, .long r), (3, .int (nI z)), (4, .int (nI q)), (5, .int (nI hd))] := hl
  refine lv_aload_n hx hb dX4_portion_0 rfl (lv_at hl 0 rfl) ?_
  refine mm_get (v := .ref (ad 21)) hx hb hT hH 21 (by decide) rfl q802 rfl dX4_portion_1 ?_
  refine lv_iconst (v := 2) hx hb dX4_portion_4 (by decide) ?_
  refine mm_ild (v := σ.2 21 2) hx hb hT hH 21 (by decide) rfl 2 rfl (show 2 < 4 by omega) rfl dX4_portion_5 ?_
  refine lv_iconst (v := 1) hx hb dX4_portion_6 (by decide) ?_
  refine lv_icmp_ne (tgt := 18) hx hb dX4_portion_7 (by decide) (fun c_7 => ?_) (fun c_7 => ?_)
  · skip
    refine lv_lload_n hx hb dX4_portion_18 rfl (lv_at hl 1 rfl) ?_
    refine lv_aload_n hx hb dX4_portion_19 rfl (lv_at hl 0 rfl) ?_
    refine mm_get (v := .ref (ad 30)) hx hb hT hH 30 (by decide) rfl q811 rfl dX4_portion_20 ?_
    refine lv_iload_n hx hb dX4_portion_23 rfl (lv_at hl 2 rfl) ?_
    refine mm_ild (v := σ.2 30 z) hx hb hT hH 30 (by decide) rfl z rfl (show z < 31 by omega) rfl dX4_portion_24 ?_
    refine lv_i2l (v := (σ.2 30 z).toInt64) hx hb dX4_portion_25 rfl ?_
    refine lv_lmul hx hb dX4_portion_26 ?_
    refine lv_aload_n hx hb dX4_portion_27 rfl (lv_at hl 0 rfl) ?_
    refine mm_get (v := .ref (ad 9)) hx hb hT hH 9 (by decide) rfl q790 rfl dX4_portion_28 ?_
    refine lv_iload hx hb dX4_portion_31 (lv_at hl 3 rfl) ?_
    refine mm_ild (v := σ.2 9 q) hx hb hT hH 9 (by decide) rfl q rfl (show q < 8 by omega) rfl dX4_portion_33 ?_
    refine lv_i2l (v := (σ.2 9 q).toInt64) hx hb dX4_portion_34 rfl ?_
    refine lv_ldiv hx hb dX4_portion_35 (toL_ne ht) ?_
    exact mm_rl hx hb hr hlocks hT hH dX4_portion_36 (⟨rfl, if_neg c_7⟩)
  · skip
    refine lv_lload_n hx hb dX4_portion_10 rfl (lv_at hl 1 rfl) ?_
    refine lv_iload hx hb dX4_portion_11 (lv_at hl 4 rfl) ?_
    refine lv_i2l (v := (nI hd).toInt64) hx hb dX4_portion_13 rfl ?_
    refine lv_ldiv hx hb dX4_portion_14 (toL_ne hn) ?_
    refine lv_goto (tgt := 36) hx hb dX4_portion_15 (by decide) ?_
    exact mm_rl hx hb hr hlocks hT hH dX4_portion_36 (⟨rfl, if_pos c_7⟩)

set_option maxHeartbeats 1000000 in
set_option maxRecDepth 100000 in
theorem lp_X4_pays1 {p : Program} {l : Launch} {e : Env} {s : State} {m : MethodId} {args : Array Value} {below : List Frame} {meth : Method} {c : Code} {Q : State → Prop} {G : gw_G} {A : Nat → Prop} {H0 : Heap} {ad : Nat → Nat} (σ : mS) (q : Nat) (hq : q < 8) (z : Nat) (hz : z < 31) (co : Int32) (X : gx_X RX4 cX4_pays 11 (some .int) G p s m args meth c) (K : ∀ τ : mS, pSame τ σ 30 → (∀ j, j < 31 → τ.2 30 j = 0) → (∀ (H : Heap) (locs : List Loc) (ls : Array Slot), mm_H G A H0 H locs ad τ → lv_has ls 11 [(0, .ref (ad 0)), (1, .int (nI q)), (2, .int (nI z)), (3, .int co)] → W p l e (mm_rm 4) s m args below meth c H locs 0 0 Q (F0 m 96 ls []))) : ∀ (n : Nat) (i : Nat) (τ : mS), 31 < i + n → i ≤ 31 → pSame τ σ 30 → (∀ j, j < i → τ.2 30 j = 0) → ∀ (H : Heap) (locs : List Loc) (ls : Array Slot), mm_H G A H0 H locs ad τ → lv_has ls 11 [(0, .ref (ad 0)), (1, .int (nI q)), (2, .int (nI z)), (3, .int co), (4, .int (nI i))] → W p l e (mm_rm 4) s m args below meth c H locs 0 0 Q (F0 m 75 ls []) := by
  obtain ⟨hx, hb, hml, hT, hr, hlocks⟩ := id X
  intro n
  induction n with
  | zero =>
    intro i τ h0 hi hτ hlo
    exact absurd h0 (by omega)
  | succ n ih =>
    intro i τ h0 hi hτ hlo H locs ls hH hl
    refine lv_iload hx hb dX4_pays_75 (lv_at hl 4 rfl) ?_
    refine lv_bipush (v := 31) hx hb dX4_pays_77 (by decide) ?_
    refine lv_icmp_ge (tgt := 96) hx hb dX4_pays_79 (by decide) (fun c_79 => ?_) (fun c_79 => ?_)
    · skip
      have c_79 : 31 ≤ i := (nI_leI (a := 31) (b := i) (by omega) (by omega)).mp c_79
      obtain rfl : i = 31 := by omega
      exact K τ hτ hlo _ _ _ hH (lv_sub hl [0, 1, 2, 3] rfl)
    · skip
      have c_79 : ¬ (31 ≤ i) := fun h => c_79 ((nI_leI (a := 31) (b := i) (by omega) (by omega)).mpr h)
      refine lv_aload_n hx hb dX4_pays_82 rfl (lv_at hl 0 rfl) ?_
      refine mm_get (v := .ref (ad 30)) hx hb hT hH 30 (by decide) rfl q811 rfl dX4_pays_83 ?_
      refine lv_iload hx hb dX4_pays_86 (lv_at hl 4 rfl) ?_
      refine lv_iconst (v := 0) hx hb dX4_pays_88 (by decide) ?_
      refine mm_ist hx hb hT hH 30 (by decide) rfl i rfl (show i < 31 by omega) dX4_pays_89 (fun H locs hH => ?_)
      refine lv_iinc (v := nI (i + 1)) (lv' := [(4, .int (nI (i + 1))), (0, .ref (ad 0)), (1, .int (nI q)), (2, .int (nI z)), (3, .int co)]) hx hb dX4_pays_90 hl (k := 4) rfl (nI_add i 1) (by decide) rfl (fun ls hl => ?_)
      refine lv_goto (tgt := 75) hx hb dX4_pays_93 (by decide) ?_
      refine ih (i + 1) (mm_ar τ 30 i 0) (by omega) (by omega) ⟨hτ.1, fun j hj => (mm_ar_o hj).trans (hτ.2 j hj)⟩ (fun j hj => ?_) _ _ _ hH (lv_sub hl [1, 2, 3, 4, 0] rfl)
      by_cases e : j = i
      · subst e; exact mm_ar_s _ _ _ _
      · rw [mm_ar_n e]; exact hlo j (by omega)

set_option maxHeartbeats 1000000 in
set_option maxRecDepth 100000 in
theorem lp_X4_pays2 {p : Program} {l : Launch} {e : Env} {s : State} {m : MethodId} {args : Array Value} {below : List Frame} {meth : Method} {c : Code} {Q : State → Prop} {G : gw_G} {A : Nat → Prop} {H0 : Heap} {ad : Nat → Nat} (σ : mS) (q : Nat) (hq : q < 8) (z : Nat) (hz : z < 31) (co : Int32) {nS : Nat} (h17 : σ.1 17 = nI nS) (hS : nS ≤ 60) (ow : Nat → Nat) (hO : ∀ k, k < nS → σ.2 16 (7 * k + 3) = nI (ow k) ∧ ow k < 31) (X : gx_X RX4 cX4_pays 11 (some .int) G p s m args meth c) (K : ∀ τ : mS, pSame τ σ 30 → (∀ j, j < 31 → τ.2 30 j = pMof σ ow q nS j) → (∀ (H : Heap) (locs : List Loc) (ls : Array Slot), mm_H G A H0 H locs ad τ → lv_has ls 11 [(0, .ref (ad 0)), (1, .int (nI q)), (2, .int (nI z)), (3, .int co)] → W p l e (mm_rm 4) s m args below meth c H locs 0 0 Q (F0 m 173 ls []))) : ∀ (n : Nat) (i : Nat) (τ : mS), nS < i + n → i ≤ nS → pSame τ σ 30 → (∀ j, j < 31 → τ.2 30 j = pMof σ ow q i j) → ∀ (H : Heap) (locs : List Loc) (ls : Array Slot), mm_H G A H0 H locs ad τ → lv_has ls 11 [(0, .ref (ad 0)), (1, .int (nI q)), (2, .int (nI z)), (3, .int co), (4, .int (nI i))] → W p l e (mm_rm 4) s m args below meth c H locs 0 0 Q (F0 m 99 ls []) := by
  obtain ⟨hx, hb, hml, hT, hr, hlocks⟩ := id X
  intro n
  induction n with
  | zero =>
    intro i τ h0 hi hτ hlo
    exact absurd h0 (by omega)
  | succ n ih =>
    intro i τ h0 hi hτ hlo H locs ls hH hl
    refine lv_iload hx hb dX4_pays_99 (lv_at hl 4 rfl) ?_
    refine lv_aload_n hx hb dX4_pays_101 rfl (lv_at hl 0 rfl) ?_
    refine mm_get (v := .int (τ.1 17)) hx hb hT hH 17 (by decide) rfl q798 rfl dX4_pays_102 ?_
    refine lv_as ((congrFun hτ.1 17).trans h17) ?_
    refine lv_icmp_ge (tgt := 173) hx hb dX4_pays_105 (by decide) (fun c_105 => ?_) (fun c_105 => ?_)
    · skip
      have c_105 : nS ≤ i := (nI_leI (a := nS) (b := i) (by omega) (by omega)).mp c_105
      obtain rfl : nS = i := by omega
      exact K τ hτ hlo _ _ _ hH (lv_sub hl [0, 1, 2, 3] rfl)
    · skip
      have c_105 : ¬ (nS ≤ i) := fun h => c_105 ((nI_leI (a := nS) (b := i) (by omega) (by omega)).mpr h)
      refine lv_aload_n hx hb dX4_pays_108 rfl (lv_at hl 0 rfl) ?_
      refine mm_get (v := .ref (ad 16)) hx hb hT hH 16 (by decide) rfl q797 rfl dX4_pays_109 ?_
      refine lv_bipush (v := 7) hx hb dX4_pays_112 (by decide) ?_
      refine lv_iload hx hb dX4_pays_114 (lv_at hl 4 rfl) ?_
      refine lv_imul hx hb dX4_pays_116 ?_
      refine lv_as (pk_mul 7 i) ?_
      refine mm_ild (v := σ.2 16 (7 * i)) hx hb hT hH 16 (by decide) rfl (7 * i) rfl (show 7 * i < 420 by omega) (congrFun (hτ.2 16 (by decide)) _) dX4_pays_117 ?_
      refine lv_iload_n hx hb dX4_pays_118 rfl (lv_at hl 1 rfl) ?_
      refine lv_icmp_ne (tgt := 167) hx hb dX4_pays_119 (by decide) (fun c_119 => ?_) (fun c_119 => ?_)
      · skip
        refine lv_iinc (v := nI (i + 1)) (lv' := [(4, .int (nI (i + 1))), (0, .ref (ad 0)), (1, .int (nI q)), (2, .int (nI z)), (3, .int co)]) hx hb dX4_pays_167 hl (k := 4) rfl (nI_add i 1) (by decide) rfl (fun ls hl => ?_)
        refine lv_goto (tgt := 99) hx hb dX4_pays_170 (by decide) ?_
        exact ih (i + 1) τ (by omega) (by omega) hτ (fun j hj => by rw [pMof, if_neg c_119]; exact hlo j hj) _ _ _ hH (lv_sub hl [1, 2, 3, 4, 0] rfl)
      · skip
        have hOi := hO i (by omega)
        refine lv_aload_n hx hb dX4_pays_122 rfl (lv_at hl 0 rfl) ?_
        refine mm_get (v := .ref (ad 30)) hx hb hT hH 30 (by decide) rfl q811 rfl dX4_pays_123 ?_
        refine lv_aload_n hx hb dX4_pays_126 rfl (lv_at hl 0 rfl) ?_
        refine mm_get (v := .ref (ad 16)) hx hb hT hH 16 (by decide) rfl q797 rfl dX4_pays_127 ?_
        refine lv_bipush (v := 7) hx hb dX4_pays_130 (by decide) ?_
        refine lv_iload hx hb dX4_pays_132 (lv_at hl 4 rfl) ?_
        refine lv_imul hx hb dX4_pays_134 ?_
        refine lv_as (pk_mul 7 i) ?_
        refine lv_iconst (v := 3) hx hb dX4_pays_135 (by decide) ?_
        refine lv_iadd hx hb dX4_pays_136 ?_
        refine lv_as (nI_add (7 * i) 3) ?_
        refine mm_ild (v := nI (ow i)) hx hb hT hH 16 (by decide) rfl ((7 * i) + 3) rfl (show (7 * i) + 3 < 420 by omega) ((congrFun (hτ.2 16 (by decide)) _).trans hOi.1) dX4_pays_137 ?_
        refine lv_dup2_11 hx hb dX4_pays_138 rfl rfl ?_
        refine mm_ild (v := τ.2 30 (ow i)) hx hb hT hH 30 (by decide) rfl (ow i) rfl (show ow i < 31 by omega) rfl dX4_pays_139 ?_
        refine lv_aload_n hx hb dX4_pays_140 rfl (lv_at hl 0 rfl) ?_
        refine mm_get (v := .ref (ad 16)) hx hb hT hH 16 (by decide) rfl q797 rfl dX4_pays_141 ?_
        refine lv_bipush (v := 7) hx hb dX4_pays_144 (by decide) ?_
        refine lv_iload hx hb dX4_pays_146 (lv_at hl 4 rfl) ?_
        refine lv_imul hx hb dX4_pays_148 ?_
        refine lv_as (pk_mul 7 i) ?_
        refine lv_iconst (v := 2) hx hb dX4_pays_149 (by decide) ?_
        refine lv_iadd hx hb dX4_pays_150 ?_
        refine lv_as (nI_add (7 * i) 2) ?_
        refine mm_ild (v := σ.2 16 (7 * i + 2)) hx hb hT hH 16 (by decide) rfl ((7 * i) + 2) rfl (show (7 * i) + 2 < 420 by omega) (congrFun (hτ.2 16 (by decide)) _) dX4_pays_151 ?_
        refine lv_aload_n hx hb dX4_pays_152 rfl (lv_at hl 0 rfl) ?_
        refine mm_get (v := .ref (ad 16)) hx hb hT hH 16 (by decide) rfl q797 rfl dX4_pays_153 ?_
        refine lv_bipush (v := 7) hx hb dX4_pays_156 (by decide) ?_
        refine lv_iload hx hb dX4_pays_158 (lv_at hl 4 rfl) ?_
        refine lv_imul hx hb dX4_pays_160 ?_
        refine lv_as (pk_mul 7 i) ?_
        refine lv_iconst (v := 1) hx hb dX4_pays_161 (by decide) ?_
        refine lv_iadd hx hb dX4_pays_162 ?_
        refine lv_as (nI_add (7 * i) 1) ?_
        refine mm_ild (v := σ.2 16 (7 * i + 1)) hx hb hT hH 16 (by decide) rfl ((7 * i) + 1) rfl (show (7 * i) + 1 < 420 by omega) (congrFun (hτ.2 16 (by decide)) _) dX4_pays_163 ?_
        refine lv_isub hx hb dX4_pays_164 ?_
        refine lv_iadd hx hb dX4_pays_165 ?_
        refine mm_ist hx hb hT hH 30 (by decide) rfl (ow i) rfl (show ow i < 31 by omega) dX4_pays_166 (fun H locs hH => ?_)
        refine lv_iinc (v := nI (i + 1)) (lv' := [(4, .int (nI (i + 1))), (0, .ref (ad 0)), (1, .int (nI q)), (2, .int (nI z)), (3, .int co)]) hx hb dX4_pays_167 hl (k := 4) rfl (nI_add i 1) (by decide) rfl (fun ls hl => ?_)
        refine lv_goto (tgt := 99) hx hb dX4_pays_170 (by decide) ?_
        refine ih (i + 1) (mm_ar τ 30 (ow i) ((τ.2 30 (ow i)) + ((σ.2 16 (7 * i + 2)) - (σ.2 16 (7 * i + 1))))) (by omega) (by omega) ⟨hτ.1, fun j hj => (mm_ar_o hj).trans (hτ.2 j hj)⟩ ?_ _ _ _ hH (lv_sub hl [1, 2, 3, 4, 0] rfl)
        rw [pMof, if_pos c_119]
        intro j hj
        have e0 := hlo (ow i) (hO i (by omega)).2
        by_cases e : j = ow i
        · subst e
          rw [mm_ar_s, pk_us, e0]
        · rw [mm_ar_n e, pk_un e]; exact hlo j hj

set_option maxHeartbeats 1000000 in
set_option maxRecDepth 100000 in
theorem lp_X4_pays3 {p : Program} {l : Launch} {e : Env} {s : State} {m : MethodId} {args : Array Value} {below : List Frame} {meth : Method} {c : Code} {Q : State → Prop} {G : gw_G} {A : Nat → Prop} {H0 : Heap} {ad : Nat → Nat} (σ : mS) (q : Nat) (hq : q < 8) (z : Nat) (hz : z < 31) (co : Int32) (X : gx_X RX4 cX4_pays 11 (some .int) G p s m args meth c) (K : (∀ (H : Heap) (locs : List Loc) (ls : Array Slot), mm_H G A H0 H locs ad σ → lv_has ls 11 [(0, .ref (ad 0)), (1, .int (nI q)), (2, .int (nI z)), (3, .int co), (4, .int (nI (pHd (σ.2 30) 31))), (5, .int (nI (pAh (σ.2 30) z 31)))] → W p l e (mm_rm 4) s m args below meth c H locs 0 0 Q (F0 m 238 ls []))) : ∀ (n : Nat) (i : Nat), 31 < i + n → i ≤ 31 → ∀ (H : Heap) (locs : List Loc) (ls : Array Slot), mm_H G A H0 H locs ad σ → lv_has ls 11 [(0, .ref (ad 0)), (1, .int (nI q)), (2, .int (nI z)), (3, .int co), (4, .int (nI (pHd (σ.2 30) i))), (5, .int (nI (pAh (σ.2 30) z i))), (6, .int (nI i))] → W p l e (mm_rm 4) s m args below meth c H locs 0 0 Q (F0 m 193 ls []) := by
  obtain ⟨hx, hb, hml, hT, hr, hlocks⟩ := id X
  intro n
  induction n with
  | zero =>
    intro i h0 hi
    exact absurd h0 (by omega)
  | succ n ih =>
    intro i h0 hi H locs ls hH hl
    have hH3 := pHd_le (σ.2 30) i
    have hA3 := pAh_le (σ.2 30) z i
    refine lv_iload hx hb dX4_pays_193 (lv_at hl 6 rfl) ?_
    refine lv_bipush (v := 31) hx hb dX4_pays_195 (by decide) ?_
    refine lv_icmp_ge (tgt := 238) hx hb dX4_pays_197 (by decide) (fun c_197 => ?_) (fun c_197 => ?_)
    · skip
      have c_197 : 31 ≤ i := (nI_leI (a := 31) (b := i) (by omega) (by omega)).mp c_197
      obtain rfl : i = 31 := by omega
      exact K _ _ _ hH (lv_sub hl [0, 1, 2, 3, 4, 5] rfl)
    · skip
      have c_197 : ¬ (31 ≤ i) := fun h => c_197 ((nI_leI (a := 31) (b := i) (by omega) (by omega)).mpr h)
      refine lv_aload_n hx hb dX4_pays_200 rfl (lv_at hl 0 rfl) ?_
      refine mm_get (v := .ref (ad 30)) hx hb hT hH 30 (by decide) rfl q811 rfl dX4_pays_201 ?_
      refine lv_iload hx hb dX4_pays_204 (lv_at hl 6 rfl) ?_
      refine mm_ild (v := σ.2 30 i) hx hb hT hH 30 (by decide) rfl i rfl (show i < 31 by omega) rfl dX4_pays_206 ?_
      refine lv_if_ne (tgt := 213) hx hb dX4_pays_207 (by decide) (fun c_207 => ?_) (fun c_207 => ?_)
      · skip
        refine lv_iinc (v := nI (pHd (σ.2 30) i + 1)) (lv' := [(4, .int (nI (pHd (σ.2 30) i + 1))), (0, .ref (ad 0)), (1, .int (nI q)), (2, .int (nI z)), (3, .int co), (5, .int (nI (pAh (σ.2 30) z i))), (6, .int (nI i))]) hx hb dX4_pays_213 hl (k := 4) rfl (nI_add (pHd (σ.2 30) i) 1) (by decide) rfl (fun ls hl => ?_)
        refine lv_iload hx hb dX4_pays_216 (lv_at hl 5 rfl) ?_
        refine lv_iload hx hb dX4_pays_218 (lv_at hl 6 rfl) ?_
        refine lv_iload_n hx hb dX4_pays_220 rfl (lv_at hl 3 rfl) ?_
        refine lv_icmp_ge (tgt := 228) hx hb dX4_pays_221 (by decide) (fun c_221 => ?_) (fun c_221 => ?_)
        · skip
          have c_221 : z ≤ i := (nI_leI (a := z) (b := i) (by omega) (by omega)).mp c_221
          refine lv_iconst (v := 0) hx hb dX4_pays_228 (by decide) ?_
          refine lv_iadd hx hb dX4_pays_229 ?_
          refine lv_as (nI_add (pAh (σ.2 30) z i) 0) ?_
          refine lv_istore (lv' := [(5, .int (nI ((pAh (σ.2 30) z i) + 0))), (4, .int (nI (pHd (σ.2 30) i + 1))), (0, .ref (ad 0)), (1, .int (nI q)), (2, .int (nI z)), (3, .int co), (6, .int (nI i))]) hx hb dX4_pays_230 hl (by decide) rfl (fun ls hl => ?_)
          refine lv_iinc (v := nI (i + 1)) (lv' := [(6, .int (nI (i + 1))), (5, .int (nI ((pAh (σ.2 30) z i) + 0))), (4, .int (nI (pHd (σ.2 30) i + 1))), (0, .ref (ad 0)), (1, .int (nI q)), (2, .int (nI z)), (3, .int co)]) hx hb dX4_pays_232 hl (k := 6) rfl (nI_add i 1) (by decide) rfl (fun ls hl => ?_)
          refine lv_goto (tgt := 193) hx hb dX4_pays_235 (by decide) ?_
          have e4 : pHd (σ.2 30) (i + 1) = pHd (σ.2 30) i + 1 := by rw [pHd, if_neg c_207]
          have e5 : pAh (σ.2 30) z (i + 1) = (pAh (σ.2 30) z i) + 0 := by rw [pAh, if_neg (fun h => by omega)]
          have hl := lv_sub (l' := [(0, .ref (ad 0)), (1, .int (nI q)), (2, .int (nI z)), (3, .int co), (4, .int (nI (pHd (σ.2 30) i + 1))), (5, .int (nI ((pAh (σ.2 30) z i) + 0))), (6, .int (nI (i + 1)))]) hl [3, 4, 5, 6, 2, 1, 0] rfl
          rw [← e4, ← e5] at hl
          exact ih (i + 1) (by omega) (by omega) _ _ _ hH hl
        · skip
          have c_221 : ¬ (z ≤ i) := fun h => c_221 ((nI_leI (a := z) (b := i) (by omega) (by omega)).mpr h)
          refine lv_iconst (v := 1) hx hb dX4_pays_224 (by decide) ?_
          refine lv_goto (tgt := 229) hx hb dX4_pays_225 (by decide) ?_
          refine lv_iadd hx hb dX4_pays_229 ?_
          refine lv_as (nI_add (pAh (σ.2 30) z i) 1) ?_
          refine lv_istore (lv' := [(5, .int (nI ((pAh (σ.2 30) z i) + 1))), (4, .int (nI (pHd (σ.2 30) i + 1))), (0, .ref (ad 0)), (1, .int (nI q)), (2, .int (nI z)), (3, .int co), (6, .int (nI i))]) hx hb dX4_pays_230 hl (by decide) rfl (fun ls hl => ?_)
          refine lv_iinc (v := nI (i + 1)) (lv' := [(6, .int (nI (i + 1))), (5, .int (nI ((pAh (σ.2 30) z i) + 1))), (4, .int (nI (pHd (σ.2 30) i + 1))), (0, .ref (ad 0)), (1, .int (nI q)), (2, .int (nI z)), (3, .int co)]) hx hb dX4_pays_232 hl (k := 6) rfl (nI_add i 1) (by decide) rfl (fun ls hl => ?_)
          refine lv_goto (tgt := 193) hx hb dX4_pays_235 (by decide) ?_
          have e4 : pHd (σ.2 30) (i + 1) = pHd (σ.2 30) i + 1 := by rw [pHd, if_neg c_207]
          have e5 : pAh (σ.2 30) z (i + 1) = (pAh (σ.2 30) z i) + 1 := by rw [pAh, if_pos ⟨c_207, by omega⟩]
          have hl := lv_sub (l' := [(0, .ref (ad 0)), (1, .int (nI q)), (2, .int (nI z)), (3, .int co), (4, .int (nI (pHd (σ.2 30) i + 1))), (5, .int (nI ((pAh (σ.2 30) z i) + 1))), (6, .int (nI (i + 1)))]) hl [3, 4, 5, 6, 2, 1, 0] rfl
          rw [← e4, ← e5] at hl
          exact ih (i + 1) (by omega) (by omega) _ _ _ hH hl
      · skip
        refine lv_goto (tgt := 232) hx hb dX4_pays_210 (by decide) ?_
        refine lv_iinc (v := nI (i + 1)) (lv' := [(6, .int (nI (i + 1))), (0, .ref (ad 0)), (1, .int (nI q)), (2, .int (nI z)), (3, .int co), (4, .int (nI (pHd (σ.2 30) i))), (5, .int (nI (pAh (σ.2 30) z i)))]) hx hb dX4_pays_232 hl (k := 6) rfl (nI_add i 1) (by decide) rfl (fun ls hl => ?_)
        refine lv_goto (tgt := 193) hx hb dX4_pays_235 (by decide) ?_
        have e4 : pHd (σ.2 30) (i + 1) = pHd (σ.2 30) i := by rw [pHd, if_pos c_207]; rfl
        have e5 : pAh (σ.2 30) z (i + 1) = pAh (σ.2 30) z i := by rw [pAh, if_neg (fun h => h.1 c_207)]; rfl
        have hl := lv_sub (l' := [(0, .ref (ad 0)), (1, .int (nI q)), (2, .int (nI z)), (3, .int co), (4, .int (nI (pHd (σ.2 30) i))), (5, .int (nI (pAh (σ.2 30) z i))), (6, .int (nI (i + 1)))]) hl [1, 2, 3, 4, 5, 6, 0] rfl
        rw [← e4, ← e5] at hl
        exact ih (i + 1) (by omega) (by omega) _ _ _ hH hl

set_option maxHeartbeats 1000000 in
set_option maxRecDepth 100000 in
theorem lp_X4_pays4 {p : Program} {l : Launch} {e : Env} {s : State} {m : MethodId} {args : Array Value} {below : List Frame} {meth : Method} {c : Code} {Q : State → Prop} {G : gw_G} {A : Nat → Prop} {H0 : Heap} {ad : Nat → Nat} (σ : mS) (q : Nat) (hq : q < 8) (z : Nat) (hz : z < 31) (co : Int32) (r : Int64) (hhd : ¬ nI (pHd (σ.2 30) 31) = 0) (ht9 : ¬ σ.2 9 q = 0) (X : gx_X RX4 cX4_pays 11 (some .int) G p s m args meth c) (K : (∀ (H : Heap) (locs : List Loc) (ls : Array Slot), mm_H G A H0 H locs ad σ → lv_has ls 11 [(0, .ref (ad 0)), (1, .int (nI q)), (2, .int (nI z)), (4, .int (nI (pHd (σ.2 30) 31))), (5, .int (nI (pAh (σ.2 30) z 31))), (6, .long r), (8, .long (pLf (σ.2 30) (σ.2 21 2) (σ.2 9 q) (pHd (σ.2 30) 31) r 31))] → W p l e (mm_rm 4) s m args below meth c H locs 0 0 Q (F0 m 303 ls []))) : ∀ (n : Nat) (i : Nat), 31 < i + n → i ≤ 31 → ∀ (H : Heap) (locs : List Loc) (ls : Array Slot), mm_H G A H0 H locs ad σ → lv_has ls 11 [(0, .ref (ad 0)), (1, .int (nI q)), (2, .int (nI z)), (4, .int (nI (pHd (σ.2 30) 31))), (5, .int (nI (pAh (σ.2 30) z 31))), (6, .long r), (8, .long (pLf (σ.2 30) (σ.2 21 2) (σ.2 9 q) (pHd (σ.2 30) 31) r i)), (10, .int (nI i))] → W p l e (mm_rm 4) s m args below meth c H locs 0 0 Q (F0 m 264 ls []) := by
  obtain ⟨hx, hb, hml, hT, hr, hlocks⟩ := id X
  intro n
  induction n with
  | zero =>
    intro i h0 hi
    exact absurd h0 (by omega)
  | succ n ih =>
    intro i h0 hi H locs ls hH hl
    refine lv_iload hx hb dX4_pays_264 (lv_at hl 7 rfl) ?_
    refine lv_bipush (v := 31) hx hb dX4_pays_266 (by decide) ?_
    refine lv_icmp_ge (tgt := 303) hx hb dX4_pays_268 (by decide) (fun c_268 => ?_) (fun c_268 => ?_)
    · skip
      have c_268 : 31 ≤ i := (nI_leI (a := 31) (b := i) (by omega) (by omega)).mp c_268
      obtain rfl : i = 31 := by omega
      exact K _ _ _ hH (lv_sub hl [0, 1, 2, 3, 4, 5, 6] rfl)
    · skip
      have c_268 : ¬ (31 ≤ i) := fun h => c_268 ((nI_leI (a := 31) (b := i) (by omega) (by omega)).mpr h)
      refine lv_aload_n hx hb dX4_pays_271 rfl (lv_at hl 0 rfl) ?_
      refine mm_get (v := .ref (ad 30)) hx hb hT hH 30 (by decide) rfl q811 rfl dX4_pays_272 ?_
      refine lv_iload hx hb dX4_pays_275 (lv_at hl 7 rfl) ?_
      refine mm_ild (v := σ.2 30 i) hx hb hT hH 30 (by decide) rfl i rfl (show i < 31 by omega) rfl dX4_pays_277 ?_
      refine lv_if_le (tgt := 297) hx hb dX4_pays_278 (by decide) (fun c_278 => ?_) (fun c_278 => ?_)
      · skip
        refine lv_iinc (v := nI (i + 1)) (lv' := [(10, .int (nI (i + 1))), (0, .ref (ad 0)), (1, .int (nI q)), (2, .int (nI z)), (4, .int (nI (pHd (σ.2 30) 31))), (5, .int (nI (pAh (σ.2 30) z 31))), (6, .long r), (8, .long (pLf (σ.2 30) (σ.2 21 2) (σ.2 9 q) (pHd (σ.2 30) 31) r i))]) hx hb dX4_pays_297 hl (k := 7) rfl (nI_add i 1) (by decide) rfl (fun ls hl => ?_)
        refine lv_goto (tgt := 264) hx hb dX4_pays_300 (by decide) ?_
        have hl := lv_sub (l' := [(0, .ref (ad 0)), (1, .int (nI q)), (2, .int (nI z)), (4, .int (nI (pHd (σ.2 30) 31))), (5, .int (nI (pAh (σ.2 30) z 31))), (6, .long r), (8, .long (pLf (σ.2 30) (σ.2 21 2) (σ.2 9 q) (pHd (σ.2 30) 31) r i)), (10, .int (nI (i + 1)))]) hl [1, 2, 3, 4, 5, 6, 7, 0] rfl
        rw [show pLf (σ.2 30) (σ.2 21 2) (σ.2 9 q) (pHd (σ.2 30) 31) r i = pLf (σ.2 30) (σ.2 21 2) (σ.2 9 q) (pHd (σ.2 30) 31) r (i + 1) from (by rw [pLf, if_neg (Int32.not_lt.mpr c_278)])] at hl
        exact ih (i + 1) (by omega) (by omega) _ _ _ hH hl
      · skip
        refine lv_lload hx hb dX4_pays_281 (lv_at hl 6 rfl) ?_
        refine lv_aload_n hx hb dX4_pays_283 rfl (lv_at hl 0 rfl) ?_
        refine lv_lload hx hb dX4_pays_284 (lv_at hl 5 rfl) ?_
        refine lv_iload hx hb dX4_pays_286 (lv_at hl 7 rfl) ?_
        refine lv_iload_n hx hb dX4_pays_288 rfl (lv_at hl 1 rfl) ?_
        refine lv_iload hx hb dX4_pays_289 (lv_at hl 3 rfl) ?_
        refine mm_cVl (n := 4) (c_X4_portion l σ r i q (pHd (σ.2 30) 31) (by omega) (by omega) hhd ht9) hx hb hml hT hH (lw_V q1079 q1081 qs31 q39 q1082) (by decide +kernel) ⟨Nat.le_of_ble_eq_true rfl, Nat.le_of_ble_eq_true rfl⟩ rfl hl.1 rfl (Nat.le_of_ble_eq_true rfl) dX4_pays_291 ⟨Nat.le_refl _, Nat.le_refl _⟩ (fun r_291 u_291 H locs hp_291 hH => ?_)
        obtain ⟨rfl, rfl⟩ := hp_291
        refine lv_lsub hx hb dX4_pays_294 ?_
        refine lv_asl (z := pLf (σ.2 30) (σ.2 21 2) (σ.2 9 q) (pHd (σ.2 30) 31) r (i + 1)) (by rw [pLf, if_pos (in_lt c_278)]) ?_
        refine lv_lstore (lv' := [(8, .long (pLf (σ.2 30) (σ.2 21 2) (σ.2 9 q) (pHd (σ.2 30) 31) r (i + 1))), (0, .ref (ad 0)), (1, .int (nI q)), (2, .int (nI z)), (4, .int (nI (pHd (σ.2 30) 31))), (5, .int (nI (pAh (σ.2 30) z 31))), (6, .long r), (10, .int (nI i))]) hx hb dX4_pays_295 hl (by decide) rfl (fun ls hl => ?_)
        refine lv_iinc (v := nI (i + 1)) (lv' := [(10, .int (nI (i + 1))), (8, .long (pLf (σ.2 30) (σ.2 21 2) (σ.2 9 q) (pHd (σ.2 30) 31) r (i + 1))), (0, .ref (ad 0)), (1, .int (nI q)), (2, .int (nI z)), (4, .int (nI (pHd (σ.2 30) 31))), (5, .int (nI (pAh (σ.2 30) z 31))), (6, .long r)]) hx hb dX4_pays_297 hl (k := 7) rfl (nI_add i 1) (by decide) rfl (fun ls hl => ?_)
        refine lv_goto (tgt := 264) hx hb dX4_pays_300 (by decide) ?_
        exact ih (i + 1) (by omega) (by omega) _ _ _ hH (lv_sub hl [2, 3, 4, 5, 6, 7, 1, 0] rfl)

set_option maxHeartbeats 1000000 in
set_option maxRecDepth 100000 in
theorem c_X4_pays (l : Launch) (σ : mS) (v o co : Int32) {nC : Nat} {nW : Nat → Nat} (h10 : σ.1 10 = nI nC) (hC : nC ≤ 8) (h5 : ∀ c, c < 8 → σ.2 5 c = nI (nW c)) (hW : ∀ c, c < 8 → nW c ≤ 20) (h6 : ∀ c, c < 8 → σ.2 6 c = 0 ∨ σ.2 6 c = 1) {nS : Nat} (h17 : σ.1 17 = nI nS) (hS : nS ≤ 60) (h9 : ∀ c, c < 8 → σ.2 6 c = 1 → ¬ σ.2 9 c = 0) (ow : Nat → Nat) (hO : ∀ k, k < nS → σ.2 16 (7 * k + 3) = nI (ow k) ∧ ow k < 31) : mm_Ci l yX4_pays cX4_pays 11 (some .int) 4 [.int v, .int o, .int co] σ (fun r u => ((¬ ∃ k, k < nC ∧ nI k = v) ∧ pSame u (mm_st (mm_st σ 0 0) 0 1) 30 ∧ 1 = u.1 0 ∧ 0 = r) ∨ ∃ k, k < nC ∧ nI k = v ∧ ((σ.2 6 k = 0 ∧ pSame u (mm_st (mm_st σ 0 0) 0 2) 30 ∧ 2 = u.1 0 ∧ 0 = r) ∨ (σ.2 6 k = 1 ∧ ((¬ ((0 ≤ o ∧ o ≤ 30) ∧ (0 ≤ co ∧ co ≤ 1000000)) ∧ pSame u (mm_st (mm_st σ 0 0) 0 3) 30 ∧ 3 = u.1 0 ∧ 0 = r) ∨ (((0 ≤ o ∧ o ≤ 30) ∧ (0 ≤ co ∧ co ≤ 1000000)) ∧ ∃ z, z < 31 ∧ nI z = o ∧ pSame u (mm_st σ 0 0) 30 ∧ (if pMof σ ow k nS z = 0 then 0 else pPay (pMof σ ow k nS) (σ.2 21 2) (σ.2 21 3) (σ.2 9 k) co z) = r))))) := by
  refine mm_ofi (by decide) rfl (Nat.le_of_ble_eq_true rfl) ?_
  intro p e s m args below meth c G A ad ls X hH hl
  obtain ⟨hx, hb, hml, hT, hr, hlocks⟩ := id X
  have hl : lv_has ls 11 [(0, .ref (ad 0)), (1, .int v), (2, .int o), (3, .int co)] := hl
  refine lv_aload_n hx hb dX4_pays_0 rfl (lv_at hl 0 rfl) ?_
  refine lv_iconst (v := 0) hx hb dX4_pays_1 (by decide) ?_
  refine mm_put hx hb hT hH 0 (by decide) (by decide) rfl rfl q781 rfl dX4_pays_2 (fun H locs hH => ?_)
  refine lv_aload_n hx hb dX4_pays_5 rfl (lv_at hl 0 rfl) ?_
  refine lv_aload_n hx hb dX4_pays_6 rfl (lv_at hl 0 rfl) ?_
  refine lv_iload_n hx hb dX4_pays_7 rfl (lv_at hl 1 rfl) ?_
  refine mm_cVi (n := 1) (c_X4_noChannel l (mm_st σ 0 0) v (nC := nC) h10 hC) hx hb hml hT hH (lw_V q914 q916 qs14 q39 q917) (by decide +kernel) ⟨Nat.le_of_ble_eq_true rfl, Nat.le_of_ble_eq_true rfl⟩ rfl hl.1 rfl (Nat.le_of_ble_eq_true rfl) dX4_pays_8 ⟨Nat.le_refl _, Nat.le_refl _⟩ (fun r_8 u_8 H locs hp_8 hH => ?_)
  obtain ⟨rfl, hp_8⟩ := hp_8
  rcases hp_8 with ⟨rfl, h_8⟩ | ⟨rfl, h_8⟩
  · skip
    refine lv_iconst (v := 1) hx hb dX4_pays_11 (by decide) ?_
    refine mm_cVi (n := 2) (c_X4_throwsIf1 l (mm_st σ 0 0) 1) hx hb hml hT hH (lw_V q902 q904 qs13 q39 q905) (by decide +kernel) ⟨Nat.le_of_ble_eq_true rfl, Nat.le_of_ble_eq_true rfl⟩ rfl hl.1 rfl (Nat.le_of_ble_eq_true rfl) dX4_pays_12 ⟨Nat.le_refl _, Nat.le_refl _⟩ (fun r_12 u_12 H locs hp_12 hH => ?_)
    obtain ⟨rfl, rfl⟩ := hp_12
    refine lv_if_ne (tgt := 70) hx hb dX4_pays_15 (by decide) (fun c_15 => ?_) (fun c_15 => ?_)
    · skip
      refine lv_iconst (v := 0) hx hb dX4_pays_70 (by decide) ?_
      exact mm_ri hx hb hr hlocks hT hH rfl dX4_pays_71 (Or.inl ⟨h_8, ⟨rfl, fun j hj => rfl⟩, rfl, rfl⟩)
    · skip
      exact absurd c_15 (by decide)
  · skip
    obtain ⟨k, hk, rfl⟩ := h_8
    refine lv_iconst (v := 1) hx hb dX4_pays_11 (by decide) ?_
    refine mm_cVi (n := 2) (c_X4_throwsIf0 l (mm_st σ 0 0) 1) hx hb hml hT hH (lw_V q902 q904 qs13 q39 q905) (by decide +kernel) ⟨Nat.le_of_ble_eq_true rfl, Nat.le_of_ble_eq_true rfl⟩ rfl hl.1 rfl (Nat.le_of_ble_eq_true rfl) dX4_pays_12 ⟨Nat.le_refl _, Nat.le_refl _⟩ (fun r_12 u_12 H locs hp_12 hH => ?_)
    obtain ⟨rfl, rfl⟩ := hp_12
    refine lv_if_ne (tgt := 70) hx hb dX4_pays_15 (by decide) (fun c_15 => ?_) (fun c_15 => ?_)
    · skip
      exact absurd c_15 (by decide)
    · skip
      refine lv_aload_n hx hb dX4_pays_18 rfl (lv_at hl 0 rfl) ?_
      refine lv_aload_n hx hb dX4_pays_19 rfl (lv_at hl 0 rfl) ?_
      refine mm_get (v := .ref (ad 6)) hx hb hT hH 6 (by decide) rfl q787 rfl dX4_pays_20 ?_
      refine lv_iload_n hx hb dX4_pays_23 rfl (lv_at hl 1 rfl) ?_
      refine mm_zld (v := σ.2 6 k) hx hb hT hH 6 (by decide) rfl k rfl (show k < 8 by omega) rfl dX4_pays_24 ?_
      rcases h6 k (by omega) with k_24 | k_24
      · refine lv_as k_24 ?_
        refine lv_if_ne (tgt := 32) hx hb dX4_pays_25 (by decide) (fun c_25 => ?_) (fun c_25 => ?_)
        · skip
          exact absurd c_25 (by decide)
        · skip
          refine lv_iconst (v := 1) hx hb dX4_pays_28 (by decide) ?_
          refine lv_goto (tgt := 33) hx hb dX4_pays_29 (by decide) ?_
          refine lv_iconst (v := 2) hx hb dX4_pays_33 (by decide) ?_
          refine mm_cVi (n := 2) (c_X4_throwsIf1 l (mm_st σ 0 0) 2) hx hb hml hT hH (lw_V q902 q904 qs13 q39 q905) (by decide +kernel) ⟨Nat.le_of_ble_eq_true rfl, Nat.le_of_ble_eq_true rfl⟩ rfl hl.1 rfl (Nat.le_of_ble_eq_true rfl) dX4_pays_34 ⟨Nat.le_refl _, Nat.le_refl _⟩ (fun r_34 u_34 H locs hp_34 hH => ?_)
          obtain ⟨rfl, rfl⟩ := hp_34
          refine lv_if_ne (tgt := 70) hx hb dX4_pays_37 (by decide) (fun c_37 => ?_) (fun c_37 => ?_)
          · skip
            refine lv_iconst (v := 0) hx hb dX4_pays_70 (by decide) ?_
            exact mm_ri hx hb hr hlocks hT hH rfl dX4_pays_71 (Or.inr ⟨k, hk, rfl, Or.inl ⟨k_24, ⟨rfl, fun j hj => rfl⟩, rfl, rfl⟩⟩)
          · skip
            exact absurd c_37 (by decide)
      · refine lv_as k_24 ?_
        refine lv_if_ne (tgt := 32) hx hb dX4_pays_25 (by decide) (fun c_25 => ?_) (fun c_25 => ?_)
        · skip
          refine lv_iconst (v := 0) hx hb dX4_pays_32 (by decide) ?_
          refine lv_iconst (v := 2) hx hb dX4_pays_33 (by decide) ?_
          refine mm_cVi (n := 2) (c_X4_throwsIf0 l (mm_st σ 0 0) 2) hx hb hml hT hH (lw_V q902 q904 qs13 q39 q905) (by decide +kernel) ⟨Nat.le_of_ble_eq_true rfl, Nat.le_of_ble_eq_true rfl⟩ rfl hl.1 rfl (Nat.le_of_ble_eq_true rfl) dX4_pays_34 ⟨Nat.le_refl _, Nat.le_refl _⟩ (fun r_34 u_34 H locs hp_34 hH => ?_)
          obtain ⟨rfl, rfl⟩ := hp_34
          refine lv_if_ne (tgt := 70) hx hb dX4_pays_37 (by decide) (fun c_37 => ?_) (fun c_37 => ?_)
          · skip
            exact absurd c_37 (by decide)
          · skip
            refine lv_aload_n hx hb dX4_pays_40 rfl (lv_at hl 0 rfl) ?_
            refine lv_iload_n hx hb dX4_pays_41 rfl (lv_at hl 2 rfl) ?_
            refine ss_ci (n := 1) (c_X4_noOwner l o) hx hb hml hT.1 hT.2.1 (lw_S q996 q997 q39 q998) (by decide +kernel) ⟨Nat.le_of_ble_eq_true rfl, Nat.le_of_ble_eq_true rfl⟩ rfl hl.1 rfl (Nat.le_of_ble_eq_true rfl) dX4_pays_42 ⟨Nat.le_refl _, Nat.le_refl _⟩ (fun r_42 hp_42 => ?_)
            rcases hp_42 with ⟨rfl, h_42⟩ | ⟨rfl, h_42⟩
            · skip
              refine lv_if_ne (tgt := 58) hx hb dX4_pays_45 (by decide) (fun c_45 => ?_) (fun c_45 => ?_)
              · skip
                refine lv_iconst (v := 1) hx hb dX4_pays_58 (by decide) ?_
                refine lv_goto (tgt := 63) hx hb dX4_pays_59 (by decide) ?_
                refine lv_iconst (v := 3) hx hb dX4_pays_63 (by decide) ?_
                refine mm_cVi (n := 2) (c_X4_throwsIf1 l (mm_st σ 0 0) 3) hx hb hml hT hH (lw_V q902 q904 qs13 q39 q905) (by decide +kernel) ⟨Nat.le_of_ble_eq_true rfl, Nat.le_of_ble_eq_true rfl⟩ rfl hl.1 rfl (Nat.le_of_ble_eq_true rfl) dX4_pays_64 ⟨Nat.le_refl _, Nat.le_refl _⟩ (fun r_64 u_64 H locs hp_64 hH => ?_)
                obtain ⟨rfl, rfl⟩ := hp_64
                refine lv_if_eq (tgt := 72) hx hb dX4_pays_67 (by decide) (fun c_67 => ?_) (fun c_67 => ?_)
                · skip
                  exact absurd c_67 (by decide)
                · skip
                  refine lv_iconst (v := 0) hx hb dX4_pays_70 (by decide) ?_
                  exact mm_ri hx hb hr hlocks hT hH rfl dX4_pays_71 (Or.inr ⟨k, hk, rfl, Or.inr ⟨k_24, Or.inl ⟨fun g => h_42 g.1, ⟨rfl, fun j hj => rfl⟩, rfl, rfl⟩⟩⟩)
              · skip
                exact absurd c_45 (by decide)
            · skip
              refine lv_if_ne (tgt := 58) hx hb dX4_pays_45 (by decide) (fun c_45 => ?_) (fun c_45 => ?_)
              · skip
                exact absurd c_45 (by decide)
              · skip
                refine lv_iload_n hx hb dX4_pays_48 rfl (lv_at hl 3 rfl) ?_
                refine lv_iconst (v := 0) hx hb dX4_pays_49 (by decide) ?_
                refine lv_ldc (v := 1000000) hx hb hT.1 (hT.2.1 _ q1077) dX4_pays_50 ?_
                refine ss_ci (n := 3) (c_X4_in l co 0 1000000) hx hb hml hT.1 hT.2.1 (lw_S q899 q900 q39 q901) (by decide +kernel) ⟨Nat.le_of_ble_eq_true rfl, Nat.le_of_ble_eq_true rfl⟩ rfl hl.1 rfl (Nat.le_of_ble_eq_true rfl) dX4_pays_52 ⟨Nat.le_refl _, Nat.le_refl _⟩ (fun r_52 hp_52 => ?_)
                rcases hp_52 with ⟨rfl, h_52⟩ | ⟨rfl, h_52⟩
                · skip
                  refine lv_if_ne (tgt := 62) hx hb dX4_pays_55 (by decide) (fun c_55 => ?_) (fun c_55 => ?_)
                  · skip
                    refine lv_iconst (v := 0) hx hb dX4_pays_62 (by decide) ?_
                    refine lv_iconst (v := 3) hx hb dX4_pays_63 (by decide) ?_
                    refine mm_cVi (n := 2) (c_X4_throwsIf0 l (mm_st σ 0 0) 3) hx hb hml hT hH (lw_V q902 q904 qs13 q39 q905) (by decide +kernel) ⟨Nat.le_of_ble_eq_true rfl, Nat.le_of_ble_eq_true rfl⟩ rfl hl.1 rfl (Nat.le_of_ble_eq_true rfl) dX4_pays_64 ⟨Nat.le_refl _, Nat.le_refl _⟩ (fun r_64 u_64 H locs hp_64 hH => ?_)
                    obtain ⟨rfl, rfl⟩ := hp_64
                    refine lv_if_eq (tgt := 72) hx hb dX4_pays_67 (by decide) (fun c_67 => ?_) (fun c_67 => ?_)
                    · skip
                      obtain ⟨z, hz, rfl⟩ := (in_rg (n := 31) (by decide) o).mp h_42
                      refine lv_iconst (v := 0) hx hb dX4_pays_72 (by decide) ?_
                      refine lv_istore (lv' := [(4, .int 0), (0, .ref (ad 0)), (1, .int (nI k)), (2, .int (nI z)), (3, .int co)]) hx hb dX4_pays_73 hl (by decide) rfl (fun ls hl => ?_)
                      refine lp_X4_pays1 (mm_st σ 0 0) k (by omega) z (by omega) co X ?_ 32 0 (mm_st σ 0 0) (by omega) (Nat.zero_le _) ⟨rfl, fun j hj => rfl⟩ (fun j hj => absurd hj (Nat.not_lt_zero j)) _ _ _ hH (lv_sub hl [1, 2, 3, 4, 0] rfl)
                      intro τ0 hτ0 hlo0 H locs ls hH hl
                      refine lv_iconst (v := 0) hx hb dX4_pays_96 (by decide) ?_
                      refine lv_istore (lv' := [(4, .int 0), (0, .ref (ad 0)), (1, .int (nI k)), (2, .int (nI z)), (3, .int co)]) hx hb dX4_pays_97 hl (by decide) rfl (fun ls hl => ?_)
                      refine lp_X4_pays2 (mm_st σ 0 0) k (by omega) z (by omega) co (nS := nS) h17 hS ow hO X ?_ (nS + 1) 0 τ0 (by omega) (Nat.zero_le _) hτ0 (fun j hj => hlo0 j hj) _ _ _ hH (lv_sub hl [1, 2, 3, 4, 0] rfl)
                      intro τ hτ hlo H locs ls hH hl
                      simp only [pMof_st] at hlo
                      refine lv_aload_n hx hb dX4_pays_173 rfl (lv_at hl 0 rfl) ?_
                      refine mm_get (v := .ref (ad 30)) hx hb hT hH 30 (by decide) rfl q811 rfl dX4_pays_174 ?_
                      refine lv_iload_n hx hb dX4_pays_177 rfl (lv_at hl 2 rfl) ?_
                      refine mm_ild (v := τ.2 30 z) hx hb hT hH 30 (by decide) rfl z rfl (show z < 31 by omega) rfl dX4_pays_178 ?_
                      refine lv_if_ne (tgt := 184) hx hb dX4_pays_179 (by decide) (fun c_179 => ?_) (fun c_179 => ?_)
                      · skip
                        refine lv_iconst (v := 0) hx hb dX4_pays_184 (by decide) ?_
                        refine lv_istore (lv' := [(4, .int 0), (0, .ref (ad 0)), (1, .int (nI k)), (2, .int (nI z)), (3, .int co)]) hx hb dX4_pays_185 hl (by decide) rfl (fun ls hl => ?_)
                        refine lv_iconst (v := 0) hx hb dX4_pays_187 (by decide) ?_
                        refine lv_istore (lv' := [(5, .int 0), (4, .int 0), (0, .ref (ad 0)), (1, .int (nI k)), (2, .int (nI z)), (3, .int co)]) hx hb dX4_pays_188 hl (by decide) rfl (fun ls hl => ?_)
                        refine lv_iconst (v := 0) hx hb dX4_pays_190 (by decide) ?_
                        refine lv_istore (lv' := [(6, .int 0), (5, .int 0), (4, .int 0), (0, .ref (ad 0)), (1, .int (nI k)), (2, .int (nI z)), (3, .int co)]) hx hb dX4_pays_191 hl (by decide) rfl (fun ls hl => ?_)
                        refine lp_X4_pays3 τ k (by omega) z (by omega) co X ?_ 32 0 (by omega) (Nat.zero_le _) _ _ _ hH (lv_sub hl [3, 4, 5, 6, 2, 1, 0] rfl)
                        intro H locs ls hH hl
                        refine lv_iload_n hx hb dX4_pays_238 rfl (lv_at hl 3 rfl) ?_
                        refine lv_i2l (v := co.toInt64) hx hb dX4_pays_239 rfl ?_
                        refine lv_iload_n hx hb dX4_pays_240 rfl (lv_at hl 3 rfl) ?_
                        refine lv_i2l (v := co.toInt64) hx hb dX4_pays_241 rfl ?_
                        refine lv_aload_n hx hb dX4_pays_242 rfl (lv_at hl 0 rfl) ?_
                        refine mm_get (v := .ref (ad 21)) hx hb hT hH 21 (by decide) rfl q802 rfl dX4_pays_243 ?_
                        refine lv_iconst (v := 3) hx hb dX4_pays_246 (by decide) ?_
                        refine mm_ild (v := τ.2 21 3) hx hb hT hH 21 (by decide) rfl 3 rfl (show 3 < 4 by omega) rfl dX4_pays_247 ?_
                        refine lv_i2l (v := (τ.2 21 3).toInt64) hx hb dX4_pays_248 rfl ?_
                        refine lv_lmul hx hb dX4_pays_249 ?_
                        refine lv_ldc2 (v := 100) hx hb hT.1 (hT.2.1 _ q1078) dX4_pays_250 ?_
                        refine lv_ldiv hx hb dX4_pays_253 (by decide : ¬ (100 : Int64) = 0) ?_
                        refine lv_lsub hx hb dX4_pays_254 ?_
                        refine lv_asl (z := pRest co (τ.2 21 3)) rfl ?_
                        refine lv_lstore (lv' := [(6, .long (pRest co (τ.2 21 3))), (0, .ref (ad 0)), (1, .int (nI k)), (2, .int (nI z)), (3, .int co), (4, .int (nI (pHd (τ.2 30) 31))), (5, .int (nI (pAh (τ.2 30) z 31)))]) hx hb dX4_pays_255 hl (by decide) rfl (fun ls hl => ?_)
                        refine lv_lload hx hb dX4_pays_257 (lv_at hl 0 rfl) ?_
                        refine lv_lstore (lv' := [(8, .long (pRest co (τ.2 21 3))), (6, .long (pRest co (τ.2 21 3))), (0, .ref (ad 0)), (1, .int (nI k)), (2, .int (nI z)), (3, .int co), (4, .int (nI (pHd (τ.2 30) 31))), (5, .int (nI (pAh (τ.2 30) z 31)))]) hx hb dX4_pays_259 hl (by decide) rfl (fun ls hl => ?_)
                        refine lv_iconst (v := 0) hx hb dX4_pays_261 (by decide) ?_
                        refine lv_istore (lv' := [(10, .int 0), (8, .long (pRest co (τ.2 21 3))), (6, .long (pRest co (τ.2 21 3))), (0, .ref (ad 0)), (1, .int (nI k)), (2, .int (nI z)), (3, .int co), (4, .int (nI (pHd (τ.2 30) 31))), (5, .int (nI (pAh (τ.2 30) z 31)))]) hx hb dX4_pays_262 hl (by decide) rfl (fun ls hl => ?_)
                        have hp := pHd_pos (τ.2 30) c_179 31 (by omega)
                        have hle := pHd_le (τ.2 30) 31
                        have hhd : ¬ nI (pHd (τ.2 30) 31) = 0 := nI_ne0 hp (by omega)
                        have ht9 : ¬ τ.2 9 k = 0 := by rw [hτ.2 9 (by decide)]; exact h9 k (by omega) k_24
                        refine lp_X4_pays4 τ k (by omega) z (by omega) co (pRest co (τ.2 21 3)) hhd ht9 X ?_ 32 0 (by omega) (Nat.zero_le _) _ _ _ hH (lv_sub hl [3, 4, 5, 7, 8, 2, 1, 0] rfl)
                        intro H locs ls hH hl
                        have hhd2 := hhd
                        refine lv_aload_n hx hb dX4_pays_303 rfl (lv_at hl 0 rfl) ?_
                        refine lv_lload hx hb dX4_pays_304 (lv_at hl 5 rfl) ?_
                        refine lv_iload_n hx hb dX4_pays_306 rfl (lv_at hl 2 rfl) ?_
                        refine lv_iload_n hx hb dX4_pays_307 rfl (lv_at hl 1 rfl) ?_
                        refine lv_iload hx hb dX4_pays_308 (lv_at hl 3 rfl) ?_
                        refine mm_cVl (n := 4) (c_X4_portion l τ (pRest co (τ.2 21 3)) z k (pHd (τ.2 30) 31) (by omega) (by omega) hhd ht9) hx hb hml hT hH (lw_V q1079 q1081 qs31 q39 q1082) (by decide +kernel) ⟨Nat.le_of_ble_eq_true rfl, Nat.le_of_ble_eq_true rfl⟩ rfl hl.1 rfl (Nat.le_of_ble_eq_true rfl) dX4_pays_310 ⟨Nat.le_refl _, Nat.le_refl _⟩ (fun r_310 u_310 H locs hp_310 hH => ?_)
                        obtain ⟨rfl, rfl⟩ := hp_310
                        refine lv_iload hx hb dX4_pays_313 (lv_at hl 4 rfl) ?_
                        refine lv_i2l (v := (nI (pAh (τ.2 30) z 31)).toInt64) hx hb dX4_pays_315 rfl ?_
                        refine lv_lload hx hb dX4_pays_316 (lv_at hl 6 rfl) ?_
                        refine W.lcmp hx hb dX4_pays_318 ?_
                        refine lv_if_ge (tgt := 326) hx hb dX4_pays_319 (by decide) (fun c_319 => ?_) (fun c_319 => ?_)
                        · skip
                          refine lv_lconst (v := 0) hx hb dX4_pays_326 (by decide) ?_
                          refine lv_ladd hx hb dX4_pays_327 ?_
                          refine lv_l2i (v := ((pPor (τ.2 30) (τ.2 21 2) (τ.2 9 k) (pHd (τ.2 30) 31) (pRest co (τ.2 21 3)) z) + 0).toInt32) hx hb dX4_pays_328 rfl ?_
                          have hE : pPay (τ.2 30) (τ.2 21 2) (τ.2 21 3) (τ.2 9 k) co z = ((pPor (τ.2 30) (τ.2 21 2) (τ.2 9 k) (pHd (τ.2 30) 31) (pRest co (τ.2 21 3)) z) + 0).toInt32 := by
                            unfold pPay
                            rw [if_neg (fun h => absurd h (Int64.not_lt.mpr ((lg_cmp_ge _ _).mp c_319)))]
                          have hE2 : pPay (pMof σ ow k nS) (σ.2 21 2) (σ.2 21 3) (σ.2 9 k) co z = pPay (τ.2 30) (τ.2 21 2) (τ.2 21 3) (τ.2 9 k) co z := by
                            rw [pPay_cg _ _ _ _ z hz hlo, show σ.2 21 = τ.2 21 from (hτ.2 21 (by decide)).symm, show σ.2 9 = τ.2 9 from (hτ.2 9 (by decide)).symm]
                          exact mm_ri hx hb hr hlocks hT hH rfl dX4_pays_329 (Or.inr ⟨k, hk, rfl, Or.inr ⟨k_24, Or.inr ⟨⟨h_42, h_52⟩, z, hz, rfl, hτ, (if_neg (by rw [← hlo z hz]; exact c_179)).trans (hE2.trans hE)⟩⟩⟩)
                        · skip
                          refine lv_lconst (v := 1) hx hb dX4_pays_322 (by decide) ?_
                          refine lv_goto (tgt := 327) hx hb dX4_pays_323 (by decide) ?_
                          refine lv_ladd hx hb dX4_pays_327 ?_
                          refine lv_l2i (v := ((pPor (τ.2 30) (τ.2 21 2) (τ.2 9 k) (pHd (τ.2 30) 31) (pRest co (τ.2 21 3)) z) + 1).toInt32) hx hb dX4_pays_328 rfl ?_
                          have hE : pPay (τ.2 30) (τ.2 21 2) (τ.2 21 3) (τ.2 9 k) co z = ((pPor (τ.2 30) (τ.2 21 2) (τ.2 9 k) (pHd (τ.2 30) 31) (pRest co (τ.2 21 3)) z) + 1).toInt32 := by
                            unfold pPay
                            rw [if_pos ((lg_cmp_lt _ _).mp (in_lt c_319))]
                          have hE2 : pPay (pMof σ ow k nS) (σ.2 21 2) (σ.2 21 3) (σ.2 9 k) co z = pPay (τ.2 30) (τ.2 21 2) (τ.2 21 3) (τ.2 9 k) co z := by
                            rw [pPay_cg _ _ _ _ z hz hlo, show σ.2 21 = τ.2 21 from (hτ.2 21 (by decide)).symm, show σ.2 9 = τ.2 9 from (hτ.2 9 (by decide)).symm]
                          exact mm_ri hx hb hr hlocks hT hH rfl dX4_pays_329 (Or.inr ⟨k, hk, rfl, Or.inr ⟨k_24, Or.inr ⟨⟨h_42, h_52⟩, z, hz, rfl, hτ, (if_neg (by rw [← hlo z hz]; exact c_179)).trans (hE2.trans hE)⟩⟩⟩)
                      · skip
                        refine lv_iconst (v := 0) hx hb dX4_pays_182 (by decide) ?_
                        exact mm_ri hx hb hr hlocks hT hH rfl dX4_pays_183 (Or.inr ⟨k, hk, rfl, Or.inr ⟨k_24, Or.inr ⟨⟨h_42, h_52⟩, z, hz, rfl, hτ, by rw [← hlo z hz]; exact (if_pos c_179)⟩⟩⟩)
                    · skip
                      exact absurd c_67 (by decide)
                  · skip
                    exact absurd c_55 (by decide)
                · skip
                  refine lv_if_ne (tgt := 62) hx hb dX4_pays_55 (by decide) (fun c_55 => ?_) (fun c_55 => ?_)
                  · skip
                    exact absurd c_55 (by decide)
                  · skip
                    refine lv_iconst (v := 1) hx hb dX4_pays_58 (by decide) ?_
                    refine lv_goto (tgt := 63) hx hb dX4_pays_59 (by decide) ?_
                    refine lv_iconst (v := 3) hx hb dX4_pays_63 (by decide) ?_
                    refine mm_cVi (n := 2) (c_X4_throwsIf1 l (mm_st σ 0 0) 3) hx hb hml hT hH (lw_V q902 q904 qs13 q39 q905) (by decide +kernel) ⟨Nat.le_of_ble_eq_true rfl, Nat.le_of_ble_eq_true rfl⟩ rfl hl.1 rfl (Nat.le_of_ble_eq_true rfl) dX4_pays_64 ⟨Nat.le_refl _, Nat.le_refl _⟩ (fun r_64 u_64 H locs hp_64 hH => ?_)
                    obtain ⟨rfl, rfl⟩ := hp_64
                    refine lv_if_eq (tgt := 72) hx hb dX4_pays_67 (by decide) (fun c_67 => ?_) (fun c_67 => ?_)
                    · skip
                      exact absurd c_67 (by decide)
                    · skip
                      refine lv_iconst (v := 0) hx hb dX4_pays_70 (by decide) ?_
                      exact mm_ri hx hb hr hlocks hT hH rfl dX4_pays_71 (Or.inr ⟨k, hk, rfl, Or.inr ⟨k_24, Or.inl ⟨fun g => h_52 g.2, ⟨rfl, fun j hj => rfl⟩, rfl, rfl⟩⟩⟩)
        · skip
          exact absurd c_25 (by decide)
