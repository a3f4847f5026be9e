/-- the heirs' shares laid, j of them -/
def xSt (τ : xS) (k q nS F : Nat) (wh : Nat → Int32) (Ln : Nat → Nat) : Nat → xS
  | 0 => τ
  | j + 1 => if Ln j = 0 then xSt τ k q nS F wh Ln j
      else if hPc Ln j = 0 then xBe (xSt τ k q nS F wh Ln j) k (nI (F + hSum Ln j)) (nI (F + hSum Ln j + Ln j)) (wh j)
      else xAdd (xSt τ k q nS F wh Ln j) (nS + hPc Ln j - 1) q (nI (F + hSum Ln j)) (nI (F + hSum Ln j + Ln j)) (wh j)
theorem xSt_cg (τ : xS) (k q nS F : Nat) {wh wh2 : Nat → Int32} (Ln : Nat → Nat) : ∀ n, (∀ j, j < n → wh j = wh2 j) → xSt τ k q nS F wh Ln n = xSt τ k q nS F wh2 Ln n
  | 0, _ => rfl
  | n + 1, h => by rw [xSt, xSt, xSt_cg τ k q nS F Ln n (fun j hj => h j (by omega)), h n (by omega)]
theorem xSt_eq (τ : xS) (k q nS F : Nat) (wh : Nat → Int32) (Ln : Nat → Nat) {a : Nat} : ∀ b, a ≤ b → hPc Ln a = hPc Ln b → xSt τ k q nS F wh Ln a = xSt τ k q nS F wh Ln b ∧ hSum Ln a = hSum Ln b
  | 0, h, _ => by
    obtain rfl : a = 0 := by omega
    exact ⟨rfl, rfl⟩
  | b + 1, h, e => by
    by_cases hab : a = b + 1
    · subst hab
      exact ⟨rfl, rfl⟩
    · have h1 := hPc_mono Ln (show a ≤ b by omega)
      have h2 : hPc Ln (b + 1) = hPc Ln b + (if 0 < Ln b then 1 else 0) := rfl
      have h0 : Ln b = 0 := by
        rcases Nat.eq_zero_or_pos (Ln b) with g | g
        · exact g
        · rw [if_pos g] at h2
          omega
      rw [h0, if_neg (Nat.lt_irrefl 0)] at h2
      have ih := xSt_eq τ k q nS F wh Ln (a := a) b (by omega) (by omega)
      rw [xSt, if_pos h0, hSum, h0]
      exact ih
theorem xBe_o (σ : xS) (k : Nat) (f t o : Int32) {j : Nat} (h : j ≠ 16) : (xBe σ k f t o).1.2 j = σ.1.2 j := by
  unfold xBe
  rw [xs_ar_o h, xs_ar_o h, xs_ar_o h, xs_ar_o h]
theorem xBe_at (σ : xS) (k : Nat) (f t o : Int32) {j : Nat} (h : j ≤ 7 * k ∨ 7 * k + 4 < j) : (xBe σ k f t o).1.2 16 j = σ.1.2 16 j := by
  unfold xBe
  rw [xs_ar_n (by omega), xs_ar_n (by omega), xs_ar_n (by omega), xs_ar_n (by omega)]
theorem xk.be {σ : xS} {nC nS : Nat} {nW : Nat → Nat} (hk : xk σ nC nS nW) {k : Nat} (f t o : Int32) : xk (xBe σ k f t o) nC nS nW := (((hk.sh (n := k) (o := 1) f (by decide)).sh (n := k) (o := 2) t (by decide)).sh (n := k) (o := 3) o (by decide)).sh (n := k) (o := 4) (-1) (by decide)
theorem xSt_o (τ : xS) (k q nS F : Nat) (wh : Nat → Int32) (Ln : Nat → Nat) {z : Nat} (h : z ≠ 16) : ∀ j, (xSt τ k q nS F wh Ln j).1.2 z = τ.1.2 z
  | 0 => rfl
  | j + 1 => by
    rw [xSt]
    split
    · exact xSt_o τ k q nS F wh Ln h j
    · split
      · rw [xBe_o _ _ _ _ _ h]; exact xSt_o τ k q nS F wh Ln h j
      · rw [xAdd_o _ _ _ _ _ _ h]; exact xSt_o τ k q nS F wh Ln h j
theorem xSt_ch (τ : xS) (k q nS F : Nat) (wh : Nat → Int32) (Ln : Nat → Nat) (hk : k < nS) : ∀ j, (xSt τ k q nS F wh Ln j).1.2 16 (7 * k) = τ.1.2 16 (7 * k)
  | 0 => rfl
  | j + 1 => by
    have ih := xSt_ch τ k q nS F wh Ln hk j
    rw [xSt]
    split
    · exact ih
    · split
      · rw [xBe_at _ _ _ _ _ (by omega)]; exact ih
      · rw [xAdd_at _ _ _ _ _ _ (by omega)]; exact ih
def xSn (nS : Nat) (Ln : Nat → Nat) (j : Nat) : Nat := if hPc Ln j = 0 then nS else nS + hPc Ln j - 1
theorem xSt_k {τ : xS} {nC nS : Nat} {nW : Nat → Nat} (hk : xk τ nC nS nW) {k q F : Nat} (hq : q < nC) (h0 : 0 < nS) (wh : Nat → Int32) (Ln : Nat → Nat) : ∀ j, nS + hPc Ln j ≤ 61 → xk (xSt τ k q nS F wh Ln j) nC (xSn nS Ln j) nW
  | 0, _ => hk
  | j + 1, h => by
    have hp : hPc Ln (j + 1) = hPc Ln j + (if 0 < Ln j then 1 else 0) := rfl
    have ih := xSt_k hk (k := k) (F := F) hq h0 wh Ln j (by rw [hp] at h; omega)
    rw [xSt]
    by_cases e : Ln j = 0
    · rw [if_pos e]
      rw [if_neg (by omega)] at hp
      unfold xSn
      rw [hp]
      exact ih
    · rw [if_neg e]
      rw [if_pos (by omega)] at hp
      by_cases e2 : hPc Ln j = 0
      · rw [if_pos e2]
        have := ih.be (k := k) (nI (F + hSum Ln j)) (nI (F + hSum Ln j + Ln j)) (wh j)
        unfold xSn at this ⊢
        rw [if_pos e2] at this
        rw [if_neg (by omega), hp, e2]
        exact this
      · rw [if_neg e2]
        unfold xSn at ih ⊢
        rw [if_neg e2] at ih
        rw [if_neg (by omega), hp, show nS + (hPc Ln j + 1) - 1 = nS + hPc Ln j - 1 + 1 by omega]
        exact ih.add (by rw [hp] at h; omega) hq _ _ _

set_option maxHeartbeats 1000000 in
set_option maxRecDepth 100000 in
theorem lp_X1_heirs1 {p : Program} {l : Launch} {e : Env} {s : State} {m : MethodId} {args : Array Value} {below : List Frame} {meth : Method} {c : Code} {Q : State → Prop} {G : gw_G} {A : Nat → Prop} {ad wk wv : Nat → Nat} (σ : xS) {nC nS : Nat} {nW : Nat → Nat} (hk : xk σ nC nS nW) (k n4 : Nat) (hkk : k < nS) (h4 : n4 ≤ 4) (wh pt : Nat → Int32) (f g : Nat → Int32) (X : gx_Y RX1 cX1_heirs 21 (some .int) G A wk wv p s m args meth c) (hf : ∀ j, j < 4 → f j = wh j) (hg : ∀ j, j < 4 → g j = pt j) (K1 : (∀ (H : Heap) (locs : List Loc) (ls : Array Slot), hGood n4 wh pt → xe_H G A s.heap H locs ad wk σ f g → lv_has ls 21 [(0, .ref (ad 0)), (2, .int (nI n4)), (11, .ref (ad (220 + k))), (12, .ref (ad 300)), (13, .ref (ad 301)), (14, .int (nI (hSum (hPn pt) n4)))] → W p l e (xx_rm 9 8 100) s m args below meth c H locs 2 8 Q (F0 m 146 ls []))) (K0 : (∀ (H : Heap) (locs : List Loc) (ls : Array Slot), ¬ hGood n4 wh pt → xe_H G A s.heap H locs ad wk σ f g → lv_has ls 21 [(0, .ref (ad 0))] → W p l e (xx_rm 9 8 100) s m args below meth c H locs 2 8 Q (F0 m 127 ls [.int 0]))) : ∀ (n : Nat) (i : Nat), n4 < i + n → i ≤ n4 → (∀ j, j < i → hOk (wh j) (pt j)) → ∀ (H : Heap) (locs : List Loc) (ls : Array Slot), xe_H G A s.heap H locs ad wk σ f g → lv_has ls 21 [(0, .ref (ad 0)), (2, .int (nI n4)), (11, .ref (ad (220 + k))), (12, .ref (ad 300)), (13, .ref (ad 301)), (14, .int (nI (hSum (hPn pt) i))), (15, .int (nI i))] → W p l e (xx_rm 9 8 100) s m args below meth c H locs 2 8 Q (F0 m 91 ls []) := by
  obtain ⟨hx, hb, hml, hT, hr, hlocks, hxc, hA⟩ := id X
  intro n
  induction n with
  | zero =>
    intro i h0 hi hall
    exact absurd h0 (by omega)
  | succ n ih =>
    intro i h0 hi hall H locs ls hH hl
    have h8 := hk.1.2
    have h60 := hk.2.1.2
    refine lv_iload hx hb dX1_heirs_91 (lv_at hl 6 rfl) ?_
    refine lv_iload_n hx hb dX1_heirs_93 rfl (lv_at hl 1 rfl) ?_
    refine lv_icmp_ge (tgt := 146) hx hb dX1_heirs_94 (by decide) (fun c_94 => ?_) (fun c_94 => ?_)
    · skip
      have c_94 : n4 ≤ i := (nI_leI (a := n4) (b := i) (by omega) (by omega)).mp c_94
      obtain rfl : n4 = i := by omega
      exact K1 _ _ _ hall hH (lv_sub hl [0, 1, 2, 3, 4, 5] rfl)
    · skip
      have c_94 : ¬ (n4 ≤ i) := fun h => c_94 ((nI_leI (a := n4) (b := i) (by omega) (by omega)).mpr h)
      refine lv_aload hx hb dX1_heirs_97 (lv_at hl 3 rfl) ?_
      refine lv_iload hx hb dX1_heirs_99 (lv_at hl 6 rfl) ?_
      refine gw_iald (n := 4) hx hb hT hH.1 300 xe_300 i rfl (show i < 4 by omega) (by decide) dX1_heirs_101 ?_
      refine lv_as (z := wh i) (hf i (by omega)) ?_
      refine ss_ci (n := 1) (c_X1_isOwner l (wh i)) hx hb hml hT.1 hT.2.1 (lw_S q516 q517 q33 q518) (by decide +kernel) ⟨Nat.le_of_ble_eq_true rfl, Nat.le_of_ble_eq_true rfl⟩ rfl hl.1 rfl (Nat.le_of_ble_eq_true rfl) dX1_heirs_102 ⟨Nat.le_of_ble_eq_true rfl, Nat.le_of_ble_eq_true rfl⟩ (fun r_102 hp_102 => ?_)
      rcases hp_102 with ⟨rfl, h_102⟩ | ⟨rfl, h_102⟩
      · skip
        refine lv_if_eq (tgt := 126) hx hb dX1_heirs_105 (by decide) (fun c_105 => ?_) (fun c_105 => ?_)
        · skip
          exact absurd c_105 (by decide)
        · skip
          refine lv_aload hx hb dX1_heirs_108 (lv_at hl 4 rfl) ?_
          refine lv_iload hx hb dX1_heirs_110 (lv_at hl 6 rfl) ?_
          refine gw_iald (n := 4) hx hb hT hH.1 301 xe_301 i rfl (show i < 4 by omega) (by decide) dX1_heirs_112 ?_
          refine lv_as (z := pt i) (hg i (by omega)) ?_
          refine lv_iconst (v := 1) hx hb dX1_heirs_113 (by decide) ?_
          refine lv_bipush (v := 100) hx hb dX1_heirs_114 (by decide) ?_
          refine ss_ci (n := 3) (c_X1_isIn l (pt i) 1 100) hx hb hml hT.1 hT.2.1 (lw_S q254 q255 q33 q256) (by decide +kernel) ⟨Nat.le_of_ble_eq_true rfl, Nat.le_of_ble_eq_true rfl⟩ rfl hl.1 rfl (Nat.le_of_ble_eq_true rfl) dX1_heirs_116 ⟨Nat.le_of_ble_eq_true rfl, Nat.le_of_ble_eq_true rfl⟩ (fun r_116 hp_116 => ?_)
          rcases hp_116 with ⟨rfl, h_116⟩ | ⟨rfl, h_116⟩
          · skip
            refine lv_if_eq (tgt := 126) hx hb dX1_heirs_119 (by decide) (fun c_119 => ?_) (fun c_119 => ?_)
            · skip
              exact absurd c_119 (by decide)
            · skip
              refine lv_iconst (v := 1) hx hb dX1_heirs_122 (by decide) ?_
              refine lv_goto (tgt := 127) hx hb dX1_heirs_123 (by decide) ?_
              have hpi := hPn_ok (n4 := i + 1) (wh := fun _ => wh i) (pt := pt) (fun j hj => by rcases Nat.lt_or_ge j i with y | y; exact ⟨h_102, (hall j y).2⟩; rw [show j = i by omega]; exact ⟨h_102, h_116⟩) (j := i) (by omega)
              refine tk_cSv (n := 1) (c_X1_must1 l) hx hb hml hT.1 hT.2.1 (fun a U g mk h => h) (fun U hU hW => trivial) (lw_S q318 q319 q33 q320) (by decide +kernel) ⟨Nat.le_of_ble_eq_true rfl, Nat.le_of_ble_eq_true rfl⟩ rfl hl.1 rfl (Nat.le_of_ble_eq_true rfl) dX1_heirs_127 ⟨Nat.le_of_ble_eq_true rfl, Nat.le_of_ble_eq_true rfl⟩ ?_
              refine lv_iload hx hb dX1_heirs_130 (lv_at hl 5 rfl) ?_
              refine lv_aload hx hb dX1_heirs_132 (lv_at hl 4 rfl) ?_
              refine lv_iload hx hb dX1_heirs_134 (lv_at hl 6 rfl) ?_
              refine gw_iald (n := 4) hx hb hT hH.1 301 xe_301 i rfl (show i < 4 by omega) (by decide) dX1_heirs_136 ?_
              refine lv_as (z := nI (hPn pt i)) ((hg i (by omega)).trans hpi.1) ?_
              refine lv_iadd hx hb dX1_heirs_137 ?_
              refine lv_as (z := nI (hSum (hPn pt) (i + 1))) (nI_add _ _) ?_
              refine lv_istore (lv' := [(14, .int (nI (hSum (hPn pt) (i + 1)))), (0, .ref (ad 0)), (2, .int (nI n4)), (11, .ref (ad (220 + k))), (12, .ref (ad 300)), (13, .ref (ad 301)), (15, .int (nI i))]) hx hb dX1_heirs_138 hl (by decide) rfl (fun ls hl => ?_)
              refine lv_iinc (v := nI (i + 1)) (lv' := [(15, .int (nI (i + 1))), (14, .int (nI (hSum (hPn pt) (i + 1)))), (0, .ref (ad 0)), (2, .int (nI n4)), (11, .ref (ad (220 + k))), (12, .ref (ad 300)), (13, .ref (ad 301))]) hx hb dX1_heirs_140 hl (k := 6) rfl (nI_add i 1) (by decide) rfl (fun ls hl => ?_)
              refine lv_goto (tgt := 91) hx hb dX1_heirs_143 (by decide) ?_
              exact ih (i + 1) (by omega) (by omega) (fun j hj => by rcases Nat.lt_or_ge j i with y | y; exact hall j y; rw [show j = i by omega]; exact ⟨h_102, h_116⟩) _ _ _ hH (lv_sub hl [2, 3, 4, 5, 6, 1, 0] rfl)
          · skip
            refine lv_if_eq (tgt := 126) hx hb dX1_heirs_119 (by decide) (fun c_119 => ?_) (fun c_119 => ?_)
            · skip
              refine lv_iconst (v := 0) hx hb dX1_heirs_126 (by decide) ?_
              exact K0 _ _ _ (fun h => h_116 (h i (by omega)).2) hH (lv_sub hl [0] rfl)
            · skip
              exact absurd c_119 (by decide)
      · skip
        refine lv_if_eq (tgt := 126) hx hb dX1_heirs_105 (by decide) (fun c_105 => ?_) (fun c_105 => ?_)
        · skip
          refine lv_iconst (v := 0) hx hb dX1_heirs_126 (by decide) ?_
          exact K0 _ _ _ (fun h => h_102 (h i (by omega)).1) hH (lv_sub hl [0] rfl)
        · skip
          exact absurd c_105 (by decide)

set_option maxHeartbeats 1000000 in
set_option maxRecDepth 100000 in
theorem lp_X1_heirs3 {p : Program} {l : Launch} {e : Env} {s : State} {m : MethodId} {args : Array Value} {below : List Frame} {meth : Method} {c : Code} {Q : State → Prop} {G : gw_G} {A : Nat → Prop} {ad wk wv : Nat → Nat} (σ : xS) {nC nS : Nat} {nW : Nat → Nat} (hk : xk σ nC nS nW) (k n4 : Nat) (hkk : k < nS) (h4 : n4 ≤ 4) (f g : Nat → Int32) (X : gx_Y RX1 cX1_heirs 21 (some .int) G A wk wv p s m args meth c) (P : Nat → Nat) (hP : ∀ j, j < n4 → g j = nI (P j) ∧ 1 ≤ P j ∧ P j ≤ 100) (S a : Nat) (hS0 : 0 < S) (hS1 : hSum P n4 ≤ S) (hS2 : S ≤ 400) (ha : a ≤ 21600) (K : ∀ τ : xS, xk τ nC nS nW → xSame τ σ 20 → (∀ j, j < n4 → τ.1.2 20 j = nI (a * P j / S)) → (∀ (H : Heap) (locs : List Loc) (ls : Array Slot), xe_H G A s.heap H locs ad wk τ f g → lv_has ls 21 [(0, .ref (ad 0)), (2, .int (nI n4)), (11, .ref (ad (220 + k))), (12, .ref (ad 300)), (16, .int (nI (a - hTot a S P n4)))] → W p l e (xx_rm 9 8 100) s m args below meth c H locs 2 8 Q (F0 m 208 ls []))) : ∀ (n : Nat) (i : Nat) (τ : xS), xk τ nC nS nW → n4 < i + n → i ≤ n4 → xSame τ σ 20 → (∀ j, j < i → τ.1.2 20 j = nI (a * P j / S)) → ∀ (H : Heap) (locs : List Loc) (ls : Array Slot), xe_H G A s.heap H locs ad wk τ f g → lv_has ls 21 [(0, .ref (ad 0)), (2, .int (nI n4)), (11, .ref (ad (220 + k))), (12, .ref (ad 300)), (13, .ref (ad 301)), (14, .int (nI S)), (15, .int (nI a)), (16, .int (nI (a - hTot a S P i))), (17, .int (nI i))] → W p l e (xx_rm 9 8 100) s m args below meth c H locs 2 8 Q (F0 m 166 ls []) := by
  obtain ⟨hx, hb, hml, hT, hr, hlocks, hxc, hA⟩ := id X
  intro n
  induction n with
  | zero =>
    intro i τ hk h0 hi hτ hlo
    exact absurd h0 (by omega)
  | succ n ih =>
    intro i τ hk h0 hi hτ hlo H locs ls hH hl
    refine lv_iload hx hb dX1_heirs_166 (lv_at hl 8 rfl) ?_
    refine lv_iload_n hx hb dX1_heirs_168 rfl (lv_at hl 1 rfl) ?_
    refine lv_icmp_ge (tgt := 208) hx hb dX1_heirs_169 (by decide) (fun c_169 => ?_) (fun c_169 => ?_)
    · skip
      have c_169 : n4 ≤ i := (nI_leI (a := n4) (b := i) (by omega) (by omega)).mp c_169
      obtain rfl : n4 = i := by omega
      exact K τ hk hτ hlo _ _ _ hH (lv_sub hl [0, 1, 2, 3, 7] rfl)
    · skip
      have c_169 : ¬ (n4 ≤ i) := fun h => c_169 ((nI_leI (a := n4) (b := i) (by omega) (by omega)).mpr h)
      have hPi := hP i (by omega)
      have hm : a * P i ≤ 21600 * 100 := Nat.mul_le_mul ha hPi.2.2
      have ht : hTot a S P (i + 1) ≤ a := hTot_le hS0 (Nat.le_trans (hSum_mono P (by omega)) hS1)
      have ht2 : hTot a S P (i + 1) = hTot a S P i + a * P i / S := rfl
      refine lv_aload_n hx hb dX1_heirs_172 rfl (lv_at hl 0 rfl) ?_
      refine gw_get (C := RX1) (T := TX1) (N := 21) (ci := 1) (fs := xx_fs1 ad τ.1.1) (v := .ref (ad 20)) hx hb hT hH.1 0 (xe_at (by omega) xx_0) rfl in_X1 9 (by decide) rfl q185 rfl dX1_heirs_173 ?_
      refine lv_iload hx hb dX1_heirs_176 (lv_at hl 8 rfl) ?_
      refine lv_iload hx hb dX1_heirs_178 (lv_at hl 6 rfl) ?_
      refine lv_aload hx hb dX1_heirs_180 (lv_at hl 4 rfl) ?_
      refine lv_iload hx hb dX1_heirs_182 (lv_at hl 8 rfl) ?_
      refine gw_iald (n := 4) hx hb hT hH.1 301 xe_301 i rfl (show i < 4 by omega) (by decide) dX1_heirs_184 ?_
      refine lv_as (z := nI (P i)) hPi.1 ?_
      refine lv_imul hx hb dX1_heirs_185 ?_
      refine lv_as (pk_mul a (P i)) ?_
      refine lv_iload hx hb dX1_heirs_186 (lv_at hl 5 rfl) ?_
      refine lv_idiv hx hb dX1_heirs_188 (nI_ne0 hS0 (by omega)) ?_
      refine lv_as (z := nI (a * P i / S)) (pk_div (a := a * P i) (d := S) (by omega) hS0 (by omega)) ?_
      refine gw_iast (n := 4) hx hb hT hH 20 (xe_at (by omega) (xx_arr (k := 20) (by decide) (by decide))) i rfl (show i < 4 by omega) (by decide) dX1_heirs_189 (fun H locs hH => ?_)
      replace hH : xe_H G A s.heap H locs ad wk (xs_ar τ 20 i (nI (a * P i / S))) f g := by show gw_H G A s.heap H locs ad (xe_w G ad wk (xs_ar τ 20 i (nI (a * P i / S))) f g); rw [← xe_up (f := f) (g := g) (i := 20) (by decide) (xx_upA (G := G) (ad := ad) (wk := wk) (σ := τ) (k := 20) (by decide) i (nI (a * P i / S)))]; exact hH
      have hk := hk.ar (k := 20) (n := i) (nI (a * P i / S)) (by decide) (by decide)
      refine lv_iload hx hb dX1_heirs_190 (lv_at hl 7 rfl) ?_
      refine lv_aload_n hx hb dX1_heirs_192 rfl (lv_at hl 0 rfl) ?_
      refine gw_get (C := RX1) (T := TX1) (N := 21) (ci := 1) (fs := xx_fs1 ad (xs_ar τ 20 i (nI (a * P i / S))).1.1) (v := .ref (ad 20)) hx hb hT hH.1 0 (xe_at (by omega) xx_0) rfl in_X1 9 (by decide) rfl q185 rfl dX1_heirs_193 ?_
      refine lv_iload hx hb dX1_heirs_196 (lv_at hl 8 rfl) ?_
      refine gw_iald (n := 4) hx hb hT hH.1 20 (xe_at (by omega) (xx_arr (k := 20) (by decide) (by decide))) i rfl (show i < 4 by omega) (by decide) dX1_heirs_198 ?_
      refine lv_as (z := nI (a * P i / S)) (xs_ar_s _ _ _ _) ?_
      refine lv_isub hx hb dX1_heirs_199 ?_
      refine lv_as (z := nI (a - hTot a S P (i + 1))) (by rw [pk_sub (by omega)]; congr 1; omega) ?_
      refine lv_istore (lv' := [(16, .int (nI (a - hTot a S P (i + 1)))), (0, .ref (ad 0)), (2, .int (nI n4)), (11, .ref (ad (220 + k))), (12, .ref (ad 300)), (13, .ref (ad 301)), (14, .int (nI S)), (15, .int (nI a)), (17, .int (nI i))]) hx hb dX1_heirs_200 hl (by decide) rfl (fun ls hl => ?_)
      refine lv_iinc (v := nI (i + 1)) (lv' := [(17, .int (nI (i + 1))), (16, .int (nI (a - hTot a S P (i + 1)))), (0, .ref (ad 0)), (2, .int (nI n4)), (11, .ref (ad (220 + k))), (12, .ref (ad 300)), (13, .ref (ad 301)), (14, .int (nI S)), (15, .int (nI a))]) hx hb dX1_heirs_202 hl (k := 8) rfl (nI_add i 1) (by decide) rfl (fun ls hl => ?_)
      refine lv_goto (tgt := 166) hx hb dX1_heirs_205 (by decide) ?_
      refine ih (i + 1) (xs_ar τ 20 i (nI (a * P i / S))) hk (by omega) (by omega) (hτ.ar _ _) (fun j hj => ?_) _ _ _ hH (lv_sub hl [2, 3, 4, 5, 6, 7, 8, 1, 0] rfl)
      by_cases e : j = i
      · subst e; exact xs_ar_s _ _ _ _
      · rw [xs_ar_n e]; exact hlo j (by omega)

set_option maxHeartbeats 1000000 in
set_option maxRecDepth 100000 in
theorem lp_X1_heirs4 {p : Program} {l : Launch} {e : Env} {s : State} {m : MethodId} {args : Array Value} {below : List Frame} {meth : Method} {c : Code} {Q : State → Prop} {G : gw_G} {A : Nat → Prop} {ad wk wv : Nat → Nat} (σ : xS) {nC nS : Nat} {nW : Nat → Nat} (hk : xk σ nC nS nW) (k n4 : Nat) (hkk : k < nS) (h4 : n4 ≤ 4) (f g : Nat → Int32) (X : gx_Y RX1 cX1_heirs 21 (some .int) G A wk wv p s m args meth c) (a S lf : Nat) (P : Nat → Nat) (hbb : ∀ j, j < n4 → a * P j / S < 100000000) (hlf : lf < 100000000) (K : ∀ τ : xS, xk τ nC nS nW → (τ.1.1 = σ.1.1 ∧ (∀ j, j ≠ 19 → j ≠ 20 → τ.1.2 j = σ.1.2 j) ∧ τ.2 = σ.2) → (∀ j, j < n4 → τ.1.2 20 j = nI (hLn a S P lf j)) → (∀ z, z < hPc (hLn a S P lf) n4 → ∃ j, j < n4 ∧ τ.1.2 19 z = nI j ∧ 0 < hLn a S P lf j ∧ hPc (hLn a S P lf) j = z) → (∀ (H : Heap) (locs : List Loc) (ls : Array Slot), xe_H G A s.heap H locs ad wk τ f g → lv_has ls 21 [(0, .ref (ad 0)), (11, .ref (ad (220 + k))), (12, .ref (ad 300)), (17, .int (nI (hPc (hLn a S P lf) n4)))] → W p l e (xx_rm 9 8 100) s m args below meth c H locs 2 8 Q (F0 m 270 ls []))) : ∀ (n : Nat) (i : Nat) (τ : xS), xk τ nC nS nW → n4 < i + n → i ≤ n4 → (τ.1.1 = σ.1.1 ∧ (∀ j, j ≠ 19 → j ≠ 20 → τ.1.2 j = σ.1.2 j) ∧ τ.2 = σ.2) → (∀ j, j < i → τ.1.2 20 j = nI (hLn a S P lf j)) → (∀ z, z < hPc (hLn a S P lf) i → ∃ j, j < i ∧ τ.1.2 19 z = nI j ∧ 0 < hLn a S P lf j ∧ hPc (hLn a S P lf) j = z) → (∀ j, i ≤ j → j < n4 → τ.1.2 20 j = nI (a * P j / S)) → ∀ (H : Heap) (locs : List Loc) (ls : Array Slot), xe_H G A s.heap H locs ad wk τ f g → lv_has ls 21 [(0, .ref (ad 0)), (2, .int (nI n4)), (11, .ref (ad (220 + k))), (12, .ref (ad 300)), (16, .int (nI lf)), (17, .int (nI (hPc (hLn a S P lf) i))), (18, .int (nI i))] → W p l e (xx_rm 9 8 100) s m args below meth c H locs 2 8 Q (F0 m 214 ls []) := by
  obtain ⟨hx, hb, hml, hT, hr, hlocks, hxc, hA⟩ := id X
  intro n
  induction n with
  | zero =>
    intro i τ hk h0 hi hτ hlo hpz hhi
    exact absurd h0 (by omega)
  | succ n ih =>
    intro i τ hk h0 hi hτ hlo hpz hhi H locs ls hH hl
    refine lv_iload hx hb dX1_heirs_214 (lv_at hl 6 rfl) ?_
    refine lv_iload_n hx hb dX1_heirs_216 rfl (lv_at hl 1 rfl) ?_
    refine lv_icmp_ge (tgt := 270) hx hb dX1_heirs_217 (by decide) (fun c_217 => ?_) (fun c_217 => ?_)
    · skip
      have c_217 : n4 ≤ i := (nI_leI (a := n4) (b := i) (by omega) (by omega)).mp c_217
      obtain rfl : n4 = i := by omega
      exact K τ hk hτ hlo hpz _ _ _ hH (lv_sub hl [0, 2, 3, 5] rfl)
    · skip
      have c_217 : ¬ (n4 ≤ i) := fun h => c_217 ((nI_leI (a := n4) (b := i) (by omega) (by omega)).mpr h)
      have hbi := hbb i (by omega)
      have hle := hPc_le (hLn a S P lf) i
      refine lv_aload_n hx hb dX1_heirs_220 rfl (lv_at hl 0 rfl) ?_
      refine gw_get (C := RX1) (T := TX1) (N := 21) (ci := 1) (fs := xx_fs1 ad τ.1.1) (v := .ref (ad 20)) hx hb hT hH.1 0 (xe_at (by omega) xx_0) rfl in_X1 9 (by decide) rfl q185 rfl dX1_heirs_221 ?_
      refine lv_iload hx hb dX1_heirs_224 (lv_at hl 6 rfl) ?_
      refine lv_dup2_11 hx hb dX1_heirs_226 rfl rfl ?_
      refine gw_iald (n := 4) hx hb hT hH.1 20 (xe_at (by omega) (xx_arr (k := 20) (by decide) (by decide))) i rfl (show i < 4 by omega) (by decide) dX1_heirs_227 ?_
      refine lv_as (z := nI (a * P i / S)) (hhi i (by omega) (by omega)) ?_
      refine lv_iload hx hb dX1_heirs_228 (lv_at hl 6 rfl) ?_
      refine lv_iload hx hb dX1_heirs_230 (lv_at hl 4 rfl) ?_
      refine lv_icmp_ge (tgt := 239) hx hb dX1_heirs_232 (by decide) (fun c_232 => ?_) (fun c_232 => ?_)
      · skip
        have c_232 : lf ≤ i := (nI_leI (a := lf) (b := i) (by omega) (by omega)).mp c_232
        refine lv_iconst (v := 0) hx hb dX1_heirs_239 (by decide) ?_
        refine lv_iadd hx hb dX1_heirs_240 ?_
        refine lv_as (nI_add (a * P i / S) 0) ?_
        refine gw_iast (n := 4) hx hb hT hH 20 (xe_at (by omega) (xx_arr (k := 20) (by decide) (by decide))) i rfl (show i < 4 by omega) (by decide) dX1_heirs_241 (fun H locs hH => ?_)
        replace hH : xe_H G A s.heap H locs ad wk (xs_ar τ 20 i (nI ((a * P i / S) + 0))) f g := by show gw_H G A s.heap H locs ad (xe_w G ad wk (xs_ar τ 20 i (nI ((a * P i / S) + 0))) f g); rw [← xe_up (f := f) (g := g) (i := 20) (by decide) (xx_upA (G := G) (ad := ad) (wk := wk) (σ := τ) (k := 20) (by decide) i (nI ((a * P i / S) + 0)))]; exact hH
        have hk := hk.ar (k := 20) (n := i) (nI ((a * P i / S) + 0)) (by decide) (by decide)
        have hln : hLn a S P lf i = a * P i / S + 0 := by rw [hLn, if_neg (by omega)]
        refine lv_aload_n hx hb dX1_heirs_242 rfl (lv_at hl 0 rfl) ?_
        refine gw_get (C := RX1) (T := TX1) (N := 21) (ci := 1) (fs := xx_fs1 ad (xs_ar τ 20 i (nI ((a * P i / S) + 0))).1.1) (v := .ref (ad 20)) hx hb hT hH.1 0 (xe_at (by omega) xx_0) rfl in_X1 9 (by decide) rfl q185 rfl dX1_heirs_243 ?_
        refine lv_iload hx hb dX1_heirs_246 (lv_at hl 6 rfl) ?_
        refine gw_iald (n := 4) hx hb hT hH.1 20 (xe_at (by omega) (xx_arr (k := 20) (by decide) (by decide))) i rfl (show i < 4 by omega) (by decide) dX1_heirs_248 ?_
        refine lv_as (z := nI (a * P i / S + 0)) (xs_ar_s _ _ _ _) ?_
        refine lv_if_le (tgt := 264) hx hb dX1_heirs_249 (by decide) (fun c_249 => ?_) (fun c_249 => ?_)
        · skip
          have c_249 : (a * P i / S + 0) ≤ 0 := (nI_leI (a := (a * P i / S + 0)) (b := 0) (by omega) (by omega)).mp c_249
          refine lv_iinc (v := nI (i + 1)) (lv' := [(18, .int (nI (i + 1))), (0, .ref (ad 0)), (2, .int (nI n4)), (11, .ref (ad (220 + k))), (12, .ref (ad 300)), (16, .int (nI lf)), (17, .int (nI (hPc (hLn a S P lf) i)))]) hx hb dX1_heirs_264 hl (k := 6) rfl (nI_add i 1) (by decide) rfl (fun ls hl => ?_)
          refine lv_goto (tgt := 214) hx hb dX1_heirs_267 (by decide) ?_
          have e17 : hPc (hLn a S P lf) (i + 1) = hPc (hLn a S P lf) i := by
            rw [hPc, if_neg (show ¬ 0 < hLn a S P lf i by rw [hln]; omega), Nat.add_zero]
          have hl := lv_sub (l' := [(0, .ref (ad 0)), (2, .int (nI n4)), (11, .ref (ad (220 + k))), (12, .ref (ad 300)), (16, .int (nI lf)), (17, .int (nI (hPc (hLn a S P lf) i))), (18, .int (nI (i + 1)))]) hl [1, 2, 3, 4, 5, 6, 0] rfl
          rw [← e17] at hl
          refine ih (i + 1) (xs_ar τ 20 i (nI ((a * P i / S) + 0))) hk (by omega) (by omega) ⟨hτ.1, fun j h1 h2 => by rw [xs_ar_o h2]; exact hτ.2.1 j h1 h2, hτ.2.2⟩ (fun j hj => ?_) (fun z hz => ?_) (fun j hj hj2 => ?_) _ _ _ hH hl
          · skip
            by_cases e : j = i
            · subst e; rw [xs_ar_s, hln]
            · rw [xs_ar_n e]; exact hlo j (by omega)
          · rw [e17] at hz
            obtain ⟨j, g1, g2, g3, g4⟩ := hpz z hz
            exact ⟨j, by omega, by rw [xs_ar_o (show (19 : Nat) ≠ 20 by decide)]; exact g2, g3, g4⟩
          · rw [xs_ar_n (by omega)]; exact hhi j (by omega) hj2
        · skip
          have c_249 : ¬ ((a * P i / S + 0) ≤ 0) := fun h => c_249 ((nI_leI (a := (a * P i / S + 0)) (b := 0) (by omega) (by omega)).mpr h)
          refine lv_aload_n hx hb dX1_heirs_252 rfl (lv_at hl 0 rfl) ?_
          refine gw_get (C := RX1) (T := TX1) (N := 21) (ci := 1) (fs := xx_fs1 ad (xs_ar τ 20 i (nI ((a * P i / S) + 0))).1.1) (v := .ref (ad 19)) hx hb hT hH.1 0 (xe_at (by omega) xx_0) rfl in_X1 10 (by decide) rfl q186 rfl dX1_heirs_253 ?_
          refine lv_iload hx hb dX1_heirs_256 (lv_at hl 5 rfl) ?_
          refine lv_iload hx hb dX1_heirs_258 (lv_at hl 6 rfl) ?_
          refine gw_iast (n := 4) hx hb hT hH 19 (xe_at (by omega) (xx_arr (k := 19) (by decide) (by decide))) (hPc (hLn a S P lf) i) rfl (show hPc (hLn a S P lf) i < 4 by omega) (by decide) dX1_heirs_260 (fun H locs hH => ?_)
          replace hH : xe_H G A s.heap H locs ad wk (xs_ar (xs_ar τ 20 i (nI ((a * P i / S) + 0))) 19 (hPc (hLn a S P lf) i) (nI i)) f g := by show gw_H G A s.heap H locs ad (xe_w G ad wk (xs_ar (xs_ar τ 20 i (nI ((a * P i / S) + 0))) 19 (hPc (hLn a S P lf) i) (nI i)) f g); rw [← xe_up (f := f) (g := g) (i := 19) (by decide) (xx_upA (G := G) (ad := ad) (wk := wk) (σ := xs_ar τ 20 i (nI ((a * P i / S) + 0))) (k := 19) (by decide) (hPc (hLn a S P lf) i) (nI i))]; exact hH
          have hk := hk.ar (k := 19) (n := hPc (hLn a S P lf) i) (nI i) (by decide) (by decide)
          refine lv_iinc (v := nI (hPc (hLn a S P lf) i + 1)) (lv' := [(17, .int (nI (hPc (hLn a S P lf) i + 1))), (0, .ref (ad 0)), (2, .int (nI n4)), (11, .ref (ad (220 + k))), (12, .ref (ad 300)), (16, .int (nI lf)), (18, .int (nI i))]) hx hb dX1_heirs_261 hl (k := 5) rfl (nI_add (hPc (hLn a S P lf) i) 1) (by decide) rfl (fun ls hl => ?_)
          refine lv_iinc (v := nI (i + 1)) (lv' := [(18, .int (nI (i + 1))), (17, .int (nI (hPc (hLn a S P lf) i + 1))), (0, .ref (ad 0)), (2, .int (nI n4)), (11, .ref (ad (220 + k))), (12, .ref (ad 300)), (16, .int (nI lf))]) hx hb dX1_heirs_264 hl (k := 6) rfl (nI_add i 1) (by decide) rfl (fun ls hl => ?_)
          refine lv_goto (tgt := 214) hx hb dX1_heirs_267 (by decide) ?_
          have e17 : hPc (hLn a S P lf) (i + 1) = hPc (hLn a S P lf) i + 1 := by
            rw [hPc, if_pos (show 0 < hLn a S P lf i by rw [hln]; omega)]
          have hl := lv_sub (l' := [(0, .ref (ad 0)), (2, .int (nI n4)), (11, .ref (ad (220 + k))), (12, .ref (ad 300)), (16, .int (nI lf)), (17, .int (nI (hPc (hLn a S P lf) i + 1))), (18, .int (nI (i + 1)))]) hl [2, 3, 4, 5, 6, 1, 0] rfl
          rw [← e17] at hl
          refine ih (i + 1) (xs_ar (xs_ar τ 20 i (nI ((a * P i / S) + 0))) 19 (hPc (hLn a S P lf) i) (nI i)) hk (by omega) (by omega) ⟨hτ.1, fun j h1 h2 => by rw [xs_ar_o h1, xs_ar_o h2]; exact hτ.2.1 j h1 h2, hτ.2.2⟩ (fun j hj => ?_) (fun z hz => ?_) (fun j hj hj2 => ?_) _ _ _ hH hl
          · skip
            rw [xs_ar_o (show (20 : Nat) ≠ 19 by decide)]
            by_cases e : j = i
            · subst e; rw [xs_ar_s, hln]
            · rw [xs_ar_n e]; exact hlo j (by omega)
          · rw [e17] at hz
            by_cases e : z = hPc (hLn a S P lf) i
            · subst e; exact ⟨i, by omega, xs_ar_s _ _ _ _, by rw [hln]; omega, rfl⟩
            · obtain ⟨j, g1, g2, g3, g4⟩ := hpz z (by omega)
              exact ⟨j, by omega, by rw [xs_ar_n e, xs_ar_o (show (19 : Nat) ≠ 20 by decide)]; exact g2, g3, g4⟩
          · rw [xs_ar_o (show (20 : Nat) ≠ 19 by decide), xs_ar_n (by omega)]; exact hhi j (by omega) hj2
      · skip
        have c_232 : ¬ (lf ≤ i) := fun h => c_232 ((nI_leI (a := lf) (b := i) (by omega) (by omega)).mpr h)
        refine lv_iconst (v := 1) hx hb dX1_heirs_235 (by decide) ?_
        refine lv_goto (tgt := 240) hx hb dX1_heirs_236 (by decide) ?_
        refine lv_iadd hx hb dX1_heirs_240 ?_
        refine lv_as (nI_add (a * P i / S) 1) ?_
        refine gw_iast (n := 4) hx hb hT hH 20 (xe_at (by omega) (xx_arr (k := 20) (by decide) (by decide))) i rfl (show i < 4 by omega) (by decide) dX1_heirs_241 (fun H locs hH => ?_)
        replace hH : xe_H G A s.heap H locs ad wk (xs_ar τ 20 i (nI ((a * P i / S) + 1))) f g := by show gw_H G A s.heap H locs ad (xe_w G ad wk (xs_ar τ 20 i (nI ((a * P i / S) + 1))) f g); rw [← xe_up (f := f) (g := g) (i := 20) (by decide) (xx_upA (G := G) (ad := ad) (wk := wk) (σ := τ) (k := 20) (by decide) i (nI ((a * P i / S) + 1)))]; exact hH
        have hk := hk.ar (k := 20) (n := i) (nI ((a * P i / S) + 1)) (by decide) (by decide)
        have hln : hLn a S P lf i = a * P i / S + 1 := by rw [hLn, if_pos (by omega)]
        refine lv_aload_n hx hb dX1_heirs_242 rfl (lv_at hl 0 rfl) ?_
        refine gw_get (C := RX1) (T := TX1) (N := 21) (ci := 1) (fs := xx_fs1 ad (xs_ar τ 20 i (nI ((a * P i / S) + 1))).1.1) (v := .ref (ad 20)) hx hb hT hH.1 0 (xe_at (by omega) xx_0) rfl in_X1 9 (by decide) rfl q185 rfl dX1_heirs_243 ?_
        refine lv_iload hx hb dX1_heirs_246 (lv_at hl 6 rfl) ?_
        refine gw_iald (n := 4) hx hb hT hH.1 20 (xe_at (by omega) (xx_arr (k := 20) (by decide) (by decide))) i rfl (show i < 4 by omega) (by decide) dX1_heirs_248 ?_
        refine lv_as (z := nI (a * P i / S + 1)) (xs_ar_s _ _ _ _) ?_
        refine lv_if_le (tgt := 264) hx hb dX1_heirs_249 (by decide) (fun c_249 => ?_) (fun c_249 => ?_)
        · skip
          have c_249 : (a * P i / S + 1) ≤ 0 := (nI_leI (a := (a * P i / S + 1)) (b := 0) (by omega) (by omega)).mp c_249
          refine lv_iinc (v := nI (i + 1)) (lv' := [(18, .int (nI (i + 1))), (0, .ref (ad 0)), (2, .int (nI n4)), (11, .ref (ad (220 + k))), (12, .ref (ad 300)), (16, .int (nI lf)), (17, .int (nI (hPc (hLn a S P lf) i)))]) hx hb dX1_heirs_264 hl (k := 6) rfl (nI_add i 1) (by decide) rfl (fun ls hl => ?_)
          refine lv_goto (tgt := 214) hx hb dX1_heirs_267 (by decide) ?_
          have e17 : hPc (hLn a S P lf) (i + 1) = hPc (hLn a S P lf) i := by
            rw [hPc, if_neg (show ¬ 0 < hLn a S P lf i by rw [hln]; omega), Nat.add_zero]
          have hl := lv_sub (l' := [(0, .ref (ad 0)), (2, .int (nI n4)), (11, .ref (ad (220 + k))), (12, .ref (ad 300)), (16, .int (nI lf)), (17, .int (nI (hPc (hLn a S P lf) i))), (18, .int (nI (i + 1)))]) hl [1, 2, 3, 4, 5, 6, 0] rfl
          rw [← e17] at hl
          refine ih (i + 1) (xs_ar τ 20 i (nI ((a * P i / S) + 1))) hk (by omega) (by omega) ⟨hτ.1, fun j h1 h2 => by rw [xs_ar_o h2]; exact hτ.2.1 j h1 h2, hτ.2.2⟩ (fun j hj => ?_) (fun z hz => ?_) (fun j hj hj2 => ?_) _ _ _ hH hl
          · skip
            by_cases e : j = i
            · subst e; rw [xs_ar_s, hln]
            · rw [xs_ar_n e]; exact hlo j (by omega)
          · rw [e17] at hz
            obtain ⟨j, g1, g2, g3, g4⟩ := hpz z hz
            exact ⟨j, by omega, by rw [xs_ar_o (show (19 : Nat) ≠ 20 by decide)]; exact g2, g3, g4⟩
          · rw [xs_ar_n (by omega)]; exact hhi j (by omega) hj2
        · skip
          have c_249 : ¬ ((a * P i / S + 1) ≤ 0) := fun h => c_249 ((nI_leI (a := (a * P i / S + 1)) (b := 0) (by omega) (by omega)).mpr h)
          refine lv_aload_n hx hb dX1_heirs_252 rfl (lv_at hl 0 rfl) ?_
          refine gw_get (C := RX1) (T := TX1) (N := 21) (ci := 1) (fs := xx_fs1 ad (xs_ar τ 20 i (nI ((a * P i / S) + 1))).1.1) (v := .ref (ad 19)) hx hb hT hH.1 0 (xe_at (by omega) xx_0) rfl in_X1 10 (by decide) rfl q186 rfl dX1_heirs_253 ?_
          refine lv_iload hx hb dX1_heirs_256 (lv_at hl 5 rfl) ?_
          refine lv_iload hx hb dX1_heirs_258 (lv_at hl 6 rfl) ?_
          refine gw_iast (n := 4) hx hb hT hH 19 (xe_at (by omega) (xx_arr (k := 19) (by decide) (by decide))) (hPc (hLn a S P lf) i) rfl (show hPc (hLn a S P lf) i < 4 by omega) (by decide) dX1_heirs_260 (fun H locs hH => ?_)
          replace hH : xe_H G A s.heap H locs ad wk (xs_ar (xs_ar τ 20 i (nI ((a * P i / S) + 1))) 19 (hPc (hLn a S P lf) i) (nI i)) f g := by show gw_H G A s.heap H locs ad (xe_w G ad wk (xs_ar (xs_ar τ 20 i (nI ((a * P i / S) + 1))) 19 (hPc (hLn a S P lf) i) (nI i)) f g); rw [← xe_up (f := f) (g := g) (i := 19) (by decide) (xx_upA (G := G) (ad := ad) (wk := wk) (σ := xs_ar τ 20 i (nI ((a * P i / S) + 1))) (k := 19) (by decide) (hPc (hLn a S P lf) i) (nI i))]; exact hH
          have hk := hk.ar (k := 19) (n := hPc (hLn a S P lf) i) (nI i) (by decide) (by decide)
          refine lv_iinc (v := nI (hPc (hLn a S P lf) i + 1)) (lv' := [(17, .int (nI (hPc (hLn a S P lf) i + 1))), (0, .ref (ad 0)), (2, .int (nI n4)), (11, .ref (ad (220 + k))), (12, .ref (ad 300)), (16, .int (nI lf)), (18, .int (nI i))]) hx hb dX1_heirs_261 hl (k := 5) rfl (nI_add (hPc (hLn a S P lf) i) 1) (by decide) rfl (fun ls hl => ?_)
          refine lv_iinc (v := nI (i + 1)) (lv' := [(18, .int (nI (i + 1))), (17, .int (nI (hPc (hLn a S P lf) i + 1))), (0, .ref (ad 0)), (2, .int (nI n4)), (11, .ref (ad (220 + k))), (12, .ref (ad 300)), (16, .int (nI lf))]) hx hb dX1_heirs_264 hl (k := 6) rfl (nI_add i 1) (by decide) rfl (fun ls hl => ?_)
          refine lv_goto (tgt := 214) hx hb dX1_heirs_267 (by decide) ?_
          have e17 : hPc (hLn a S P lf) (i + 1) = hPc (hLn a S P lf) i + 1 := by
            rw [hPc, if_pos (show 0 < hLn a S P lf i by rw [hln]; omega)]
          have hl := lv_sub (l' := [(0, .ref (ad 0)), (2, .int (nI n4)), (11, .ref (ad (220 + k))), (12, .ref (ad 300)), (16, .int (nI lf)), (17, .int (nI (hPc (hLn a S P lf) i + 1))), (18, .int (nI (i + 1)))]) hl [2, 3, 4, 5, 6, 1, 0] rfl
          rw [← e17] at hl
          refine ih (i + 1) (xs_ar (xs_ar τ 20 i (nI ((a * P i / S) + 1))) 19 (hPc (hLn a S P lf) i) (nI i)) hk (by omega) (by omega) ⟨hτ.1, fun j h1 h2 => by rw [xs_ar_o h1, xs_ar_o h2]; exact hτ.2.1 j h1 h2, hτ.2.2⟩ (fun j hj => ?_) (fun z hz => ?_) (fun j hj hj2 => ?_) _ _ _ hH hl
          · skip
            rw [xs_ar_o (show (20 : Nat) ≠ 19 by decide)]
            by_cases e : j = i
            · subst e; rw [xs_ar_s, hln]
            · rw [xs_ar_n e]; exact hlo j (by omega)
          · rw [e17] at hz
            by_cases e : z = hPc (hLn a S P lf) i
            · subst e; exact ⟨i, by omega, xs_ar_s _ _ _ _, by rw [hln]; omega, rfl⟩
            · obtain ⟨j, g1, g2, g3, g4⟩ := hpz z (by omega)
              exact ⟨j, by omega, by rw [xs_ar_n e, xs_ar_o (show (19 : Nat) ≠ 20 by decide)]; exact g2, g3, g4⟩
          · rw [xs_ar_o (show (20 : Nat) ≠ 19 by decide), xs_ar_n (by omega)]; exact hhi j (by omega) hj2

theorem upd4 (a b c1 d : Int32) : ∀ j, j < 4 → upd (upd (upd (upd (fun _ => 0) 0 a) 1 b) 2 c1) 3 d j = pk4 a b c1 d j := by
  intro j hj
  rcases (show j = 0 ∨ j = 1 ∨ j = 2 ∨ j = 3 by omega) with rfl | rfl | rfl | rfl
  · rw [pk_un (by decide), pk_un (by decide), pk_un (by decide), pk_us]; rfl
  · rw [pk_un (by decide), pk_un (by decide), pk_us]; rfl
  · rw [pk_un (by decide), pk_us]; rfl
  · rw [pk_us]; rfl

set_option maxHeartbeats 1000000 in
set_option maxRecDepth 100000 in
theorem c_X1_heirs (l : Launch) (hfl : l.flags = pinnedFlags ++ [noTraceFlag]) (σ : xS) {nC nS : Nat} {nW : Nat → Nat} (hk : xk σ nC nS nW) (v x a pa b pb c1 pc1 d pd : Int32) (hsh : ∀ k, k < nS → ∃ F T : Nat, σ.1.2 16 (7 * k + 1) = nI F ∧ σ.1.2 16 (7 * k + 2) = nI T ∧ F < T ∧ T ≤ 21600) : xx_C l yX1_heirs (Cond.code yX1_heirs cX1_heirs 21 (some .int)) 9 8 100 (fun ad => [.ref (ad 0), .int v, .int x, .int a, .int pa, .int b, .int pb, .int c1, .int pc1, .int d, .int pd]) σ (fun r u => ∃ k, k < nS ∧ nI k = v ∧ ∃ q, q < nC ∧ σ.1.2 16 (7 * k) = nI q ∧ ¬ (¬ σ.1.2 16 (7 * k + 4) = -1 ∧ σ.1.1 4 < σ.1.2 16 (7 * k + 6)) ∧ ∃ n4, (2 ≤ n4 ∧ n4 ≤ 4) ∧ nI n4 = x ∧ hGood n4 (pk4 a b c1 d) (pk4 pa pb pc1 pd) ∧ ∃ F T : Nat, (σ.1.2 16 (7 * k + 1) = nI F ∧ σ.1.2 16 (7 * k + 2) = nI T ∧ F < T ∧ T ≤ 21600) ∧ ∃ τ : xS, (τ.1.1 = σ.1.1 ∧ (∀ j, j ≠ 19 → j ≠ 20 → τ.1.2 j = σ.1.2 j) ∧ τ.2 = σ.2) ∧ nS + hPc (hLs (T - F) (hPn (pk4 pa pb pc1 pd)) n4) n4 - 1 ≤ 60 ∧ xSt τ k q nS F (pk4 a b c1 d) (hLs (T - F) (hPn (pk4 pa pb pc1 pd)) n4) n4 = u ∧ some (.int (nI (hPc (hLs (T - F) (hPn (pk4 pa pb pc1 pd)) n4) n4))) = r) (fun z u => (z = 1 ∧ (¬ ∃ k, k < nS ∧ nI k = v) ∧ σ = u) ∨ ∃ k, k < nS ∧ nI k = v ∧ ((z = 2 ∧ (¬ σ.1.2 16 (7 * k + 4) = -1 ∧ σ.1.1 4 < σ.1.2 16 (7 * k + 6)) ∧ σ = u) ∨ (¬ (¬ σ.1.2 16 (7 * k + 4) = -1 ∧ σ.1.1 4 < σ.1.2 16 (7 * k + 6)) ∧ ((z = 3 ∧ (¬ ∃ n4, (2 ≤ n4 ∧ n4 ≤ 4) ∧ nI n4 = x ∧ hGood n4 (pk4 a b c1 d) (pk4 pa pb pc1 pd)) ∧ σ = u) ∨ ∃ n4, (2 ≤ n4 ∧ n4 ≤ 4) ∧ nI n4 = x ∧ hGood n4 (pk4 a b c1 d) (pk4 pa pb pc1 pd) ∧ ∃ F T : Nat, (σ.1.2 16 (7 * k + 1) = nI F ∧ σ.1.2 16 (7 * k + 2) = nI T ∧ F < T ∧ T ≤ 21600) ∧ (u.1.1 = σ.1.1 ∧ (∀ j, j ≠ 19 → j ≠ 20 → u.1.2 j = σ.1.2 j) ∧ u.2 = σ.2) ∧ z = 4 ∧ 60 < nS + hPc (hLs (T - F) (hPn (pk4 pa pb pc1 pd)) n4) n4 - 1)))) := by
  refine xx_of (by decide) (fun ad => Nat.le_of_ble_eq_true rfl) ?_
  intro p e s m args below meth c G A ad wk wv ls X hE hH hl
  obtain ⟨hx, hb, hml, hT, hr, hlocks, hxc, hA⟩ := id X
  have hl : lv_has ls 21 [(0, .ref (ad 0)), (1, .int v), (2, .int x), (3, .int a), (4, .int pa), (5, .int b), (6, .int pb), (7, .int c1), (8, .int pc1), (9, .int d), (10, .int pd)] := hl
  have h8 := hk.1.2
  have h60 := hk.2.1.2
  have hk0 := hk
  refine lv_aload_n hx hb dX1_heirs_0 rfl (lv_at hl 0 rfl) ?_
  refine lv_iload_n hx hb dX1_heirs_1 rfl (lv_at hl 1 rfl) ?_
  by_cases h_2 : ∃ k, k < nS ∧ nI k = v
  · skip
    obtain ⟨k, hkk, rfl⟩ := h_2
    refine xr_Vr (n := 1) 0 ((c_X1_shareAt1 l σ hk k (by omega)) G ad wk) hx hb hml hT hH.1 hH.2.1 xx_0 rfl (lw_V q607 q609 qs8 q33 q610) (by decide +kernel) ⟨Nat.le_of_ble_eq_true rfl, Nat.le_of_ble_eq_true rfl⟩ rfl hl.1 rfl (Nat.le_of_ble_eq_true rfl) dX1_heirs_2 ⟨Nat.le_of_ble_eq_true rfl, Nat.le_of_ble_eq_true rfl⟩ ?_
    refine lv_astore (lv' := [(11, .ref (ad (220 + k))), (0, .ref (ad 0)), (1, .int (nI k)), (2, .int x), (3, .int a), (4, .int pa), (5, .int b), (6, .int pb), (7, .int c1), (8, .int pc1), (9, .int d), (10, .int pd)]) hx hb dX1_heirs_5 hl (by decide) rfl (fun ls hl => ?_)
    refine lv_aload hx hb dX1_heirs_7 (lv_at hl 0 rfl) ?_
    refine lv_aload_n hx hb dX1_heirs_9 rfl (lv_at hl 1 rfl) ?_
    refine gw_get (C := RX1) (T := TX1) (N := 21) (ci := 1) (fs := xx_fs1 ad σ.1.1) (v := .int (σ.1.1 4)) hx hb hT hH.1 0 xx_0 rfl in_X1 18 (by decide) rfl q194 rfl dX1_heirs_10 ?_
    refine xr_V (n := 1) (220 + k) ((c_X7_isLet l σ hk k (by omega) (σ.1.1 4)) G ad wk) hx hb hml hT hH.1 hH.2.1 (xx_share hk (k := k) (by omega)) rfl (lw_V q276 q277 q278 q49 q279) (by decide +kernel) ⟨Nat.le_of_ble_eq_true rfl, Nat.le_of_ble_eq_true rfl⟩ rfl hl.1 rfl (Nat.le_of_ble_eq_true rfl) dX1_heirs_13 ⟨Nat.le_of_ble_eq_true rfl, Nat.le_of_ble_eq_true rfl⟩ (fun r_13 hp_13 => ?_)
    rcases hp_13 with ⟨rfl, h_13⟩ | ⟨rfl, h_13⟩
    · skip
      refine lv_if_ne (tgt := 23) hx hb dX1_heirs_16 (by decide) (fun c_16 => ?_) (fun c_16 => ?_)
      · skip
        refine lv_iconst (v := 0) hx hb dX1_heirs_23 (by decide) ?_
        exact xt_call (k := 2) (yy_S (n := 1) (c_X1_stands0 l hfl σ G A ad wk wv) hx hb hml hT hxc hA hH q459 (ex_code_of hT.2.1 q459) (ex_named (hT.2.1 _ q459)) q458 q33 q457 (by decide +kernel) ⟨Nat.le_of_ble_eq_true rfl, Nat.le_of_ble_eq_true rfl⟩ rfl hl.1 rfl (Nat.le_of_ble_eq_true rfl) dX1_heirs_24 ⟨Nat.le_of_ble_eq_true rfl, Nat.le_of_ble_eq_true rfl⟩) hlocks hE (xx_tq hT hH (fun _ _ _ => rfl) (by decide) (Or.inr ⟨k, hkk, rfl, Or.inl ⟨rfl, h_13, rfl⟩⟩)) hH.2.2.2.2 (Nat.le_of_ble_eq_true rfl) (Nat.le_of_ble_eq_true rfl)
      · skip
        exact absurd c_16 (by decide)
    · skip
      refine lv_if_ne (tgt := 23) hx hb dX1_heirs_16 (by decide) (fun c_16 => ?_) (fun c_16 => ?_)
      · skip
        exact absurd c_16 (by decide)
      · skip
        refine lv_iconst (v := 1) hx hb dX1_heirs_19 (by decide) ?_
        refine lv_goto (tgt := 24) hx hb dX1_heirs_20 (by decide) ?_
        refine tk_cSv (n := 1) (c_X1_stands1 l) hx hb hml hT.1 hT.2.1 (fun a U g mk h => h) (fun U hU hW => trivial) (lw_S q457 q458 q33 q459) (by decide +kernel) ⟨Nat.le_of_ble_eq_true rfl, Nat.le_of_ble_eq_true rfl⟩ rfl hl.1 rfl (Nat.le_of_ble_eq_true rfl) dX1_heirs_24 ⟨Nat.le_of_ble_eq_true rfl, Nat.le_of_ble_eq_true rfl⟩ ?_
        refine lv_iload_n hx hb dX1_heirs_27 rfl (lv_at hl 3 rfl) ?_
        refine lv_iconst (v := 2) hx hb dX1_heirs_28 (by decide) ?_
        refine lv_iconst (v := 4) hx hb dX1_heirs_29 (by decide) ?_
        refine ss_ci (n := 3) (c_X1_isIn l x 2 4) hx hb hml hT.1 hT.2.1 (lw_S q254 q255 q33 q256) (by decide +kernel) ⟨Nat.le_of_ble_eq_true rfl, Nat.le_of_ble_eq_true rfl⟩ rfl hl.1 rfl (Nat.le_of_ble_eq_true rfl) dX1_heirs_30 ⟨Nat.le_of_ble_eq_true rfl, Nat.le_of_ble_eq_true rfl⟩ (fun r_30 hp_30 => ?_)
        rcases hp_30 with ⟨rfl, h_30⟩ | ⟨rfl, h_30⟩
        · skip
          refine tk_cSv (n := 1) (c_X1_must1 l) hx hb hml hT.1 hT.2.1 (fun a U g mk h => h) (fun U hU hW => trivial) (lw_S q318 q319 q33 q320) (by decide +kernel) ⟨Nat.le_of_ble_eq_true rfl, Nat.le_of_ble_eq_true rfl⟩ rfl hl.1 rfl (Nat.le_of_ble_eq_true rfl) dX1_heirs_33 ⟨Nat.le_of_ble_eq_true rfl, Nat.le_of_ble_eq_true rfl⟩ ?_
          obtain ⟨n4, h42, h44, rfl⟩ := in_rk (a := 2) (b := 4) (by decide) x h_30 (by decide)
          refine lv_iconst (v := 4) hx hb dX1_heirs_36 (by decide) ?_
          refine gw_newa (N := 4) (atype := .int) (ty := .int) hx hb hT hH hA 300 (xx_none (Or.inl (by decide))) (by decide) rfl q240 0 rfl (4, .inl (fun _ => 0)) (fun _ => rfl) (by decide) rfl (by decide) (Nat.le_of_ble_eq_true rfl) (Nat.le_of_ble_eq_true rfl) dX1_heirs_37 (fun ad1 H hext1 hH => ?_)
          refine lv_dup hx hb dX1_heirs_39 rfl ?_
          refine lv_iconst (v := 0) hx hb dX1_heirs_40 (by decide) ?_
          refine lv_iload_n hx hb dX1_heirs_41 rfl (lv_at hl 4 rfl) ?_
          refine gw_iast (n := 4) hx hb hT hH 300 xx_as 0 rfl (by decide) (by decide) dX1_heirs_42 (fun H locs hH => ?_)
          rw [va_up_s] at hH
          refine lv_dup hx hb dX1_heirs_43 rfl ?_
          refine lv_iconst (v := 1) hx hb dX1_heirs_44 (by decide) ?_
          refine lv_iload hx hb dX1_heirs_45 (lv_at hl 6 rfl) ?_
          refine gw_iast (n := 4) hx hb hT hH 300 xx_as 1 rfl (by decide) (by decide) dX1_heirs_47 (fun H locs hH => ?_)
          rw [va_up_s] at hH
          refine lv_dup hx hb dX1_heirs_48 rfl ?_
          refine lv_iconst (v := 2) hx hb dX1_heirs_49 (by decide) ?_
          refine lv_iload hx hb dX1_heirs_50 (lv_at hl 8 rfl) ?_
          refine gw_iast (n := 4) hx hb hT hH 300 xx_as 2 rfl (by decide) (by decide) dX1_heirs_52 (fun H locs hH => ?_)
          rw [va_up_s] at hH
          refine lv_dup hx hb dX1_heirs_53 rfl ?_
          refine lv_iconst (v := 3) hx hb dX1_heirs_54 (by decide) ?_
          refine lv_iload hx hb dX1_heirs_55 (lv_at hl 10 rfl) ?_
          refine gw_iast (n := 4) hx hb hT hH 300 xx_as 3 rfl (by decide) (by decide) dX1_heirs_57 (fun H locs hH => ?_)
          rw [va_up_s] at hH
          refine lv_astore (lv' := [(12, .ref (ad1 300)), (11, .ref (ad (220 + k))), (0, .ref (ad 0)), (1, .int (nI k)), (2, .int (nI n4)), (3, .int a), (4, .int pa), (5, .int b), (6, .int pb), (7, .int c1), (8, .int pc1), (9, .int d), (10, .int pd)]) hx hb dX1_heirs_58 hl (by decide) rfl (fun ls hl => ?_)
          refine lv_iconst (v := 4) hx hb dX1_heirs_60 (by decide) ?_
          refine gw_newa (N := 4) (atype := .int) (ty := .int) hx hb hT hH hA 301 (by rw [xx_at (by decide)]; exact xx_none (Or.inl (by decide))) (by decide) rfl q240 0 rfl (4, .inl (fun _ => 0)) (fun _ => rfl) (by decide) rfl (by decide) (Nat.le_of_ble_eq_true rfl) (Nat.le_of_ble_eq_true rfl) dX1_heirs_61 (fun ad2 H hext2 hH => ?_)
          refine lv_dup hx hb dX1_heirs_63 rfl ?_
          refine lv_iconst (v := 0) hx hb dX1_heirs_64 (by decide) ?_
          refine lv_iload hx hb dX1_heirs_65 (lv_at hl 6 rfl) ?_
          refine gw_iast (n := 4) hx hb hT hH 301 xx_as 0 rfl (by decide) (by decide) dX1_heirs_67 (fun H locs hH => ?_)
          rw [va_up_s] at hH
          refine lv_dup hx hb dX1_heirs_68 rfl ?_
          refine lv_iconst (v := 1) hx hb dX1_heirs_69 (by decide) ?_
          refine lv_iload hx hb dX1_heirs_70 (lv_at hl 8 rfl) ?_
          refine gw_iast (n := 4) hx hb hT hH 301 xx_as 1 rfl (by decide) (by decide) dX1_heirs_72 (fun H locs hH => ?_)
          rw [va_up_s] at hH
          refine lv_dup hx hb dX1_heirs_73 rfl ?_
          refine lv_iconst (v := 2) hx hb dX1_heirs_74 (by decide) ?_
          refine lv_iload hx hb dX1_heirs_75 (lv_at hl 10 rfl) ?_
          refine gw_iast (n := 4) hx hb hT hH 301 xx_as 2 rfl (by decide) (by decide) dX1_heirs_77 (fun H locs hH => ?_)
          rw [va_up_s] at hH
          refine lv_dup hx hb dX1_heirs_78 rfl ?_
          refine lv_iconst (v := 3) hx hb dX1_heirs_79 (by decide) ?_
          refine lv_iload hx hb dX1_heirs_80 (lv_at hl 12 rfl) ?_
          refine gw_iast (n := 4) hx hb hT hH 301 xx_as 3 rfl (by decide) (by decide) dX1_heirs_82 (fun H locs hH => ?_)
          rw [va_up_s] at hH
          refine lv_astore (lv' := [(13, .ref (ad2 301)), (12, .ref (ad1 300)), (11, .ref (ad (220 + k))), (0, .ref (ad 0)), (1, .int (nI k)), (2, .int (nI n4)), (3, .int a), (4, .int pa), (5, .int b), (6, .int pb), (7, .int c1), (8, .int pc1), (9, .int d), (10, .int pd)]) hx hb dX1_heirs_83 hl (by decide) rfl (fun ls hl => ?_)
          have ea : ∀ j, j < 280 → ad2 j = ad j := fun j hj => by rw [hext2 j (by omega), hext1 j (by omega)]
          have hx0 : ∀ i x, xx_w G ad wk σ i = some x → ad2 i = ad i := fun i x hx => ea i (xx_280 hx)
          rw [← hk.adr hx0] at hH
          have e18 := upd4 a b c1 d
          have e19 := upd4 pa pb pc1 pd
          replace hH : xe_H G A s.heap H locs ad2 wk σ _ _ := hH
          generalize upd (upd (upd (upd (fun _ => (0 : Int32)) 0 a) 1 b) 2 c1) 3 d = f at hH e18
          generalize upd (upd (upd (upd (fun _ => (0 : Int32)) 0 pa) 1 pb) 2 pc1) 3 pd = g at hH e19
          have hl := lv_sub (l' := [(0, .ref (ad 0)), (2, .int (nI n4)), (11, .ref (ad (220 + k))), (12, .ref (ad1 300)), (13, .ref (ad2 301))]) hl [3, 5, 2, 1, 0] rfl
          rw [← ea 0 (by decide), ← ea (220 + k) (by omega), ← hext2 300 (by decide)] at hl
          refine lv_iconst (v := 0) hx hb dX1_heirs_85 (by decide) ?_
          refine lv_istore (lv' := [(14, .int 0), (0, .ref (ad2 0)), (2, .int (nI n4)), (11, .ref (ad2 (220 + k))), (12, .ref (ad2 300)), (13, .ref (ad2 301))]) hx hb dX1_heirs_86 hl (by decide) rfl (fun ls hl => ?_)
          refine lv_iconst (v := 0) hx hb dX1_heirs_88 (by decide) ?_
          refine lv_istore (lv' := [(15, .int 0), (14, .int 0), (0, .ref (ad2 0)), (2, .int (nI n4)), (11, .ref (ad2 (220 + k))), (12, .ref (ad2 300)), (13, .ref (ad2 301))]) hx hb dX1_heirs_89 hl (by decide) rfl (fun ls hl => ?_)
          refine lp_X1_heirs1 σ hk k n4 hkk h44 (pk4 a b c1 d) (pk4 pa pb pc1 pd) f g X e18 e19 ?_ ?_ (n4 + 1) 0 (by omega) (Nat.zero_le _) (fun j hj => absurd hj (Nat.not_lt_zero j)) _ _ _ hH (lv_sub hl [2, 3, 4, 5, 6, 1, 0] rfl)
          · intro H locs ls hg hH hl
            obtain ⟨F, T, hF, hT2, hFT, hTb⟩ := hsh k hkk
            refine lv_aload hx hb dX1_heirs_146 (lv_at hl 2 rfl) ?_
            refine gw_getN (C := RX7) (T := TX7) (N := 8) (ci := 6) (fs := xx_fs7 ad2 σ.1 k) (v := .int (nI T)) hx hb hT hH.1 (220 + k) (xe_at (by omega) (xx_share hk (k := k) (by omega))) rfl in_X7 3 (by decide) rfl (List.mem_of_getElem? (i := 14) rfl) (congrArg some (congrArg Value.int hT2)) dX1_heirs_148 ?_
            refine lv_aload hx hb dX1_heirs_151 (lv_at hl 2 rfl) ?_
            refine gw_getN (C := RX7) (T := TX7) (N := 8) (ci := 6) (fs := xx_fs7 ad2 σ.1 k) (v := .int (nI F)) hx hb hT hH.1 (220 + k) (xe_at (by omega) (xx_share hk (k := k) (by omega))) rfl in_X7 2 (by decide) rfl (List.mem_of_getElem? (i := 13) rfl) (congrArg some (congrArg Value.int hF)) dX1_heirs_153 ?_
            refine lv_isub hx hb dX1_heirs_156 ?_
            refine lv_as (z := nI (T - F)) (pk_sub (by omega)) ?_
            refine lv_istore (lv' := [(15, .int (nI (T - F))), (0, .ref (ad2 0)), (2, .int (nI n4)), (11, .ref (ad2 (220 + k))), (12, .ref (ad2 300)), (13, .ref (ad2 301)), (14, .int (nI (hSum (hPn (pk4 pa pb pc1 pd)) n4)))]) hx hb dX1_heirs_157 hl (by decide) rfl (fun ls hl => ?_)
            refine lv_iload hx hb dX1_heirs_159 (lv_at hl 0 rfl) ?_
            refine lv_istore (lv' := [(16, .int (nI (T - F))), (15, .int (nI (T - F))), (0, .ref (ad2 0)), (2, .int (nI n4)), (11, .ref (ad2 (220 + k))), (12, .ref (ad2 300)), (13, .ref (ad2 301)), (14, .int (nI (hSum (hPn (pk4 pa pb pc1 pd)) n4)))]) hx hb dX1_heirs_161 hl (by decide) rfl (fun ls hl => ?_)
            refine lv_iconst (v := 0) hx hb dX1_heirs_163 (by decide) ?_
            refine lv_istore (lv' := [(17, .int 0), (16, .int (nI (T - F))), (15, .int (nI (T - F))), (0, .ref (ad2 0)), (2, .int (nI n4)), (11, .ref (ad2 (220 + k))), (12, .ref (ad2 300)), (13, .ref (ad2 301)), (14, .int (nI (hSum (hPn (pk4 pa pb pc1 pd)) n4)))]) hx hb dX1_heirs_164 hl (by decide) rfl (fun ls hl => ?_)
            have hPk : ∀ j, j < n4 → g j = nI ((hPn (pk4 pa pb pc1 pd)) j) ∧ 1 ≤ (hPn (pk4 pa pb pc1 pd)) j ∧ (hPn (pk4 pa pb pc1 pd)) j ≤ 100 := fun j hj => by rw [e19 j (by omega)]; exact hPn_ok hg hj
            have hbd := hSum_bd (P := (hPn (pk4 pa pb pc1 pd))) n4 (Nat.le_refl _) (fun j hj => (hPk j hj).2)
            refine lp_X1_heirs3 σ hk k n4 hkk h44 f g X (hPn (pk4 pa pb pc1 pd)) hPk (hSum (hPn (pk4 pa pb pc1 pd)) n4) (T - F) (by omega) (Nat.le_refl _) (by omega) (by omega) ?_ (n4 + 1) 0 σ hk (by omega) (Nat.zero_le _) ⟨⟨rfl, fun j hj => rfl⟩, rfl⟩ (fun j hj => absurd hj (Nat.not_lt_zero j)) _ _ _ hH (lv_sub hl [3, 4, 5, 6, 7, 8, 2, 1, 0] rfl)
            intro τ3 hk3 hτ3 hlo3 H locs ls hH hl
            refine lv_iconst (v := 0) hx hb dX1_heirs_208 (by decide) ?_
            refine lv_istore (lv' := [(17, .int 0), (0, .ref (ad2 0)), (2, .int (nI n4)), (11, .ref (ad2 (220 + k))), (12, .ref (ad2 300)), (16, .int (nI ((T - F) - hTot (T - F) (hSum (hPn (pk4 pa pb pc1 pd)) n4) (hPn (pk4 pa pb pc1 pd)) n4)))]) hx hb dX1_heirs_209 hl (by decide) rfl (fun ls hl => ?_)
            refine lv_iconst (v := 0) hx hb dX1_heirs_211 (by decide) ?_
            refine lv_istore (lv' := [(18, .int 0), (17, .int 0), (0, .ref (ad2 0)), (2, .int (nI n4)), (11, .ref (ad2 (220 + k))), (12, .ref (ad2 300)), (16, .int (nI ((T - F) - hTot (T - F) (hSum (hPn (pk4 pa pb pc1 pd)) n4) (hPn (pk4 pa pb pc1 pd)) n4)))]) hx hb dX1_heirs_212 hl (by decide) rfl (fun ls hl => ?_)
            have hq4 : ∀ j, j < n4 → (T - F) * (hPn (pk4 pa pb pc1 pd)) j / (hSum (hPn (pk4 pa pb pc1 pd)) n4) ≤ 21600 * 100 := fun j hj => Nat.le_trans (Nat.div_le_self _ _) (Nat.mul_le_mul (by omega) (hPk j hj).2.2)
            refine lp_X1_heirs4 τ3 hk3 k n4 hkk h44 f g X (T - F) (hSum (hPn (pk4 pa pb pc1 pd)) n4) ((T - F) - hTot (T - F) (hSum (hPn (pk4 pa pb pc1 pd)) n4) (hPn (pk4 pa pb pc1 pd)) n4) (hPn (pk4 pa pb pc1 pd)) (fun j hj => by have := hq4 j hj; omega) (by omega) ?_ (n4 + 1) 0 τ3 hk3 (by omega) (Nat.zero_le _) ⟨rfl, fun _ _ _ => rfl, rfl⟩ (fun j hj => absurd hj (Nat.not_lt_zero j)) (fun z hz => absurd hz (Nat.not_lt_zero z)) (fun j _ hj => hlo3 j hj) _ _ _ hH (lv_sub hl [2, 3, 4, 5, 6, 1, 0] rfl)
            intro τ4 hk4 hτ4 hlo4 hpz H locs ls hH hl
            replace hlo4 : ∀ j, j < n4 → τ4.1.2 20 j = nI ((hLs (T - F) (hPn (pk4 pa pb pc1 pd)) n4) j) := hlo4
            replace hpz : ∀ z, z < hPc (hLs (T - F) (hPn (pk4 pa pb pc1 pd)) n4) n4 → ∃ j, j < n4 ∧ τ4.1.2 19 z = nI j ∧ 0 < (hLs (T - F) (hPn (pk4 pa pb pc1 pd)) n4) j ∧ hPc (hLs (T - F) (hPn (pk4 pa pb pc1 pd)) n4) j = z := hpz
            have hs4 : τ4.1.1 = σ.1.1 ∧ (∀ j, j ≠ 19 → j ≠ 20 → τ4.1.2 j = σ.1.2 j) ∧ τ4.2 = σ.2 := ⟨hτ4.1.trans hτ3.1.1, fun j h1 h2 => (hτ4.2.1 j h1 h2).trans (hτ3.1.2 j h2), hτ4.2.2.trans hτ3.2⟩
            have hpc := hPc_le (hLs (T - F) (hPn (pk4 pa pb pc1 pd)) n4) n4
            have hF4 : τ4.1.2 16 (7 * k + 1) = nI F := by rw [hs4.2.1 16 (by decide) (by decide)]; exact hF
            obtain ⟨q, hqc, hq⟩ := hk4.2.2.2 k hkk
            have hk := hk4
            refine lv_aload_n hx hb dX1_heirs_270 rfl (lv_at hl 0 rfl) ?_
            refine gw_get (C := RX1) (T := TX1) (N := 21) (ci := 1) (fs := xx_fs1 ad2 τ4.1.1) (v := .int (τ4.1.1 17)) hx hb hT hH.1 0 (xe_at (by omega) xx_0) rfl in_X1 14 (by decide) rfl q190 rfl dX1_heirs_271 ?_
            refine lv_as hk4.2.1.1 ?_
            refine lv_iload hx hb dX1_heirs_274 (lv_at hl 3 rfl) ?_
            refine lv_iadd hx hb dX1_heirs_276 ?_
            refine lv_as (nI_add nS (hPc (hLs (T - F) (hPn (pk4 pa pb pc1 pd)) n4) n4)) ?_
            refine lv_iconst (v := 1) hx hb dX1_heirs_277 (by decide) ?_
            refine lv_isub hx hb dX1_heirs_278 ?_
            refine lv_as (z := nI (nS + hPc (hLs (T - F) (hPn (pk4 pa pb pc1 pd)) n4) n4 - 1)) (nI_pre (by omega)) ?_
            refine lv_bipush (v := 60) hx hb dX1_heirs_279 (by decide) ?_
            refine lv_icmp_gt (tgt := 288) hx hb dX1_heirs_281 (by decide) (fun c_281 => ?_) (fun c_281 => ?_)
            · skip
              have c_281 : 60 < (nS + hPc (hLs (T - F) (hPn (pk4 pa pb pc1 pd)) n4) n4 - 1) := (nI_ltI (a := 60) (b := (nS + hPc (hLs (T - F) (hPn (pk4 pa pb pc1 pd)) n4) n4 - 1)) (by omega) (by omega)).mp c_281
              refine lv_iconst (v := 0) hx hb dX1_heirs_288 (by decide) ?_
              exact xt_call (k := 4) (yy_S (n := 1) (c_X1_mayBe0 l hfl τ4 G A ad2 wk wv) hx hb hml hT hxc hA (xe_x hH) q352 (ex_code_of hT.2.1 q352) (ex_named (hT.2.1 _ q352)) q351 q33 q350 (by decide +kernel) ⟨Nat.le_of_ble_eq_true rfl, Nat.le_of_ble_eq_true rfl⟩ rfl hl.1 rfl (Nat.le_of_ble_eq_true rfl) dX1_heirs_289 ⟨Nat.le_of_ble_eq_true rfl, Nat.le_of_ble_eq_true rfl⟩) hlocks hE (xx_tq hT (xe_x hH) hx0 (by decide) (Or.inr ⟨k, hkk, rfl, Or.inr ⟨h_13, Or.inr ⟨n4, ⟨h42, h44⟩, rfl, hg, F, T, ⟨hF, hT2, hFT, hTb⟩, hs4, rfl, by omega⟩⟩⟩)) hH.2.2.2.2 (Nat.le_of_ble_eq_true rfl) (Nat.le_of_ble_eq_true rfl)
            · skip
              have c_281 : ¬ (60 < (nS + hPc (hLs (T - F) (hPn (pk4 pa pb pc1 pd)) n4) n4 - 1)) := fun h => c_281 ((nI_ltI (a := 60) (b := (nS + hPc (hLs (T - F) (hPn (pk4 pa pb pc1 pd)) n4) n4 - 1)) (by omega) (by omega)).mpr h)
              refine lv_iconst (v := 1) hx hb dX1_heirs_284 (by decide) ?_
              refine lv_goto (tgt := 289) hx hb dX1_heirs_285 (by decide) ?_
              refine tk_cSv (n := 1) (c_X1_mayBe1 l) hx hb hml hT.1 hT.2.1 (fun a U g mk h => h) (fun U hU hW => trivial) (lw_S q350 q351 q33 q352) (by decide +kernel) ⟨Nat.le_of_ble_eq_true rfl, Nat.le_of_ble_eq_true rfl⟩ rfl hl.1 rfl (Nat.le_of_ble_eq_true rfl) dX1_heirs_289 ⟨Nat.le_of_ble_eq_true rfl, Nat.le_of_ble_eq_true rfl⟩ ?_
              refine lv_aload hx hb dX1_heirs_292 (lv_at hl 1 rfl) ?_
              refine gw_getN (C := RX7) (T := TX7) (N := 8) (ci := 6) (fs := xx_fs7 ad2 τ4.1 k) (v := .int (nI F)) hx hb hT hH.1 (220 + k) (xe_at (by omega) (xx_share hk (k := k) (by omega))) rfl in_X7 2 (by decide) rfl (List.mem_of_getElem? (i := 13) rfl) (congrArg some (congrArg Value.int hF4)) dX1_heirs_294 ?_
              refine lv_istore (lv' := [(18, .int (nI F)), (0, .ref (ad2 0)), (11, .ref (ad2 (220 + k))), (12, .ref (ad2 300)), (17, .int (nI (hPc (hLs (T - F) (hPn (pk4 pa pb pc1 pd)) n4) n4)))]) hx hb dX1_heirs_297 hl (by decide) rfl (fun ls hl => ?_)
              refine lv_iconst (v := 0) hx hb dX1_heirs_299 (by decide) ?_
              refine lv_istore (lv' := [(19, .int 0), (18, .int (nI F)), (0, .ref (ad2 0)), (11, .ref (ad2 (220 + k))), (12, .ref (ad2 300)), (17, .int (nI (hPc (hLs (T - F) (hPn (pk4 pa pb pc1 pd)) n4) n4)))]) hx hb dX1_heirs_300 hl (by decide) rfl (fun ls hl => ?_)
              have hl := lv_sub (l' := [(0, .ref (ad2 0)), (11, .ref (ad2 (220 + k))), (12, .ref (ad2 300)), (17, .int (nI (hPc (hLs (T - F) (hPn (pk4 pa pb pc1 pd)) n4) n4))), (18, .int (nI (F + hSum (hLs (T - F) (hPn (pk4 pa pb pc1 pd)) n4) 0))), (19, .int 0)]) hl [2, 3, 4, 5, 1, 0] rfl
              replace hH : xe_H G A s.heap H locs ad2 wk (xSt τ4 k q nS F (pk4 a b c1 d) (hLs (T - F) (hPn (pk4 pa pb pc1 pd)) n4) 0) f g := hH
              have hj0 : hPc (hLs (T - F) (hPn (pk4 pa pb pc1 pd)) n4) 0 = 0 := rfl
              have hjn0 : 0 ≤ n4 := Nat.zero_le _
              refine lv_iload hx hb dX1_heirs_302 (lv_at hl 5 rfl) ?_
              refine lv_iload hx hb dX1_heirs_304 (lv_at hl 3 rfl) ?_
              refine lv_icmp_ge (tgt := 397) hx hb dX1_heirs_306 (by decide) (fun c_306 => ?_) (fun c_306 => ?_)
              · skip
                have c_306 : (hPc (hLs (T - F) (hPn (pk4 pa pb pc1 pd)) n4) n4) ≤ 0 := (nI_leI (a := (hPc (hLs (T - F) (hPn (pk4 pa pb pc1 pd)) n4) n4)) (b := 0) (by omega) (by omega)).mp c_306
                have en : hPc (hLs (T - F) (hPn (pk4 pa pb pc1 pd)) n4) n4 = 0 := by have := hPc_mono (hLs (T - F) (hPn (pk4 pa pb pc1 pd)) n4) hjn0; omega
                have ee := xSt_eq τ4 k q nS F (pk4 a b c1 d) (hLs (T - F) (hPn (pk4 pa pb pc1 pd)) n4) (a := 0) n4 hjn0 (hj0.trans en.symm)
                rw [ee.1] at hH
                refine lv_iload hx hb dX1_heirs_397 (lv_at hl 3 rfl) ?_
                exact xx_ri hx hb hr hlocks hT (xe_x hH) hx0 rfl dX1_heirs_399 (⟨k, hkk, rfl, q, hqc, (congrFun (hs4.2.1 16 (by decide) (by decide)) _).symm.trans hq, h_13, n4, ⟨h42, h44⟩, rfl, hg, F, T, ⟨hF, hT2, hFT, hTb⟩, τ4, hs4, by omega, rfl, rfl⟩) (Nat.le_of_ble_eq_true rfl) (Nat.le_of_ble_eq_true rfl)
              · skip
                have c_306 : ¬ ((hPc (hLs (T - F) (hPn (pk4 pa pb pc1 pd)) n4) n4) ≤ 0) := fun h => c_306 ((nI_leI (a := (hPc (hLs (T - F) (hPn (pk4 pa pb pc1 pd)) n4) n4)) (b := 0) (by omega) (by omega)).mpr h)
                obtain ⟨i0, hi0, h19_0, hps0, hpc0⟩ := hpz 0 (by omega)
                have hle0 : 0 ≤ i0 := by
                  rcases Nat.lt_or_ge i0 (0) with y | y
                  · have h1 := hPc_mono (hLs (T - F) (hPn (pk4 pa pb pc1 pd)) n4) (show i0 + 1 ≤ 0 by omega)
                    have h2 : hPc (hLs (T - F) (hPn (pk4 pa pb pc1 pd)) n4) (i0 + 1) = hPc (hLs (T - F) (hPn (pk4 pa pb pc1 pd)) n4) i0 + (if 0 < (hLs (T - F) (hPn (pk4 pa pb pc1 pd)) n4) i0 then 1 else 0) := rfl
                    rw [if_pos hps0] at h2
                    omega
                  · exact y
                have ee0 := xSt_eq τ4 k q nS F (pk4 a b c1 d) (hLs (T - F) (hPn (pk4 pa pb pc1 pd)) n4) (a := 0) i0 hle0 (hj0.trans hpc0.symm)
                rw [ee0.1] at hH
                rw [ee0.2] at hl
                have hLi0 : (hLs (T - F) (hPn (pk4 pa pb pc1 pd)) n4) i0 < 100000000 := by
                  have := hq4 i0 hi0
                  show (T - F) * (hPn (pk4 pa pb pc1 pd)) i0 / (hSum (hPn (pk4 pa pb pc1 pd)) n4) + (if i0 < ((T - F) - hTot (T - F) (hSum (hPn (pk4 pa pb pc1 pd)) n4) (hPn (pk4 pa pb pc1 pd)) n4) then 1 else 0) < 100000000
                  split <;> omega
                have hk := xSt_k hk4 (k := k) (q := q) (F := F) hqc (by omega) (pk4 a b c1 d) (hLs (T - F) (hPn (pk4 pa pb pc1 pd)) n4) i0 (by rw [hpc0]; omega)
                rw [show xSn nS (hLs (T - F) (hPn (pk4 pa pb pc1 pd)) n4) i0 = nS from by unfold xSn; rw [hpc0, if_pos rfl]] at hk
                refine lv_aload_n hx hb dX1_heirs_309 rfl (lv_at hl 0 rfl) ?_
                refine gw_get (C := RX1) (T := TX1) (N := 21) (ci := 1) (fs := xx_fs1 ad2 (xSt τ4 k q nS F (pk4 a b c1 d) (hLs (T - F) (hPn (pk4 pa pb pc1 pd)) n4) i0).1.1) (v := .ref (ad2 19)) hx hb hT hH.1 0 (xe_at (by omega) xx_0) rfl in_X1 10 (by decide) rfl q186 rfl dX1_heirs_310 ?_
                refine lv_iload hx hb dX1_heirs_313 (lv_at hl 5 rfl) ?_
                refine gw_iald (n := 4) hx hb hT hH.1 19 (xe_at (by omega) (xx_arr (k := 19) (by decide) (by decide))) 0 rfl (show 0 < 4 by omega) (by decide) dX1_heirs_315 ?_
                refine lv_as (z := nI i0) ((congrFun (xSt_o _ _ _ _ _ _ _ (by decide) _) _).trans h19_0) ?_
                refine lv_istore (lv' := [(20, .int (nI i0)), (0, .ref (ad2 0)), (11, .ref (ad2 (220 + k))), (12, .ref (ad2 300)), (17, .int (nI (hPc (hLs (T - F) (hPn (pk4 pa pb pc1 pd)) n4) n4))), (18, .int (nI (F + hSum (hLs (T - F) (hPn (pk4 pa pb pc1 pd)) n4) i0))), (19, .int 0)]) hx hb dX1_heirs_316 hl (by decide) rfl (fun ls hl => ?_)
                refine lv_iload hx hb dX1_heirs_318 (lv_at hl 6 rfl) ?_
                refine lv_if_ne (tgt := 348) hx hb dX1_heirs_320 (by decide) (fun c_320 => ?_) (fun c_320 => ?_)
                · skip
                  exact absurd c_320 (by decide)
                · skip
                  refine lv_aload hx hb dX1_heirs_323 (lv_at hl 2 rfl) ?_
                  refine lv_iload hx hb dX1_heirs_325 (lv_at hl 5 rfl) ?_
                  refine lv_iload hx hb dX1_heirs_327 (lv_at hl 5 rfl) ?_
                  refine lv_aload_n hx hb dX1_heirs_329 rfl (lv_at hl 1 rfl) ?_
                  refine gw_get (C := RX1) (T := TX1) (N := 21) (ci := 1) (fs := xx_fs1 ad2 (xSt τ4 k q nS F (pk4 a b c1 d) (hLs (T - F) (hPn (pk4 pa pb pc1 pd)) n4) i0).1.1) (v := .ref (ad2 20)) hx hb hT hH.1 0 (xe_at (by omega) xx_0) rfl in_X1 9 (by decide) rfl q185 rfl dX1_heirs_330 ?_
                  refine lv_iload hx hb dX1_heirs_333 (lv_at hl 0 rfl) ?_
                  refine gw_iald (n := 4) hx hb hT hH.1 20 (xe_at (by omega) (xx_arr (k := 20) (by decide) (by decide))) i0 rfl (show i0 < 4 by omega) (by decide) dX1_heirs_335 ?_
                  refine lv_as (z := nI ((hLs (T - F) (hPn (pk4 pa pb pc1 pd)) n4) i0)) ((congrFun (xSt_o _ _ _ _ _ _ _ (by decide) _) _).trans (hlo4 _ (by omega))) ?_
                  refine lv_iadd hx hb dX1_heirs_336 ?_
                  refine lv_as (nI_add (F + hSum (hLs (T - F) (hPn (pk4 pa pb pc1 pd)) n4) i0) ((hLs (T - F) (hPn (pk4 pa pb pc1 pd)) n4) i0)) ?_
                  refine lv_aload hx hb dX1_heirs_337 (lv_at hl 3 rfl) ?_
                  refine lv_iload hx hb dX1_heirs_339 (lv_at hl 0 rfl) ?_
                  refine gw_iald (n := 4) hx hb hT hH.1 300 xe_300 i0 rfl (show i0 < 4 by omega) (by decide) dX1_heirs_341 ?_
                  refine lv_as (z := (pk4 a b c1 d) i0) (e18 _ (by omega)) ?_
                  have ef : xSt τ4 k q nS F (pk4 a b c1 d) (hLs (T - F) (hPn (pk4 pa pb pc1 pd)) n4) (i0 + 1) = xBe (xSt τ4 k q nS F (pk4 a b c1 d) (hLs (T - F) (hPn (pk4 pa pb pc1 pd)) n4) i0) k (nI (F + hSum (hLs (T - F) (hPn (pk4 pa pb pc1 pd)) n4) i0)) (nI ((F + hSum (hLs (T - F) (hPn (pk4 pa pb pc1 pd)) n4) i0) + ((hLs (T - F) (hPn (pk4 pa pb pc1 pd)) n4) i0))) ((pk4 a b c1 d) i0) := by rw [xSt, if_neg (by omega), if_pos hpc0]
                  refine xe_call (xz_run (σ := xSt τ4 k q nS F (pk4 a b c1 d) (hLs (T - F) (hPn (pk4 pa pb pc1 pd)) n4) i0) (ye_V (n := 3) (A' := xe_A A ad2) (220 + k) (c_X7_be l (xSt τ4 k q nS F (pk4 a b c1 d) (hLs (T - F) (hPn (pk4 pa pb pc1 pd)) n4) i0) hk k (by omega) (nI (F + hSum (hLs (T - F) (hPn (pk4 pa pb pc1 pd)) n4) i0)) (nI ((F + hSum (hLs (T - F) (hPn (pk4 pa pb pc1 pd)) n4) i0) + ((hLs (T - F) (hPn (pk4 pa pb pc1 pd)) n4) i0))) ((pk4 a b c1 d) i0) G (xe_A A ad2) ad2 wk wv) hx hb hml hT hxc (fun q h => h.1) (xe_A' hH hA) (xe_x hH) (xe_D hH) (xx_share hk (k := k) (by omega)) rfl q614 (ex_code_of hT.2.1 q614) q612 q613 q49 q611 (by decide +kernel) ⟨Nat.le_of_ble_eq_true rfl, Nat.le_of_ble_eq_true rfl⟩ rfl hl.1 rfl (Nat.le_of_ble_eq_true rfl) dX1_heirs_342 ⟨Nat.le_of_ble_eq_true rfl, Nat.le_of_ble_eq_true rfl⟩)) hH (fun v u' hp => ⟨nC, _, nW, by obtain ⟨-, rfl⟩ := hp; exact hk.be _ _ _⟩) (fun v u' ad_342_0 H locs hext e300 e301 hH hp => ?_)
                  obtain ⟨rfl, rfl⟩ := hp
                  have hx0 := xx_ext2 hk0 hk (Nat.le_refl _) (by omega) (fun _ => Nat.le_refl _) hx0 hext
                  rw [← hext 0 _ xx_0, ← hext (220 + k) _ (xx_share hk (k := k) (by omega)), ← e300] at hl
                  rw [← ef] at hH
                  refine lv_goto (tgt := 379) hx hb dX1_heirs_345 (by decide) ?_
                  refine lv_iload hx hb dX1_heirs_379 (lv_at hl 5 rfl) ?_
                  refine lv_aload_n hx hb dX1_heirs_381 rfl (lv_at hl 1 rfl) ?_
                  refine gw_get (C := RX1) (T := TX1) (N := 21) (ci := 1) (fs := xx_fs1 ad_342_0 (xSt τ4 k q nS F (pk4 a b c1 d) (hLs (T - F) (hPn (pk4 pa pb pc1 pd)) n4) (i0 + 1)).1.1) (v := .ref (ad_342_0 20)) hx hb hT hH.1 0 (xe_at (by omega) xx_0) rfl in_X1 9 (by decide) rfl q185 rfl dX1_heirs_382 ?_
                  refine lv_iload hx hb dX1_heirs_385 (lv_at hl 0 rfl) ?_
                  refine gw_iald (n := 4) hx hb hT hH.1 20 (xe_at (by omega) (xx_arr (k := 20) (by decide) (by decide))) i0 rfl (show i0 < 4 by omega) (by decide) dX1_heirs_387 ?_
                  refine lv_as (z := nI ((hLs (T - F) (hPn (pk4 pa pb pc1 pd)) n4) i0)) ((congrFun (xSt_o _ _ _ _ _ _ _ (by decide) _) _).trans (hlo4 _ (by omega))) ?_
                  refine lv_iadd hx hb dX1_heirs_388 ?_
                  refine lv_as (z := nI (F + hSum (hLs (T - F) (hPn (pk4 pa pb pc1 pd)) n4) (i0 + 1))) (by rw [nI_add, hSum, Nat.add_assoc]) ?_
                  refine lv_istore (lv' := [(18, .int (nI (F + hSum (hLs (T - F) (hPn (pk4 pa pb pc1 pd)) n4) (i0 + 1)))), (20, .int (nI i0)), (0, .ref (ad_342_0 0)), (11, .ref (ad_342_0 (220 + k))), (12, .ref (ad_342_0 300)), (17, .int (nI (hPc (hLs (T - F) (hPn (pk4 pa pb pc1 pd)) n4) n4))), (19, .int 0)]) hx hb dX1_heirs_389 hl (by decide) rfl (fun ls hl => ?_)
                  refine lv_iinc (v := nI (0 + 1)) (lv' := [(19, .int (nI (0 + 1))), (18, .int (nI (F + hSum (hLs (T - F) (hPn (pk4 pa pb pc1 pd)) n4) (i0 + 1)))), (20, .int (nI i0)), (0, .ref (ad_342_0 0)), (11, .ref (ad_342_0 (220 + k))), (12, .ref (ad_342_0 300)), (17, .int (nI (hPc (hLs (T - F) (hPn (pk4 pa pb pc1 pd)) n4) n4)))]) hx hb dX1_heirs_391 hl (k := 6) rfl (nI_add 0 1) (by decide) rfl (fun ls hl => ?_)
                  refine lv_goto (tgt := 302) hx hb dX1_heirs_394 (by decide) ?_
                  have hj1 : hPc (hLs (T - F) (hPn (pk4 pa pb pc1 pd)) n4) (i0 + 1) = 1 := by rw [hPc, hpc0, if_pos hps0]
                  have hjn1 : i0 + 1 ≤ n4 := by omega
                  have hl := lv_sub (l' := [(0, .ref (ad_342_0 0)), (11, .ref (ad_342_0 (220 + k))), (12, .ref (ad_342_0 300)), (17, .int (nI (hPc (hLs (T - F) (hPn (pk4 pa pb pc1 pd)) n4) n4))), (18, .int (nI (F + hSum (hLs (T - F) (hPn (pk4 pa pb pc1 pd)) n4) (i0 + 1)))), (19, .int 1)]) hl [3, 4, 5, 6, 1, 0] rfl
                  refine lv_iload hx hb dX1_heirs_302 (lv_at hl 5 rfl) ?_
                  refine lv_iload hx hb dX1_heirs_304 (lv_at hl 3 rfl) ?_
                  refine lv_icmp_ge (tgt := 397) hx hb dX1_heirs_306 (by decide) (fun c_306 => ?_) (fun c_306 => ?_)
                  · skip
                    have c_306 : (hPc (hLs (T - F) (hPn (pk4 pa pb pc1 pd)) n4) n4) ≤ 1 := (nI_leI (a := (hPc (hLs (T - F) (hPn (pk4 pa pb pc1 pd)) n4) n4)) (b := 1) (by omega) (by omega)).mp c_306
                    have en : hPc (hLs (T - F) (hPn (pk4 pa pb pc1 pd)) n4) n4 = 1 := by have := hPc_mono (hLs (T - F) (hPn (pk4 pa pb pc1 pd)) n4) hjn1; omega
                    have ee := xSt_eq τ4 k q nS F (pk4 a b c1 d) (hLs (T - F) (hPn (pk4 pa pb pc1 pd)) n4) (a := i0 + 1) n4 hjn1 (hj1.trans en.symm)
                    rw [ee.1] at hH
                    refine lv_iload hx hb dX1_heirs_397 (lv_at hl 3 rfl) ?_
                    exact xx_ri hx hb hr hlocks hT (xe_x hH) hx0 rfl dX1_heirs_399 (⟨k, hkk, rfl, q, hqc, (congrFun (hs4.2.1 16 (by decide) (by decide)) _).symm.trans hq, h_13, n4, ⟨h42, h44⟩, rfl, hg, F, T, ⟨hF, hT2, hFT, hTb⟩, τ4, hs4, by omega, rfl, rfl⟩) (Nat.le_of_ble_eq_true rfl) (Nat.le_of_ble_eq_true rfl)
                  · skip
                    have c_306 : ¬ ((hPc (hLs (T - F) (hPn (pk4 pa pb pc1 pd)) n4) n4) ≤ 1) := fun h => c_306 ((nI_leI (a := (hPc (hLs (T - F) (hPn (pk4 pa pb pc1 pd)) n4) n4)) (b := 1) (by omega) (by omega)).mpr h)
                    obtain ⟨i1, hi1, h19_1, hps1, hpc1⟩ := hpz 1 (by omega)
                    have hle1 : i0 + 1 ≤ i1 := by
                      rcases Nat.lt_or_ge i1 (i0 + 1) with y | y
                      · have h1 := hPc_mono (hLs (T - F) (hPn (pk4 pa pb pc1 pd)) n4) (show i1 + 1 ≤ i0 + 1 by omega)
                        have h2 : hPc (hLs (T - F) (hPn (pk4 pa pb pc1 pd)) n4) (i1 + 1) = hPc (hLs (T - F) (hPn (pk4 pa pb pc1 pd)) n4) i1 + (if 0 < (hLs (T - F) (hPn (pk4 pa pb pc1 pd)) n4) i1 then 1 else 0) := rfl
                        rw [if_pos hps1] at h2
                        omega
                      · exact y
                    have ee1 := xSt_eq τ4 k q nS F (pk4 a b c1 d) (hLs (T - F) (hPn (pk4 pa pb pc1 pd)) n4) (a := i0 + 1) i1 hle1 (hj1.trans hpc1.symm)
                    rw [ee1.1] at hH
                    rw [ee1.2] at hl
                    have hLi1 : (hLs (T - F) (hPn (pk4 pa pb pc1 pd)) n4) i1 < 100000000 := by
                      have := hq4 i1 hi1
                      show (T - F) * (hPn (pk4 pa pb pc1 pd)) i1 / (hSum (hPn (pk4 pa pb pc1 pd)) n4) + (if i1 < ((T - F) - hTot (T - F) (hSum (hPn (pk4 pa pb pc1 pd)) n4) (hPn (pk4 pa pb pc1 pd)) n4) then 1 else 0) < 100000000
                      split <;> omega
                    have hk := xSt_k hk4 (k := k) (q := q) (F := F) hqc (by omega) (pk4 a b c1 d) (hLs (T - F) (hPn (pk4 pa pb pc1 pd)) n4) i1 (by rw [hpc1]; omega)
                    rw [show xSn nS (hLs (T - F) (hPn (pk4 pa pb pc1 pd)) n4) i1 = nS + 1 - 1 from by unfold xSn; rw [hpc1, if_neg (by decide)]] at hk
                    refine lv_aload_n hx hb dX1_heirs_309 rfl (lv_at hl 0 rfl) ?_
                    refine gw_get (C := RX1) (T := TX1) (N := 21) (ci := 1) (fs := xx_fs1 ad_342_0 (xSt τ4 k q nS F (pk4 a b c1 d) (hLs (T - F) (hPn (pk4 pa pb pc1 pd)) n4) i1).1.1) (v := .ref (ad_342_0 19)) hx hb hT hH.1 0 (xe_at (by omega) xx_0) rfl in_X1 10 (by decide) rfl q186 rfl dX1_heirs_310 ?_
                    refine lv_iload hx hb dX1_heirs_313 (lv_at hl 5 rfl) ?_
                    refine gw_iald (n := 4) hx hb hT hH.1 19 (xe_at (by omega) (xx_arr (k := 19) (by decide) (by decide))) 1 rfl (show 1 < 4 by omega) (by decide) dX1_heirs_315 ?_
                    refine lv_as (z := nI i1) ((congrFun (xSt_o _ _ _ _ _ _ _ (by decide) _) _).trans h19_1) ?_
                    refine lv_istore (lv' := [(20, .int (nI i1)), (0, .ref (ad_342_0 0)), (11, .ref (ad_342_0 (220 + k))), (12, .ref (ad_342_0 300)), (17, .int (nI (hPc (hLs (T - F) (hPn (pk4 pa pb pc1 pd)) n4) n4))), (18, .int (nI (F + hSum (hLs (T - F) (hPn (pk4 pa pb pc1 pd)) n4) i1))), (19, .int 1)]) hx hb dX1_heirs_316 hl (by decide) rfl (fun ls hl => ?_)
                    refine lv_iload hx hb dX1_heirs_318 (lv_at hl 6 rfl) ?_
                    refine lv_if_ne (tgt := 348) hx hb dX1_heirs_320 (by decide) (fun c_320 => ?_) (fun c_320 => ?_)
                    · skip
                      refine lv_aload_n hx hb dX1_heirs_348 rfl (lv_at hl 1 rfl) ?_
                      refine lv_aload hx hb dX1_heirs_349 (lv_at hl 2 rfl) ?_
                      refine gw_getN (C := RX7) (T := TX7) (N := 8) (ci := 6) (fs := xx_fs7 ad_342_0 (xSt τ4 k q nS F (pk4 a b c1 d) (hLs (T - F) (hPn (pk4 pa pb pc1 pd)) n4) i1).1 k) (v := .ref (ad_342_0 (40 + q))) hx hb hT hH.1 (220 + k) (xe_at (by omega) (xx_share hk (k := k) (by omega))) rfl in_X7 0 (by decide) rfl (List.mem_of_getElem? (i := 11) rfl) (xx_sch hk ((xSt_ch _ _ _ _ _ _ _ hkk _).trans hq) hqc) dX1_heirs_351 ?_
                      refine lv_aload hx hb dX1_heirs_354 (lv_at hl 2 rfl) ?_
                      refine gw_getN (C := RX7) (T := TX7) (N := 8) (ci := 6) (fs := xx_fs7 ad_342_0 (xSt τ4 k q nS F (pk4 a b c1 d) (hLs (T - F) (hPn (pk4 pa pb pc1 pd)) n4) i1).1 k) (v := .int (nI q)) hx hb hT hH.1 (220 + k) (xe_at (by omega) (xx_share hk (k := k) (by omega))) rfl in_X7 1 (by decide) rfl (List.mem_of_getElem? (i := 12) rfl) (congrArg some (congrArg Value.int ((xSt_ch _ _ _ _ _ _ _ hkk _).trans hq))) dX1_heirs_356 ?_
                      refine lv_iload hx hb dX1_heirs_359 (lv_at hl 5 rfl) ?_
                      refine lv_iload hx hb dX1_heirs_361 (lv_at hl 5 rfl) ?_
                      refine lv_aload_n hx hb dX1_heirs_363 rfl (lv_at hl 1 rfl) ?_
                      refine gw_get (C := RX1) (T := TX1) (N := 21) (ci := 1) (fs := xx_fs1 ad_342_0 (xSt τ4 k q nS F (pk4 a b c1 d) (hLs (T - F) (hPn (pk4 pa pb pc1 pd)) n4) i1).1.1) (v := .ref (ad_342_0 20)) hx hb hT hH.1 0 (xe_at (by omega) xx_0) rfl in_X1 9 (by decide) rfl q185 rfl dX1_heirs_364 ?_
                      refine lv_iload hx hb dX1_heirs_367 (lv_at hl 0 rfl) ?_
                      refine gw_iald (n := 4) hx hb hT hH.1 20 (xe_at (by omega) (xx_arr (k := 20) (by decide) (by decide))) i1 rfl (show i1 < 4 by omega) (by decide) dX1_heirs_369 ?_
                      refine lv_as (z := nI ((hLs (T - F) (hPn (pk4 pa pb pc1 pd)) n4) i1)) ((congrFun (xSt_o _ _ _ _ _ _ _ (by decide) _) _).trans (hlo4 _ (by omega))) ?_
                      refine lv_iadd hx hb dX1_heirs_370 ?_
                      refine lv_as (nI_add (F + hSum (hLs (T - F) (hPn (pk4 pa pb pc1 pd)) n4) i1) ((hLs (T - F) (hPn (pk4 pa pb pc1 pd)) n4) i1)) ?_
                      refine lv_aload hx hb dX1_heirs_371 (lv_at hl 3 rfl) ?_
                      refine lv_iload hx hb dX1_heirs_373 (lv_at hl 0 rfl) ?_
                      refine gw_iald (n := 4) hx hb hT hH.1 300 xe_300 i1 rfl (show i1 < 4 by omega) (by decide) dX1_heirs_375 ?_
                      refine lv_as (z := (pk4 a b c1 d) i1) (e18 _ (by omega)) ?_
                      have ef : xSt τ4 k q nS F (pk4 a b c1 d) (hLs (T - F) (hPn (pk4 pa pb pc1 pd)) n4) (i1 + 1) = xAdd (xSt τ4 k q nS F (pk4 a b c1 d) (hLs (T - F) (hPn (pk4 pa pb pc1 pd)) n4) i1) (nS + 1 - 1) q (nI (F + hSum (hLs (T - F) (hPn (pk4 pa pb pc1 pd)) n4) i1)) (nI ((F + hSum (hLs (T - F) (hPn (pk4 pa pb pc1 pd)) n4) i1) + ((hLs (T - F) (hPn (pk4 pa pb pc1 pd)) n4) i1))) ((pk4 a b c1 d) i1) := by rw [xSt, if_neg (by omega), if_neg (by omega), hpc1]
                      refine xe_call (ye_V (n := 5) (A' := xe_A A ad_342_0) 0 (c_X1_add l (xSt τ4 k q nS F (pk4 a b c1 d) (hLs (T - F) (hPn (pk4 pa pb pc1 pd)) n4) i1) hk (by omega) q hqc (nI (F + hSum (hLs (T - F) (hPn (pk4 pa pb pc1 pd)) n4) i1)) (nI ((F + hSum (hLs (T - F) (hPn (pk4 pa pb pc1 pd)) n4) i1) + ((hLs (T - F) (hPn (pk4 pa pb pc1 pd)) n4) i1))) ((pk4 a b c1 d) i1) G (xe_A A ad_342_0) ad_342_0 wk wv) hx hb hml hT hxc (fun q h => h.1) (xe_A' hH hA) (xe_x hH) (xe_D hH) xx_0 rfl q522 (ex_code_of hT.2.1 q522) q521 qs6 q33 q519 (by decide +kernel) ⟨Nat.le_of_ble_eq_true rfl, Nat.le_of_ble_eq_true rfl⟩ rfl hl.1 rfl (Nat.le_of_ble_eq_true rfl) dX1_heirs_376 ⟨Nat.le_of_ble_eq_true rfl, Nat.le_of_ble_eq_true rfl⟩) hH (fun v u' hp => ⟨nC, _, nW, by obtain ⟨-, rfl⟩ := hp; exact hk.add (by omega) hqc _ _ _⟩) (fun v u' ad_376_1 H locs hext e300 e301 hH hp => ?_)
                      obtain ⟨rfl, rfl⟩ := hp
                      have hx0 := xx_ext2 hk0 hk (Nat.le_refl _) (by omega) (fun _ => Nat.le_refl _) hx0 hext
                      rw [← hext 0 _ xx_0, ← hext (220 + k) _ (xx_share hk (k := k) (by omega)), ← e300] at hl
                      rw [← ef] at hH
                      refine lv_iload hx hb dX1_heirs_379 (lv_at hl 5 rfl) ?_
                      refine lv_aload_n hx hb dX1_heirs_381 rfl (lv_at hl 1 rfl) ?_
                      refine gw_get (C := RX1) (T := TX1) (N := 21) (ci := 1) (fs := xx_fs1 ad_376_1 (xSt τ4 k q nS F (pk4 a b c1 d) (hLs (T - F) (hPn (pk4 pa pb pc1 pd)) n4) (i1 + 1)).1.1) (v := .ref (ad_376_1 20)) hx hb hT hH.1 0 (xe_at (by omega) xx_0) rfl in_X1 9 (by decide) rfl q185 rfl dX1_heirs_382 ?_
                      refine lv_iload hx hb dX1_heirs_385 (lv_at hl 0 rfl) ?_
                      refine gw_iald (n := 4) hx hb hT hH.1 20 (xe_at (by omega) (xx_arr (k := 20) (by decide) (by decide))) i1 rfl (show i1 < 4 by omega) (by decide) dX1_heirs_387 ?_
                      refine lv_as (z := nI ((hLs (T - F) (hPn (pk4 pa pb pc1 pd)) n4) i1)) ((congrFun (xSt_o _ _ _ _ _ _ _ (by decide) _) _).trans (hlo4 _ (by omega))) ?_
                      refine lv_iadd hx hb dX1_heirs_388 ?_
                      refine lv_as (z := nI (F + hSum (hLs (T - F) (hPn (pk4 pa pb pc1 pd)) n4) (i1 + 1))) (by rw [nI_add, hSum, Nat.add_assoc]) ?_
                      refine lv_istore (lv' := [(18, .int (nI (F + hSum (hLs (T - F) (hPn (pk4 pa pb pc1 pd)) n4) (i1 + 1)))), (20, .int (nI i1)), (0, .ref (ad_376_1 0)), (11, .ref (ad_376_1 (220 + k))), (12, .ref (ad_376_1 300)), (17, .int (nI (hPc (hLs (T - F) (hPn (pk4 pa pb pc1 pd)) n4) n4))), (19, .int 1)]) hx hb dX1_heirs_389 hl (by decide) rfl (fun ls hl => ?_)
                      refine lv_iinc (v := nI (1 + 1)) (lv' := [(19, .int (nI (1 + 1))), (18, .int (nI (F + hSum (hLs (T - F) (hPn (pk4 pa pb pc1 pd)) n4) (i1 + 1)))), (20, .int (nI i1)), (0, .ref (ad_376_1 0)), (11, .ref (ad_376_1 (220 + k))), (12, .ref (ad_376_1 300)), (17, .int (nI (hPc (hLs (T - F) (hPn (pk4 pa pb pc1 pd)) n4) n4)))]) hx hb dX1_heirs_391 hl (k := 6) rfl (nI_add 1 1) (by decide) rfl (fun ls hl => ?_)
                      refine lv_goto (tgt := 302) hx hb dX1_heirs_394 (by decide) ?_
                      have hj2 : hPc (hLs (T - F) (hPn (pk4 pa pb pc1 pd)) n4) (i1 + 1) = 2 := by rw [hPc, hpc1, if_pos hps1]
                      have hjn2 : i1 + 1 ≤ n4 := by omega
                      have hl := lv_sub (l' := [(0, .ref (ad_376_1 0)), (11, .ref (ad_376_1 (220 + k))), (12, .ref (ad_376_1 300)), (17, .int (nI (hPc (hLs (T - F) (hPn (pk4 pa pb pc1 pd)) n4) n4))), (18, .int (nI (F + hSum (hLs (T - F) (hPn (pk4 pa pb pc1 pd)) n4) (i1 + 1)))), (19, .int 2)]) hl [3, 4, 5, 6, 1, 0] rfl
                      refine lv_iload hx hb dX1_heirs_302 (lv_at hl 5 rfl) ?_
                      refine lv_iload hx hb dX1_heirs_304 (lv_at hl 3 rfl) ?_
                      refine lv_icmp_ge (tgt := 397) hx hb dX1_heirs_306 (by decide) (fun c_306 => ?_) (fun c_306 => ?_)
                      · skip
                        have c_306 : (hPc (hLs (T - F) (hPn (pk4 pa pb pc1 pd)) n4) n4) ≤ 2 := (nI_leI (a := (hPc (hLs (T - F) (hPn (pk4 pa pb pc1 pd)) n4) n4)) (b := 2) (by omega) (by omega)).mp c_306
                        have en : hPc (hLs (T - F) (hPn (pk4 pa pb pc1 pd)) n4) n4 = 2 := by have := hPc_mono (hLs (T - F) (hPn (pk4 pa pb pc1 pd)) n4) hjn2; omega
                        have ee := xSt_eq τ4 k q nS F (pk4 a b c1 d) (hLs (T - F) (hPn (pk4 pa pb pc1 pd)) n4) (a := i1 + 1) n4 hjn2 (hj2.trans en.symm)
                        rw [ee.1] at hH
                        refine lv_iload hx hb dX1_heirs_397 (lv_at hl 3 rfl) ?_
                        exact xx_ri hx hb hr hlocks hT (xe_x hH) hx0 rfl dX1_heirs_399 (⟨k, hkk, rfl, q, hqc, (congrFun (hs4.2.1 16 (by decide) (by decide)) _).symm.trans hq, h_13, n4, ⟨h42, h44⟩, rfl, hg, F, T, ⟨hF, hT2, hFT, hTb⟩, τ4, hs4, by omega, rfl, rfl⟩) (Nat.le_of_ble_eq_true rfl) (Nat.le_of_ble_eq_true rfl)
                      · skip
                        have c_306 : ¬ ((hPc (hLs (T - F) (hPn (pk4 pa pb pc1 pd)) n4) n4) ≤ 2) := fun h => c_306 ((nI_leI (a := (hPc (hLs (T - F) (hPn (pk4 pa pb pc1 pd)) n4) n4)) (b := 2) (by omega) (by omega)).mpr h)
                        obtain ⟨i2, hi2, h19_2, hps2, hpc2⟩ := hpz 2 (by omega)
                        have hle2 : i1 + 1 ≤ i2 := by
                          rcases Nat.lt_or_ge i2 (i1 + 1) with y | y
                          · have h1 := hPc_mono (hLs (T - F) (hPn (pk4 pa pb pc1 pd)) n4) (show i2 + 1 ≤ i1 + 1 by omega)
                            have h2 : hPc (hLs (T - F) (hPn (pk4 pa pb pc1 pd)) n4) (i2 + 1) = hPc (hLs (T - F) (hPn (pk4 pa pb pc1 pd)) n4) i2 + (if 0 < (hLs (T - F) (hPn (pk4 pa pb pc1 pd)) n4) i2 then 1 else 0) := rfl
                            rw [if_pos hps2] at h2
                            omega
                          · exact y
                        have ee2 := xSt_eq τ4 k q nS F (pk4 a b c1 d) (hLs (T - F) (hPn (pk4 pa pb pc1 pd)) n4) (a := i1 + 1) i2 hle2 (hj2.trans hpc2.symm)
                        rw [ee2.1] at hH
                        rw [ee2.2] at hl
                        have hLi2 : (hLs (T - F) (hPn (pk4 pa pb pc1 pd)) n4) i2 < 100000000 := by
                          have := hq4 i2 hi2
                          show (T - F) * (hPn (pk4 pa pb pc1 pd)) i2 / (hSum (hPn (pk4 pa pb pc1 pd)) n4) + (if i2 < ((T - F) - hTot (T - F) (hSum (hPn (pk4 pa pb pc1 pd)) n4) (hPn (pk4 pa pb pc1 pd)) n4) then 1 else 0) < 100000000
                          split <;> omega
                        have hk := xSt_k hk4 (k := k) (q := q) (F := F) hqc (by omega) (pk4 a b c1 d) (hLs (T - F) (hPn (pk4 pa pb pc1 pd)) n4) i2 (by rw [hpc2]; omega)
                        rw [show xSn nS (hLs (T - F) (hPn (pk4 pa pb pc1 pd)) n4) i2 = nS + 2 - 1 from by unfold xSn; rw [hpc2, if_neg (by decide)]] at hk
                        refine lv_aload_n hx hb dX1_heirs_309 rfl (lv_at hl 0 rfl) ?_
                        refine gw_get (C := RX1) (T := TX1) (N := 21) (ci := 1) (fs := xx_fs1 ad_376_1 (xSt τ4 k q nS F (pk4 a b c1 d) (hLs (T - F) (hPn (pk4 pa pb pc1 pd)) n4) i2).1.1) (v := .ref (ad_376_1 19)) hx hb hT hH.1 0 (xe_at (by omega) xx_0) rfl in_X1 10 (by decide) rfl q186 rfl dX1_heirs_310 ?_
                        refine lv_iload hx hb dX1_heirs_313 (lv_at hl 5 rfl) ?_
                        refine gw_iald (n := 4) hx hb hT hH.1 19 (xe_at (by omega) (xx_arr (k := 19) (by decide) (by decide))) 2 rfl (show 2 < 4 by omega) (by decide) dX1_heirs_315 ?_
                        refine lv_as (z := nI i2) ((congrFun (xSt_o _ _ _ _ _ _ _ (by decide) _) _).trans h19_2) ?_
                        refine lv_istore (lv' := [(20, .int (nI i2)), (0, .ref (ad_376_1 0)), (11, .ref (ad_376_1 (220 + k))), (12, .ref (ad_376_1 300)), (17, .int (nI (hPc (hLs (T - F) (hPn (pk4 pa pb pc1 pd)) n4) n4))), (18, .int (nI (F + hSum (hLs (T - F) (hPn (pk4 pa pb pc1 pd)) n4) i2))), (19, .int 2)]) hx hb dX1_heirs_316 hl (by decide) rfl (fun ls hl => ?_)
                        refine lv_iload hx hb dX1_heirs_318 (lv_at hl 6 rfl) ?_
                        refine lv_if_ne (tgt := 348) hx hb dX1_heirs_320 (by decide) (fun c_320 => ?_) (fun c_320 => ?_)
                        · skip
                          refine lv_aload_n hx hb dX1_heirs_348 rfl (lv_at hl 1 rfl) ?_
                          refine lv_aload hx hb dX1_heirs_349 (lv_at hl 2 rfl) ?_
                          refine gw_getN (C := RX7) (T := TX7) (N := 8) (ci := 6) (fs := xx_fs7 ad_376_1 (xSt τ4 k q nS F (pk4 a b c1 d) (hLs (T - F) (hPn (pk4 pa pb pc1 pd)) n4) i2).1 k) (v := .ref (ad_376_1 (40 + q))) hx hb hT hH.1 (220 + k) (xe_at (by omega) (xx_share hk (k := k) (by omega))) rfl in_X7 0 (by decide) rfl (List.mem_of_getElem? (i := 11) rfl) (xx_sch hk ((xSt_ch _ _ _ _ _ _ _ hkk _).trans hq) hqc) dX1_heirs_351 ?_
                          refine lv_aload hx hb dX1_heirs_354 (lv_at hl 2 rfl) ?_
                          refine gw_getN (C := RX7) (T := TX7) (N := 8) (ci := 6) (fs := xx_fs7 ad_376_1 (xSt τ4 k q nS F (pk4 a b c1 d) (hLs (T - F) (hPn (pk4 pa pb pc1 pd)) n4) i2).1 k) (v := .int (nI q)) hx hb hT hH.1 (220 + k) (xe_at (by omega) (xx_share hk (k := k) (by omega))) rfl in_X7 1 (by decide) rfl (List.mem_of_getElem? (i := 12) rfl) (congrArg some (congrArg Value.int ((xSt_ch _ _ _ _ _ _ _ hkk _).trans hq))) dX1_heirs_356 ?_
                          refine lv_iload hx hb dX1_heirs_359 (lv_at hl 5 rfl) ?_
                          refine lv_iload hx hb dX1_heirs_361 (lv_at hl 5 rfl) ?_
                          refine lv_aload_n hx hb dX1_heirs_363 rfl (lv_at hl 1 rfl) ?_
                          refine gw_get (C := RX1) (T := TX1) (N := 21) (ci := 1) (fs := xx_fs1 ad_376_1 (xSt τ4 k q nS F (pk4 a b c1 d) (hLs (T - F) (hPn (pk4 pa pb pc1 pd)) n4) i2).1.1) (v := .ref (ad_376_1 20)) hx hb hT hH.1 0 (xe_at (by omega) xx_0) rfl in_X1 9 (by decide) rfl q185 rfl dX1_heirs_364 ?_
                          refine lv_iload hx hb dX1_heirs_367 (lv_at hl 0 rfl) ?_
                          refine gw_iald (n := 4) hx hb hT hH.1 20 (xe_at (by omega) (xx_arr (k := 20) (by decide) (by decide))) i2 rfl (show i2 < 4 by omega) (by decide) dX1_heirs_369 ?_
                          refine lv_as (z := nI ((hLs (T - F) (hPn (pk4 pa pb pc1 pd)) n4) i2)) ((congrFun (xSt_o _ _ _ _ _ _ _ (by decide) _) _).trans (hlo4 _ (by omega))) ?_
                          refine lv_iadd hx hb dX1_heirs_370 ?_
                          refine lv_as (nI_add (F + hSum (hLs (T - F) (hPn (pk4 pa pb pc1 pd)) n4) i2) ((hLs (T - F) (hPn (pk4 pa pb pc1 pd)) n4) i2)) ?_
                          refine lv_aload hx hb dX1_heirs_371 (lv_at hl 3 rfl) ?_
                          refine lv_iload hx hb dX1_heirs_373 (lv_at hl 0 rfl) ?_
                          refine gw_iald (n := 4) hx hb hT hH.1 300 xe_300 i2 rfl (show i2 < 4 by omega) (by decide) dX1_heirs_375 ?_
                          refine lv_as (z := (pk4 a b c1 d) i2) (e18 _ (by omega)) ?_
                          have ef : xSt τ4 k q nS F (pk4 a b c1 d) (hLs (T - F) (hPn (pk4 pa pb pc1 pd)) n4) (i2 + 1) = xAdd (xSt τ4 k q nS F (pk4 a b c1 d) (hLs (T - F) (hPn (pk4 pa pb pc1 pd)) n4) i2) (nS + 2 - 1) q (nI (F + hSum (hLs (T - F) (hPn (pk4 pa pb pc1 pd)) n4) i2)) (nI ((F + hSum (hLs (T - F) (hPn (pk4 pa pb pc1 pd)) n4) i2) + ((hLs (T - F) (hPn (pk4 pa pb pc1 pd)) n4) i2))) ((pk4 a b c1 d) i2) := by rw [xSt, if_neg (by omega), if_neg (by omega), hpc2]
                          refine xe_call (ye_V (n := 5) (A' := xe_A A ad_376_1) 0 (c_X1_add l (xSt τ4 k q nS F (pk4 a b c1 d) (hLs (T - F) (hPn (pk4 pa pb pc1 pd)) n4) i2) hk (by omega) q hqc (nI (F + hSum (hLs (T - F) (hPn (pk4 pa pb pc1 pd)) n4) i2)) (nI ((F + hSum (hLs (T - F) (hPn (pk4 pa pb pc1 pd)) n4) i2) + ((hLs (T - F) (hPn (pk4 pa pb pc1 pd)) n4) i2))) ((pk4 a b c1 d) i2) G (xe_A A ad_376_1) ad_376_1 wk wv) hx hb hml hT hxc (fun q h => h.1) (xe_A' hH hA) (xe_x hH) (xe_D hH) xx_0 rfl q522 (ex_code_of hT.2.1 q522) q521 qs6 q33 q519 (by decide +kernel) ⟨Nat.le_of_ble_eq_true rfl, Nat.le_of_ble_eq_true rfl⟩ rfl hl.1 rfl (Nat.le_of_ble_eq_true rfl) dX1_heirs_376 ⟨Nat.le_of_ble_eq_true rfl, Nat.le_of_ble_eq_true rfl⟩) hH (fun v u' hp => ⟨nC, _, nW, by obtain ⟨-, rfl⟩ := hp; exact hk.add (by omega) hqc _ _ _⟩) (fun v u' ad_376_2 H locs hext e300 e301 hH hp => ?_)
                          obtain ⟨rfl, rfl⟩ := hp
                          have hx0 := xx_ext2 hk0 hk (Nat.le_refl _) (by omega) (fun _ => Nat.le_refl _) hx0 hext
                          rw [← hext 0 _ xx_0, ← hext (220 + k) _ (xx_share hk (k := k) (by omega)), ← e300] at hl
                          rw [← ef] at hH
                          refine lv_iload hx hb dX1_heirs_379 (lv_at hl 5 rfl) ?_
                          refine lv_aload_n hx hb dX1_heirs_381 rfl (lv_at hl 1 rfl) ?_
                          refine gw_get (C := RX1) (T := TX1) (N := 21) (ci := 1) (fs := xx_fs1 ad_376_2 (xSt τ4 k q nS F (pk4 a b c1 d) (hLs (T - F) (hPn (pk4 pa pb pc1 pd)) n4) (i2 + 1)).1.1) (v := .ref (ad_376_2 20)) hx hb hT hH.1 0 (xe_at (by omega) xx_0) rfl in_X1 9 (by decide) rfl q185 rfl dX1_heirs_382 ?_
                          refine lv_iload hx hb dX1_heirs_385 (lv_at hl 0 rfl) ?_
                          refine gw_iald (n := 4) hx hb hT hH.1 20 (xe_at (by omega) (xx_arr (k := 20) (by decide) (by decide))) i2 rfl (show i2 < 4 by omega) (by decide) dX1_heirs_387 ?_
                          refine lv_as (z := nI ((hLs (T - F) (hPn (pk4 pa pb pc1 pd)) n4) i2)) ((congrFun (xSt_o _ _ _ _ _ _ _ (by decide) _) _).trans (hlo4 _ (by omega))) ?_
                          refine lv_iadd hx hb dX1_heirs_388 ?_
                          refine lv_as (z := nI (F + hSum (hLs (T - F) (hPn (pk4 pa pb pc1 pd)) n4) (i2 + 1))) (by rw [nI_add, hSum, Nat.add_assoc]) ?_
                          refine lv_istore (lv' := [(18, .int (nI (F + hSum (hLs (T - F) (hPn (pk4 pa pb pc1 pd)) n4) (i2 + 1)))), (20, .int (nI i2)), (0, .ref (ad_376_2 0)), (11, .ref (ad_376_2 (220 + k))), (12, .ref (ad_376_2 300)), (17, .int (nI (hPc (hLs (T - F) (hPn (pk4 pa pb pc1 pd)) n4) n4))), (19, .int 2)]) hx hb dX1_heirs_389 hl (by decide) rfl (fun ls hl => ?_)
                          refine lv_iinc (v := nI (2 + 1)) (lv' := [(19, .int (nI (2 + 1))), (18, .int (nI (F + hSum (hLs (T - F) (hPn (pk4 pa pb pc1 pd)) n4) (i2 + 1)))), (20, .int (nI i2)), (0, .ref (ad_376_2 0)), (11, .ref (ad_376_2 (220 + k))), (12, .ref (ad_376_2 300)), (17, .int (nI (hPc (hLs (T - F) (hPn (pk4 pa pb pc1 pd)) n4) n4)))]) hx hb dX1_heirs_391 hl (k := 6) rfl (nI_add 2 1) (by decide) rfl (fun ls hl => ?_)
                          refine lv_goto (tgt := 302) hx hb dX1_heirs_394 (by decide) ?_
                          have hj3 : hPc (hLs (T - F) (hPn (pk4 pa pb pc1 pd)) n4) (i2 + 1) = 3 := by rw [hPc, hpc2, if_pos hps2]
                          have hjn3 : i2 + 1 ≤ n4 := by omega
                          have hl := lv_sub (l' := [(0, .ref (ad_376_2 0)), (11, .ref (ad_376_2 (220 + k))), (12, .ref (ad_376_2 300)), (17, .int (nI (hPc (hLs (T - F) (hPn (pk4 pa pb pc1 pd)) n4) n4))), (18, .int (nI (F + hSum (hLs (T - F) (hPn (pk4 pa pb pc1 pd)) n4) (i2 + 1)))), (19, .int 3)]) hl [3, 4, 5, 6, 1, 0] rfl
                          refine lv_iload hx hb dX1_heirs_302 (lv_at hl 5 rfl) ?_
                          refine lv_iload hx hb dX1_heirs_304 (lv_at hl 3 rfl) ?_
                          refine lv_icmp_ge (tgt := 397) hx hb dX1_heirs_306 (by decide) (fun c_306 => ?_) (fun c_306 => ?_)
                          · skip
                            have c_306 : (hPc (hLs (T - F) (hPn (pk4 pa pb pc1 pd)) n4) n4) ≤ 3 := (nI_leI (a := (hPc (hLs (T - F) (hPn (pk4 pa pb pc1 pd)) n4) n4)) (b := 3) (by omega) (by omega)).mp c_306
                            have en : hPc (hLs (T - F) (hPn (pk4 pa pb pc1 pd)) n4) n4 = 3 := by have := hPc_mono (hLs (T - F) (hPn (pk4 pa pb pc1 pd)) n4) hjn3; omega
                            have ee := xSt_eq τ4 k q nS F (pk4 a b c1 d) (hLs (T - F) (hPn (pk4 pa pb pc1 pd)) n4) (a := i2 + 1) n4 hjn3 (hj3.trans en.symm)
                            rw [ee.1] at hH
                            refine lv_iload hx hb dX1_heirs_397 (lv_at hl 3 rfl) ?_
                            exact xx_ri hx hb hr hlocks hT (xe_x hH) hx0 rfl dX1_heirs_399 (⟨k, hkk, rfl, q, hqc, (congrFun (hs4.2.1 16 (by decide) (by decide)) _).symm.trans hq, h_13, n4, ⟨h42, h44⟩, rfl, hg, F, T, ⟨hF, hT2, hFT, hTb⟩, τ4, hs4, by omega, rfl, rfl⟩) (Nat.le_of_ble_eq_true rfl) (Nat.le_of_ble_eq_true rfl)
                          · skip
                            have c_306 : ¬ ((hPc (hLs (T - F) (hPn (pk4 pa pb pc1 pd)) n4) n4) ≤ 3) := fun h => c_306 ((nI_leI (a := (hPc (hLs (T - F) (hPn (pk4 pa pb pc1 pd)) n4) n4)) (b := 3) (by omega) (by omega)).mpr h)
                            obtain ⟨i3, hi3, h19_3, hps3, hpc3⟩ := hpz 3 (by omega)
                            have hle3 : i2 + 1 ≤ i3 := by
                              rcases Nat.lt_or_ge i3 (i2 + 1) with y | y
                              · have h1 := hPc_mono (hLs (T - F) (hPn (pk4 pa pb pc1 pd)) n4) (show i3 + 1 ≤ i2 + 1 by omega)
                                have h2 : hPc (hLs (T - F) (hPn (pk4 pa pb pc1 pd)) n4) (i3 + 1) = hPc (hLs (T - F) (hPn (pk4 pa pb pc1 pd)) n4) i3 + (if 0 < (hLs (T - F) (hPn (pk4 pa pb pc1 pd)) n4) i3 then 1 else 0) := rfl
                                rw [if_pos hps3] at h2
                                omega
                              · exact y
                            have ee3 := xSt_eq τ4 k q nS F (pk4 a b c1 d) (hLs (T - F) (hPn (pk4 pa pb pc1 pd)) n4) (a := i2 + 1) i3 hle3 (hj3.trans hpc3.symm)
                            rw [ee3.1] at hH
                            rw [ee3.2] at hl
                            have hLi3 : (hLs (T - F) (hPn (pk4 pa pb pc1 pd)) n4) i3 < 100000000 := by
                              have := hq4 i3 hi3
                              show (T - F) * (hPn (pk4 pa pb pc1 pd)) i3 / (hSum (hPn (pk4 pa pb pc1 pd)) n4) + (if i3 < ((T - F) - hTot (T - F) (hSum (hPn (pk4 pa pb pc1 pd)) n4) (hPn (pk4 pa pb pc1 pd)) n4) then 1 else 0) < 100000000
                              split <;> omega
                            have hk := xSt_k hk4 (k := k) (q := q) (F := F) hqc (by omega) (pk4 a b c1 d) (hLs (T - F) (hPn (pk4 pa pb pc1 pd)) n4) i3 (by rw [hpc3]; omega)
                            rw [show xSn nS (hLs (T - F) (hPn (pk4 pa pb pc1 pd)) n4) i3 = nS + 3 - 1 from by unfold xSn; rw [hpc3, if_neg (by decide)]] at hk
                            refine lv_aload_n hx hb dX1_heirs_309 rfl (lv_at hl 0 rfl) ?_
                            refine gw_get (C := RX1) (T := TX1) (N := 21) (ci := 1) (fs := xx_fs1 ad_376_2 (xSt τ4 k q nS F (pk4 a b c1 d) (hLs (T - F) (hPn (pk4 pa pb pc1 pd)) n4) i3).1.1) (v := .ref (ad_376_2 19)) hx hb hT hH.1 0 (xe_at (by omega) xx_0) rfl in_X1 10 (by decide) rfl q186 rfl dX1_heirs_310 ?_
                            refine lv_iload hx hb dX1_heirs_313 (lv_at hl 5 rfl) ?_
                            refine gw_iald (n := 4) hx hb hT hH.1 19 (xe_at (by omega) (xx_arr (k := 19) (by decide) (by decide))) 3 rfl (show 3 < 4 by omega) (by decide) dX1_heirs_315 ?_
                            refine lv_as (z := nI i3) ((congrFun (xSt_o _ _ _ _ _ _ _ (by decide) _) _).trans h19_3) ?_
                            refine lv_istore (lv' := [(20, .int (nI i3)), (0, .ref (ad_376_2 0)), (11, .ref (ad_376_2 (220 + k))), (12, .ref (ad_376_2 300)), (17, .int (nI (hPc (hLs (T - F) (hPn (pk4 pa pb pc1 pd)) n4) n4))), (18, .int (nI (F + hSum (hLs (T - F) (hPn (pk4 pa pb pc1 pd)) n4) i3))), (19, .int 3)]) hx hb dX1_heirs_316 hl (by decide) rfl (fun ls hl => ?_)
                            refine lv_iload hx hb dX1_heirs_318 (lv_at hl 6 rfl) ?_
                            refine lv_if_ne (tgt := 348) hx hb dX1_heirs_320 (by decide) (fun c_320 => ?_) (fun c_320 => ?_)
                            · skip
                              refine lv_aload_n hx hb dX1_heirs_348 rfl (lv_at hl 1 rfl) ?_
                              refine lv_aload hx hb dX1_heirs_349 (lv_at hl 2 rfl) ?_
                              refine gw_getN (C := RX7) (T := TX7) (N := 8) (ci := 6) (fs := xx_fs7 ad_376_2 (xSt τ4 k q nS F (pk4 a b c1 d) (hLs (T - F) (hPn (pk4 pa pb pc1 pd)) n4) i3).1 k) (v := .ref (ad_376_2 (40 + q))) hx hb hT hH.1 (220 + k) (xe_at (by omega) (xx_share hk (k := k) (by omega))) rfl in_X7 0 (by decide) rfl (List.mem_of_getElem? (i := 11) rfl) (xx_sch hk ((xSt_ch _ _ _ _ _ _ _ hkk _).trans hq) hqc) dX1_heirs_351 ?_
                              refine lv_aload hx hb dX1_heirs_354 (lv_at hl 2 rfl) ?_
                              refine gw_getN (C := RX7) (T := TX7) (N := 8) (ci := 6) (fs := xx_fs7 ad_376_2 (xSt τ4 k q nS F (pk4 a b c1 d) (hLs (T - F) (hPn (pk4 pa pb pc1 pd)) n4) i3).1 k) (v := .int (nI q)) hx hb hT hH.1 (220 + k) (xe_at (by omega) (xx_share hk (k := k) (by omega))) rfl in_X7 1 (by decide) rfl (List.mem_of_getElem? (i := 12) rfl) (congrArg some (congrArg Value.int ((xSt_ch _ _ _ _ _ _ _ hkk _).trans hq))) dX1_heirs_356 ?_
                              refine lv_iload hx hb dX1_heirs_359 (lv_at hl 5 rfl) ?_
                              refine lv_iload hx hb dX1_heirs_361 (lv_at hl 5 rfl) ?_
                              refine lv_aload_n hx hb dX1_heirs_363 rfl (lv_at hl 1 rfl) ?_
                              refine gw_get (C := RX1) (T := TX1) (N := 21) (ci := 1) (fs := xx_fs1 ad_376_2 (xSt τ4 k q nS F (pk4 a b c1 d) (hLs (T - F) (hPn (pk4 pa pb pc1 pd)) n4) i3).1.1) (v := .ref (ad_376_2 20)) hx hb hT hH.1 0 (xe_at (by omega) xx_0) rfl in_X1 9 (by decide) rfl q185 rfl dX1_heirs_364 ?_
                              refine lv_iload hx hb dX1_heirs_367 (lv_at hl 0 rfl) ?_
                              refine gw_iald (n := 4) hx hb hT hH.1 20 (xe_at (by omega) (xx_arr (k := 20) (by decide) (by decide))) i3 rfl (show i3 < 4 by omega) (by decide) dX1_heirs_369 ?_
                              refine lv_as (z := nI ((hLs (T - F) (hPn (pk4 pa pb pc1 pd)) n4) i3)) ((congrFun (xSt_o _ _ _ _ _ _ _ (by decide) _) _).trans (hlo4 _ (by omega))) ?_
                              refine lv_iadd hx hb dX1_heirs_370 ?_
                              refine lv_as (nI_add (F + hSum (hLs (T - F) (hPn (pk4 pa pb pc1 pd)) n4) i3) ((hLs (T - F) (hPn (pk4 pa pb pc1 pd)) n4) i3)) ?_
                              refine lv_aload hx hb dX1_heirs_371 (lv_at hl 3 rfl) ?_
                              refine lv_iload hx hb dX1_heirs_373 (lv_at hl 0 rfl) ?_
                              refine gw_iald (n := 4) hx hb hT hH.1 300 xe_300 i3 rfl (show i3 < 4 by omega) (by decide) dX1_heirs_375 ?_
                              refine lv_as (z := (pk4 a b c1 d) i3) (e18 _ (by omega)) ?_
                              have ef : xSt τ4 k q nS F (pk4 a b c1 d) (hLs (T - F) (hPn (pk4 pa pb pc1 pd)) n4) (i3 + 1) = xAdd (xSt τ4 k q nS F (pk4 a b c1 d) (hLs (T - F) (hPn (pk4 pa pb pc1 pd)) n4) i3) (nS + 3 - 1) q (nI (F + hSum (hLs (T - F) (hPn (pk4 pa pb pc1 pd)) n4) i3)) (nI ((F + hSum (hLs (T - F) (hPn (pk4 pa pb pc1 pd)) n4) i3) + ((hLs (T - F) (hPn (pk4 pa pb pc1 pd)) n4) i3))) ((pk4 a b c1 d) i3) := by rw [xSt, if_neg (by omega), if_neg (by omega), hpc3]
                              refine xe_call (ye_V (n := 5) (A' := xe_A A ad_376_2) 0 (c_X1_add l (xSt τ4 k q nS F (pk4 a b c1 d) (hLs (T - F) (hPn (pk4 pa pb pc1 pd)) n4) i3) hk (by omega) q hqc (nI (F + hSum (hLs (T - F) (hPn (pk4 pa pb pc1 pd)) n4) i3)) (nI ((F + hSum (hLs (T - F) (hPn (pk4 pa pb pc1 pd)) n4) i3) + ((hLs (T - F) (hPn (pk4 pa pb pc1 pd)) n4) i3))) ((pk4 a b c1 d) i3) G (xe_A A ad_376_2) ad_376_2 wk wv) hx hb hml hT hxc (fun q h => h.1) (xe_A' hH hA) (xe_x hH) (xe_D hH) xx_0 rfl q522 (ex_code_of hT.2.1 q522) q521 qs6 q33 q519 (by decide +kernel) ⟨Nat.le_of_ble_eq_true rfl, Nat.le_of_ble_eq_true rfl⟩ rfl hl.1 rfl (Nat.le_of_ble_eq_true rfl) dX1_heirs_376 ⟨Nat.le_of_ble_eq_true rfl, Nat.le_of_ble_eq_true rfl⟩) hH (fun v u' hp => ⟨nC, _, nW, by obtain ⟨-, rfl⟩ := hp; exact hk.add (by omega) hqc _ _ _⟩) (fun v u' ad_376_3 H locs hext e300 e301 hH hp => ?_)
                              obtain ⟨rfl, rfl⟩ := hp
                              have hx0 := xx_ext2 hk0 hk (Nat.le_refl _) (by omega) (fun _ => Nat.le_refl _) hx0 hext
                              rw [← hext 0 _ xx_0, ← hext (220 + k) _ (xx_share hk (k := k) (by omega)), ← e300] at hl
                              rw [← ef] at hH
                              refine lv_iload hx hb dX1_heirs_379 (lv_at hl 5 rfl) ?_
                              refine lv_aload_n hx hb dX1_heirs_381 rfl (lv_at hl 1 rfl) ?_
                              refine gw_get (C := RX1) (T := TX1) (N := 21) (ci := 1) (fs := xx_fs1 ad_376_3 (xSt τ4 k q nS F (pk4 a b c1 d) (hLs (T - F) (hPn (pk4 pa pb pc1 pd)) n4) (i3 + 1)).1.1) (v := .ref (ad_376_3 20)) hx hb hT hH.1 0 (xe_at (by omega) xx_0) rfl in_X1 9 (by decide) rfl q185 rfl dX1_heirs_382 ?_
                              refine lv_iload hx hb dX1_heirs_385 (lv_at hl 0 rfl) ?_
                              refine gw_iald (n := 4) hx hb hT hH.1 20 (xe_at (by omega) (xx_arr (k := 20) (by decide) (by decide))) i3 rfl (show i3 < 4 by omega) (by decide) dX1_heirs_387 ?_
                              refine lv_as (z := nI ((hLs (T - F) (hPn (pk4 pa pb pc1 pd)) n4) i3)) ((congrFun (xSt_o _ _ _ _ _ _ _ (by decide) _) _).trans (hlo4 _ (by omega))) ?_
                              refine lv_iadd hx hb dX1_heirs_388 ?_
                              refine lv_as (z := nI (F + hSum (hLs (T - F) (hPn (pk4 pa pb pc1 pd)) n4) (i3 + 1))) (by rw [nI_add, hSum, Nat.add_assoc]) ?_
                              refine lv_istore (lv' := [(18, .int (nI (F + hSum (hLs (T - F) (hPn (pk4 pa pb pc1 pd)) n4) (i3 + 1)))), (20, .int (nI i3)), (0, .ref (ad_376_3 0)), (11, .ref (ad_376_3 (220 + k))), (12, .ref (ad_376_3 300)), (17, .int (nI (hPc (hLs (T - F) (hPn (pk4 pa pb pc1 pd)) n4) n4))), (19, .int 3)]) hx hb dX1_heirs_389 hl (by decide) rfl (fun ls hl => ?_)
                              refine lv_iinc (v := nI (3 + 1)) (lv' := [(19, .int (nI (3 + 1))), (18, .int (nI (F + hSum (hLs (T - F) (hPn (pk4 pa pb pc1 pd)) n4) (i3 + 1)))), (20, .int (nI i3)), (0, .ref (ad_376_3 0)), (11, .ref (ad_376_3 (220 + k))), (12, .ref (ad_376_3 300)), (17, .int (nI (hPc (hLs (T - F) (hPn (pk4 pa pb pc1 pd)) n4) n4)))]) hx hb dX1_heirs_391 hl (k := 6) rfl (nI_add 3 1) (by decide) rfl (fun ls hl => ?_)
                              refine lv_goto (tgt := 302) hx hb dX1_heirs_394 (by decide) ?_
                              have hj4 : hPc (hLs (T - F) (hPn (pk4 pa pb pc1 pd)) n4) (i3 + 1) = 4 := by rw [hPc, hpc3, if_pos hps3]
                              have hjn4 : i3 + 1 ≤ n4 := by omega
                              have hl := lv_sub (l' := [(0, .ref (ad_376_3 0)), (11, .ref (ad_376_3 (220 + k))), (12, .ref (ad_376_3 300)), (17, .int (nI (hPc (hLs (T - F) (hPn (pk4 pa pb pc1 pd)) n4) n4))), (18, .int (nI (F + hSum (hLs (T - F) (hPn (pk4 pa pb pc1 pd)) n4) (i3 + 1)))), (19, .int 4)]) hl [3, 4, 5, 6, 1, 0] rfl
                              refine lv_iload hx hb dX1_heirs_302 (lv_at hl 5 rfl) ?_
                              refine lv_iload hx hb dX1_heirs_304 (lv_at hl 3 rfl) ?_
                              refine lv_icmp_ge (tgt := 397) hx hb dX1_heirs_306 (by decide) (fun c_306 => ?_) (fun c_306 => ?_)
                              · skip
                                have c_306 : (hPc (hLs (T - F) (hPn (pk4 pa pb pc1 pd)) n4) n4) ≤ 4 := (nI_leI (a := (hPc (hLs (T - F) (hPn (pk4 pa pb pc1 pd)) n4) n4)) (b := 4) (by omega) (by omega)).mp c_306
                                have en : hPc (hLs (T - F) (hPn (pk4 pa pb pc1 pd)) n4) n4 = 4 := by have := hPc_mono (hLs (T - F) (hPn (pk4 pa pb pc1 pd)) n4) hjn4; omega
                                have ee := xSt_eq τ4 k q nS F (pk4 a b c1 d) (hLs (T - F) (hPn (pk4 pa pb pc1 pd)) n4) (a := i3 + 1) n4 hjn4 (hj4.trans en.symm)
                                rw [ee.1] at hH
                                refine lv_iload hx hb dX1_heirs_397 (lv_at hl 3 rfl) ?_
                                exact xx_ri hx hb hr hlocks hT (xe_x hH) hx0 rfl dX1_heirs_399 (⟨k, hkk, rfl, q, hqc, (congrFun (hs4.2.1 16 (by decide) (by decide)) _).symm.trans hq, h_13, n4, ⟨h42, h44⟩, rfl, hg, F, T, ⟨hF, hT2, hFT, hTb⟩, τ4, hs4, by omega, rfl, rfl⟩) (Nat.le_of_ble_eq_true rfl) (Nat.le_of_ble_eq_true rfl)
                              · skip
                                have c_306 : ¬ ((hPc (hLs (T - F) (hPn (pk4 pa pb pc1 pd)) n4) n4) ≤ 4) := fun h => c_306 ((nI_leI (a := (hPc (hLs (T - F) (hPn (pk4 pa pb pc1 pd)) n4) n4)) (b := 4) (by omega) (by omega)).mpr h)
                                exact absurd (Nat.le_trans hpc h44) (by omega)
                            · skip
                              exact absurd c_320 (by decide)
                        · skip
                          exact absurd c_320 (by decide)
                    · skip
                      exact absurd c_320 (by decide)
          · intro H locs ls hg hH hl
            exact xt_call (k := 3) (yy_S (n := 1) (c_X1_must0 l hfl σ G A ad2 wk wv) hx hb hml hT hxc hA (xe_x hH) q320 (ex_code_of hT.2.1 q320) (ex_named (hT.2.1 _ q320)) q319 q33 q318 (by decide +kernel) ⟨Nat.le_of_ble_eq_true rfl, Nat.le_of_ble_eq_true rfl⟩ rfl hl.1 rfl (Nat.le_of_ble_eq_true rfl) dX1_heirs_127 ⟨Nat.le_of_ble_eq_true rfl, Nat.le_of_ble_eq_true rfl⟩) hlocks hE (xx_tq hT (xe_x hH) hx0 (by decide) (Or.inr ⟨k, hkk, rfl, Or.inr ⟨h_13, Or.inl ⟨rfl, fun ⟨n5, h5, e5, g5⟩ => hg (by rw [(nI_eq (by omega) (by omega)).mp e5] at g5; exact g5), rfl⟩⟩⟩)) hH.2.2.2.2 (Nat.le_of_ble_eq_true rfl) (Nat.le_of_ble_eq_true rfl)
        · skip
          exact xt_call (k := 3) (yy_S (n := 1) (c_X1_must0 l hfl σ G A ad wk wv) hx hb hml hT hxc hA hH q320 (ex_code_of hT.2.1 q320) (ex_named (hT.2.1 _ q320)) q319 q33 q318 (by decide +kernel) ⟨Nat.le_of_ble_eq_true rfl, Nat.le_of_ble_eq_true rfl⟩ rfl hl.1 rfl (Nat.le_of_ble_eq_true rfl) dX1_heirs_33 ⟨Nat.le_of_ble_eq_true rfl, Nat.le_of_ble_eq_true rfl⟩) hlocks hE (xx_tq hT hH (fun _ _ _ => rfl) (by decide) (Or.inr ⟨k, hkk, rfl, Or.inr ⟨h_13, Or.inl ⟨rfl, fun ⟨n5, h5, e5, g5⟩ => h_30 (by rw [← e5]; exact ⟨nI_le (a := 2) (b := n5) h5.1 (by omega), nI_le (a := n5) (b := 4) h5.2 (by decide)⟩), rfl⟩⟩⟩)) hH.2.2.2.2 (Nat.le_of_ble_eq_true rfl) (Nat.le_of_ble_eq_true rfl)
  · skip
    exact xt_call (k := 1) (yy_V (n := 1) 0 (c_X1_shareAt0 l hfl σ hk v h_2 G A ad wk wv) hx hb hml hT hxc hA hH xx_0 rfl q610 (ex_code_of hT.2.1 q610) q609 qs8 q33 q607 (by decide +kernel) ⟨Nat.le_of_ble_eq_true rfl, Nat.le_of_ble_eq_true rfl⟩ rfl hl.1 rfl (Nat.le_of_ble_eq_true rfl) dX1_heirs_2 ⟨Nat.le_of_ble_eq_true rfl, Nat.le_of_ble_eq_true rfl⟩) hlocks hE (xx_tq hT hH (fun _ _ _ => rfl) (by decide) (Or.inl ⟨rfl, h_2, rfl⟩)) hH.2.2.2.2 (Nat.le_of_ble_eq_true rfl) (Nat.le_of_ble_eq_true rfl)
