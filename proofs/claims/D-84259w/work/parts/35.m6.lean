def pHit (σ : mS) (c : Nat) (x : Int32) (k : Nat) : Prop := σ.2 16 (7 * k) = nI c ∧ ¬ x < σ.2 16 (7 * k + 1) ∧ x < σ.2 16 (7 * k + 2)
def pHold (σ : mS) (k : Nat) (x : Int32) : Int32 := if ¬ x < σ.2 16 (7 * k + 5) ∧ x < σ.2 16 (7 * k + 6) then σ.2 16 (7 * k + 4) else σ.2 16 (7 * k + 3)
def pRem (x t : Int32) : Int32 := x - x / t * t
def pLets (σ : mS) : Nat → Nat
  | 0 => 0
  | n + 1 => pLets σ n + (if σ.1 4 < σ.2 16 (7 * n + 6) then 1 else 0)
theorem pLets_le (σ : mS) : ∀ n, pLets σ n ≤ n
  | 0 => Nat.le_refl _
  | n + 1 => by
    have := pLets_le σ n
    rw [pLets]
    split <;> omega
def pWat (σ : mS) (nC : Nat) (nW : Nat → Nat) : Nat → Int32
  | 0 => 0
  | n + 1 => pWat σ nC nW n + (if σ.2 6 n = 0 then 0 else pFlows σ nC nW n 8)
def pCount (σ : mS) (nC nS : Nat) (nW : Nat → Nat) (x : Int32) : Int32 :=
  if x = 0 then σ.1 10 else if x = 1 then σ.1 11 else if x = 2 then σ.1 3 else if x = 3 then σ.1 4 else if x = 4 then σ.1 17 else if x = 5 then nI (pLets σ nS) else if x = 6 then σ.1 34 else if x = 7 then pWat σ nC nW nC else -1
theorem pCount_out (σ : mS) (nC nS : Nat) (nW : Nat → Nat) (x : Int32) (h : x.toInt < 0 ∨ 7 < x.toInt) : pCount σ nC nS nW x = -1 := by
  have key : ∀ (y : Int32) (a : Int), y.toInt = a → 0 ≤ a → a ≤ 7 → ¬ x = y := by
    rintro y a ha h0 h7 rfl
    omega
  unfold pCount
  rw [if_neg (key 0 0 rfl (by decide) (by decide)), if_neg (key 1 1 rfl (by decide) (by decide)), if_neg (key 2 2 rfl (by decide) (by decide)), if_neg (key 3 3 rfl (by decide) (by decide)), if_neg (key 4 4 rfl (by decide) (by decide)), if_neg (key 5 5 rfl (by decide) (by decide)), if_neg (key 6 6 rfl (by decide) (by decide)), if_neg (key 7 7 rfl (by decide) (by decide))]
def pFed (σ : mS) (t : Nat) (f : Nat → Int32) : Nat → mS
  | 0 => σ
  | n + 1 => mm_ar (pFed σ t f n) 23 (t + n) (f n)
theorem pFed_1 (σ : mS) (t : Nat) (f : Nat → Int32) : ∀ n, (pFed σ t f n).1 = σ.1
  | 0 => rfl
  | n + 1 => pFed_1 σ t f n
theorem pFed_o (σ : mS) (t : Nat) (f : Nat → Int32) {k : Nat} (hk : k ≠ 23) : ∀ n, (pFed σ t f n).2 k = σ.2 k
  | 0 => rfl
  | n + 1 => by
    rw [pFed, mm_ar_o hk]
    exact pFed_o σ t f hk n
def pByt (v : Int32) (j : Nat) : Int32 := (v >>> (nI (24 - 8 * j) &&& 31)).toInt8.toInt32

set_option maxHeartbeats 4000000 in
set_option maxRecDepth 100000 in
theorem lp_X4_holder {p : Program} {l : Launch} {e : Env} {s : State} {m : MethodId} {args : Array Value} {below : List Frame} {meth : Method} {c : Code} {Q : State → Prop} {G : gw_G} {A : Nat → Prop} {H0 : Heap} {ad : Nat → Nat} (σ : mS) (q : Nat) (z x : Int32) {nS : Nat} (h17 : σ.1 17 = nI nS) (hS : nS ≤ 60) (X : gx_X RX4 cX4_holder 6 (some .int) G p s m args meth c) (K1 : (∀ (k : Nat) (H : Heap) (locs : List Loc) (ls : Array Slot), k < nS → pHit σ q x k → (∀ j, j < k → ¬ pHit σ q x j) → mm_H G A H0 H locs ad σ → lv_has ls 6 [(0, .ref (ad 0)), (2, .int z), (5, .int (nI (7 * k)))] → W p l e (mm_rm 5) s m args below meth c H locs 0 0 Q (F0 m 116 ls []))) (K2 : (∀ (H : Heap) (locs : List Loc) (ls : Array Slot), (∀ j, j < nS → ¬ pHit σ q x j) → mm_H G A H0 H locs ad σ → lv_has ls 6 [(0, .ref (ad 0))] → W p l e (mm_rm 5) s m args below meth c H locs 0 0 Q (F0 m 171 ls []))) : ∀ (n : Nat) (i : Nat), nS < i + n → i ≤ nS → (∀ j, j < i → ¬ pHit σ q x j) → ∀ (H : Heap) (locs : List Loc) (ls : Array Slot), mm_H G A H0 H locs ad σ → lv_has ls 6 [(0, .ref (ad 0)), (1, .int (nI q)), (2, .int z), (3, .int x), (4, .int (nI i))] → W p l e (mm_rm 5) s m args below meth c H locs 0 0 Q (F0 m 60 ls []) := by
  obtain ⟨hx, hb, hml, hT, hr, hlocks⟩ := id X
  intro n
  induction n with
  | zero =>
    intro i h0 hi hall
    exact absurd h0 (by omega)
  | succ n ih =>
    intro i h0 hi hall H locs ls hH hl
    refine lv_iload hx hb dX4_holder_60 (lv_at hl 4 rfl) ?_
    refine lv_aload_n hx hb dX4_holder_62 rfl (lv_at hl 0 rfl) ?_
    refine mm_get (v := .int (σ.1 17)) hx hb hT hH 17 (by decide) rfl q798 rfl dX4_holder_63 ?_
    refine lv_as h17 ?_
    refine lv_icmp_ge (tgt := 171) hx hb dX4_holder_66 (by decide) (fun c_66 => ?_) (fun c_66 => ?_)
    · skip
      have c_66 : nS ≤ i := (nI_leI (a := nS) (b := i) (by omega) (by omega)).mp c_66
      obtain rfl : nS = i := by omega
      exact K2 _ _ _ hall hH (lv_sub hl [0] rfl)
    · skip
      have c_66 : ¬ (nS ≤ i) := fun h => c_66 ((nI_leI (a := nS) (b := i) (by omega) (by omega)).mpr h)
      refine lv_bipush (v := 7) hx hb dX4_holder_69 (by decide) ?_
      refine lv_iload hx hb dX4_holder_71 (lv_at hl 4 rfl) ?_
      refine lv_imul hx hb dX4_holder_73 ?_
      refine lv_as (pk_mul 7 i) ?_
      refine lv_istore (lv' := [(5, .int (nI (7 * i))), (0, .ref (ad 0)), (1, .int (nI q)), (2, .int z), (3, .int x), (4, .int (nI i))]) hx hb dX4_holder_74 hl (by decide) rfl (fun ls hl => ?_)
      refine lv_aload_n hx hb dX4_holder_76 rfl (lv_at hl 1 rfl) ?_
      refine mm_get (v := .ref (ad 16)) hx hb hT hH 16 (by decide) rfl q797 rfl dX4_holder_77 ?_
      refine lv_iload hx hb dX4_holder_80 (lv_at hl 0 rfl) ?_
      refine mm_ild (v := σ.2 16 (7 * i)) hx hb hT hH 16 (by decide) rfl (7 * i) rfl (show 7 * i < 420 by omega) rfl dX4_holder_82 ?_
      refine lv_iload_n hx hb dX4_holder_83 rfl (lv_at hl 2 rfl) ?_
      refine lv_icmp_ne (tgt := 165) hx hb dX4_holder_84 (by decide) (fun c_84 => ?_) (fun c_84 => ?_)
      · skip
        refine lv_iinc (v := nI (i + 1)) (lv' := [(4, .int (nI (i + 1))), (5, .int (nI (7 * i))), (0, .ref (ad 0)), (1, .int (nI q)), (2, .int z), (3, .int x)]) hx hb dX4_holder_165 hl (k := 5) rfl (nI_add i 1) (by decide) rfl (fun ls hl => ?_)
        refine lv_goto (tgt := 60) hx hb dX4_holder_168 (by decide) ?_
        exact ih (i + 1) (by omega) (by omega) (fun j hj => by rcases Nat.lt_or_ge j i with y | y; exact hall j y; rw [show j = i by omega]; exact (fun h => c_84 h.1)) _ _ _ hH (lv_sub hl [2, 3, 4, 5, 0] rfl)
      · skip
        refine lv_iload_n hx hb dX4_holder_87 rfl (lv_at hl 4 rfl) ?_
        refine lv_aload_n hx hb dX4_holder_88 rfl (lv_at hl 1 rfl) ?_
        refine mm_get (v := .ref (ad 16)) hx hb hT hH 16 (by decide) rfl q797 rfl dX4_holder_89 ?_
        refine lv_iload hx hb dX4_holder_92 (lv_at hl 0 rfl) ?_
        refine lv_iconst (v := 1) hx hb dX4_holder_94 (by decide) ?_
        refine lv_iadd hx hb dX4_holder_95 ?_
        refine lv_as (nI_add (7 * i) 1) ?_
        refine mm_ild (v := σ.2 16 ((7 * i) + 1)) hx hb hT hH 16 (by decide) rfl ((7 * i) + 1) rfl (show (7 * i) + 1 < 420 by omega) rfl dX4_holder_96 ?_
        refine lv_icmp_lt (tgt := 165) hx hb dX4_holder_97 (by decide) (fun c_97 => ?_) (fun c_97 => ?_)
        · skip
          refine lv_iinc (v := nI (i + 1)) (lv' := [(4, .int (nI (i + 1))), (5, .int (nI (7 * i))), (0, .ref (ad 0)), (1, .int (nI q)), (2, .int z), (3, .int x)]) hx hb dX4_holder_165 hl (k := 5) rfl (nI_add i 1) (by decide) rfl (fun ls hl => ?_)
          refine lv_goto (tgt := 60) hx hb dX4_holder_168 (by decide) ?_
          exact ih (i + 1) (by omega) (by omega) (fun j hj => by rcases Nat.lt_or_ge j i with y | y; exact hall j y; rw [show j = i by omega]; exact (fun h => h.2.1 c_97)) _ _ _ hH (lv_sub hl [2, 3, 4, 5, 0] rfl)
        · skip
          refine lv_iload_n hx hb dX4_holder_100 rfl (lv_at hl 4 rfl) ?_
          refine lv_aload_n hx hb dX4_holder_101 rfl (lv_at hl 1 rfl) ?_
          refine mm_get (v := .ref (ad 16)) hx hb hT hH 16 (by decide) rfl q797 rfl dX4_holder_102 ?_
          refine lv_iload hx hb dX4_holder_105 (lv_at hl 0 rfl) ?_
          refine lv_iconst (v := 2) hx hb dX4_holder_107 (by decide) ?_
          refine lv_iadd hx hb dX4_holder_108 ?_
          refine lv_as (nI_add (7 * i) 2) ?_
          refine mm_ild (v := σ.2 16 ((7 * i) + 2)) hx hb hT hH 16 (by decide) rfl ((7 * i) + 2) rfl (show (7 * i) + 2 < 420 by omega) rfl dX4_holder_109 ?_
          refine lv_icmp_lt (tgt := 116) hx hb dX4_holder_110 (by decide) (fun c_110 => ?_) (fun c_110 => ?_)
          · skip
            exact K1 i _ _ _ (by omega) ⟨c_84, c_97, c_110⟩ hall hH (lv_sub hl [1, 3, 0] rfl)
          · skip
            refine lv_goto (tgt := 165) hx hb dX4_holder_113 (by decide) ?_
            refine lv_iinc (v := nI (i + 1)) (lv' := [(4, .int (nI (i + 1))), (5, .int (nI (7 * i))), (0, .ref (ad 0)), (1, .int (nI q)), (2, .int z), (3, .int x)]) hx hb dX4_holder_165 hl (k := 5) rfl (nI_add i 1) (by decide) rfl (fun ls hl => ?_)
            refine lv_goto (tgt := 60) hx hb dX4_holder_168 (by decide) ?_
            exact ih (i + 1) (by omega) (by omega) (fun j hj => by rcases Nat.lt_or_ge j i with y | y; exact hall j y; rw [show j = i by omega]; exact (fun h => c_110 h.2.2)) _ _ _ hH (lv_sub hl [2, 3, 4, 5, 0] rfl)

set_option maxHeartbeats 4000000 in
set_option maxRecDepth 100000 in
theorem c_X4_holder (l : Launch) (σ : mS) (v z : Int32) {nC : Nat} (h10 : σ.1 10 = nI nC) (hC : nC ≤ 8) (h6 : ∀ c, c < 8 → σ.2 6 c = 0 ∨ σ.2 6 c = 1) (h9 : ∀ c, c < 8 → σ.2 6 c = 1 → ¬ σ.2 9 c = 0) {nS : Nat} (h17 : σ.1 17 = nI nS) (hS : nS ≤ 60) : mm_Ci l yX4_holder cX4_holder 6 (some .int) 5 [.int v, .int z] σ (fun r u => ((¬ ∃ k, k < nC ∧ nI k = v) ∧ mm_st (mm_st σ 0 0) 0 1 = u ∧ 0 = r) ∨ ∃ k, k < nC ∧ nI k = v ∧ ((¬ 0 ≤ z ∧ mm_st (mm_st σ 0 0) 0 2 = u ∧ 0 = r) ∨ (0 ≤ z ∧ ((σ.2 6 k = 0 ∧ mm_st σ 0 0 = u ∧ (-1) = r) ∨ (σ.2 6 k = 1 ∧ mm_st σ 0 0 = u ∧ (((∀ j, j < nS → ¬ pHit σ k (pRem z (σ.2 9 k)) j) ∧ (-1) = r) ∨ ∃ i, i < nS ∧ pHit σ k (pRem z (σ.2 9 k)) i ∧ (∀ j, j < i → ¬ pHit σ k (pRem z (σ.2 9 k)) j) ∧ pHold σ i z = r)))))) := by
  refine mm_ofi (by decide) rfl (Nat.le_of_ble_eq_true rfl) ?_
  intro p e s m args below meth c G A ad ls X hH hl
  obtain ⟨hx, hb, hml, hT, hr, hlocks⟩ := id X
  have hl : lv_has ls 6 [(0, .ref (ad 0)), (1, .int v), (2, .int z)] := hl
  refine lv_aload_n hx hb dX4_holder_0 rfl (lv_at hl 0 rfl) ?_
  refine lv_iconst (v := 0) hx hb dX4_holder_1 (by decide) ?_
  refine mm_put hx hb hT hH 0 (by decide) (by decide) rfl rfl q781 rfl dX4_holder_2 (fun H locs hH => ?_)
  refine lv_aload_n hx hb dX4_holder_5 rfl (lv_at hl 0 rfl) ?_
  refine lv_aload_n hx hb dX4_holder_6 rfl (lv_at hl 0 rfl) ?_
  refine lv_iload_n hx hb dX4_holder_7 rfl (lv_at hl 1 rfl) ?_
  refine mm_cVi (n := 1) (c_X4_noChannel l (mm_st σ 0 0) v (nC := nC) h10 hC) hx hb hml hT hH (lw_V q914 q916 qs14 q39 q917) (by decide +kernel) ⟨Nat.le_of_ble_eq_true rfl, Nat.le_of_ble_eq_true rfl⟩ rfl hl.1 rfl (Nat.le_of_ble_eq_true rfl) dX4_holder_8 ⟨Nat.le_refl _, Nat.le_refl _⟩ (fun r_8 u_8 H locs hp_8 hH => ?_)
  obtain ⟨rfl, hp_8⟩ := hp_8
  rcases hp_8 with ⟨rfl, h_8⟩ | ⟨rfl, h_8⟩
  · skip
    refine lv_iconst (v := 1) hx hb dX4_holder_11 (by decide) ?_
    refine mm_cVi (n := 2) (c_X4_throwsIf1 l (mm_st σ 0 0) 1) hx hb hml hT hH (lw_V q902 q904 qs13 q39 q905) (by decide +kernel) ⟨Nat.le_of_ble_eq_true rfl, Nat.le_of_ble_eq_true rfl⟩ rfl hl.1 rfl (Nat.le_of_ble_eq_true rfl) dX4_holder_12 ⟨Nat.le_refl _, Nat.le_refl _⟩ (fun r_12 u_12 H locs hp_12 hH => ?_)
    obtain ⟨rfl, rfl⟩ := hp_12
    refine lv_if_ne (tgt := 35) hx hb dX4_holder_15 (by decide) (fun c_15 => ?_) (fun c_15 => ?_)
    · skip
      refine lv_iconst (v := 0) hx hb dX4_holder_35 (by decide) ?_
      exact mm_ri hx hb hr hlocks hT hH rfl dX4_holder_36 (Or.inl ⟨h_8, rfl, rfl⟩)
    · skip
      exact absurd c_15 (by decide)
  · skip
    obtain ⟨k, hk, rfl⟩ := h_8
    refine lv_iconst (v := 1) hx hb dX4_holder_11 (by decide) ?_
    refine mm_cVi (n := 2) (c_X4_throwsIf0 l (mm_st σ 0 0) 1) hx hb hml hT hH (lw_V q902 q904 qs13 q39 q905) (by decide +kernel) ⟨Nat.le_of_ble_eq_true rfl, Nat.le_of_ble_eq_true rfl⟩ rfl hl.1 rfl (Nat.le_of_ble_eq_true rfl) dX4_holder_12 ⟨Nat.le_refl _, Nat.le_refl _⟩ (fun r_12 u_12 H locs hp_12 hH => ?_)
    obtain ⟨rfl, rfl⟩ := hp_12
    refine lv_if_ne (tgt := 35) hx hb dX4_holder_15 (by decide) (fun c_15 => ?_) (fun c_15 => ?_)
    · skip
      exact absurd c_15 (by decide)
    · skip
      refine lv_aload_n hx hb dX4_holder_18 rfl (lv_at hl 0 rfl) ?_
      refine lv_iload_n hx hb dX4_holder_19 rfl (lv_at hl 2 rfl) ?_
      refine lv_if_ge (tgt := 27) hx hb dX4_holder_20 (by decide) (fun c_20 => ?_) (fun c_20 => ?_)
      · skip
        refine lv_iconst (v := 0) hx hb dX4_holder_27 (by decide) ?_
        refine lv_iconst (v := 2) hx hb dX4_holder_28 (by decide) ?_
        refine mm_cVi (n := 2) (c_X4_throwsIf0 l (mm_st σ 0 0) 2) hx hb hml hT hH (lw_V q902 q904 qs13 q39 q905) (by decide +kernel) ⟨Nat.le_of_ble_eq_true rfl, Nat.le_of_ble_eq_true rfl⟩ rfl hl.1 rfl (Nat.le_of_ble_eq_true rfl) dX4_holder_29 ⟨Nat.le_refl _, Nat.le_refl _⟩ (fun r_29 u_29 H locs hp_29 hH => ?_)
        obtain ⟨rfl, rfl⟩ := hp_29
        refine lv_if_eq (tgt := 37) hx hb dX4_holder_32 (by decide) (fun c_32 => ?_) (fun c_32 => ?_)
        · skip
          refine lv_aload_n hx hb dX4_holder_37 rfl (lv_at hl 0 rfl) ?_
          refine mm_get (v := .ref (ad 6)) hx hb hT hH 6 (by decide) rfl q787 rfl dX4_holder_38 ?_
          refine lv_iload_n hx hb dX4_holder_41 rfl (lv_at hl 1 rfl) ?_
          refine mm_zld (v := σ.2 6 k) hx hb hT hH 6 (by decide) rfl k rfl (show k < 8 by omega) rfl dX4_holder_42 ?_
          rcases h6 k (by omega) with k_42 | k_42
          · refine lv_as k_42 ?_
            refine lv_if_ne (tgt := 48) hx hb dX4_holder_43 (by decide) (fun c_43 => ?_) (fun c_43 => ?_)
            · skip
              exact absurd c_43 (by decide)
            · skip
              refine lv_iconst (v := (-1)) hx hb dX4_holder_46 (by decide) ?_
              exact mm_ri hx hb hr hlocks hT hH rfl dX4_holder_47 (Or.inr ⟨k, hk, rfl, Or.inr ⟨c_20, Or.inl ⟨k_42, rfl, rfl⟩⟩⟩)
          · refine lv_as k_42 ?_
            refine lv_if_ne (tgt := 48) hx hb dX4_holder_43 (by decide) (fun c_43 => ?_) (fun c_43 => ?_)
            · skip
              refine lv_iload_n hx hb dX4_holder_48 rfl (lv_at hl 2 rfl) ?_
              refine lv_aload_n hx hb dX4_holder_49 rfl (lv_at hl 0 rfl) ?_
              refine mm_get (v := .ref (ad 9)) hx hb hT hH 9 (by decide) rfl q790 rfl dX4_holder_50 ?_
              refine lv_iload_n hx hb dX4_holder_53 rfl (lv_at hl 1 rfl) ?_
              refine mm_ild (v := σ.2 9 k) hx hb hT hH 9 (by decide) rfl k rfl (show k < 8 by omega) rfl dX4_holder_54 ?_
              refine lv_irem hx hb dX4_holder_55 (h9 k (by omega) k_42) ?_
              refine lv_as (z := pRem z (σ.2 9 k)) rfl ?_
              refine lv_istore_n (lv' := [(3, .int (pRem z (σ.2 9 k))), (0, .ref (ad 0)), (1, .int (nI k)), (2, .int z)]) hx hb dX4_holder_56 rfl hl (by decide) rfl (fun ls hl => ?_)
              refine lv_iconst (v := 0) hx hb dX4_holder_57 (by decide) ?_
              refine lv_istore (lv' := [(4, .int 0), (3, .int (pRem z (σ.2 9 k))), (0, .ref (ad 0)), (1, .int (nI k)), (2, .int z)]) hx hb dX4_holder_58 hl (by decide) rfl (fun ls hl => ?_)
              refine lp_X4_holder (mm_st σ 0 0) k z (pRem z (σ.2 9 k)) (nS := nS) h17 hS X ?_ ?_ (nS + 1) 0 (by omega) (Nat.zero_le _) (fun j hj => absurd hj (Nat.not_lt_zero j)) _ _ _ hH (lv_sub hl [2, 3, 4, 1, 0] rfl)
              · intro i H locs ls hi hit hall hH hl
                refine lv_iload_n hx hb dX4_holder_116 rfl (lv_at hl 1 rfl) ?_
                refine lv_aload_n hx hb dX4_holder_117 rfl (lv_at hl 0 rfl) ?_
                refine mm_get (v := .ref (ad 16)) hx hb hT hH 16 (by decide) rfl q797 rfl dX4_holder_118 ?_
                refine lv_iload hx hb dX4_holder_121 (lv_at hl 2 rfl) ?_
                refine lv_iconst (v := 5) hx hb dX4_holder_123 (by decide) ?_
                refine lv_iadd hx hb dX4_holder_124 ?_
                refine lv_as (nI_add (7 * i) 5) ?_
                refine mm_ild (v := σ.2 16 ((7 * i) + 5)) hx hb hT hH 16 (by decide) rfl ((7 * i) + 5) rfl (show (7 * i) + 5 < 420 by omega) rfl dX4_holder_125 ?_
                refine lv_icmp_lt (tgt := 155) hx hb dX4_holder_126 (by decide) (fun c_126 => ?_) (fun c_126 => ?_)
                · skip
                  refine lv_aload_n hx hb dX4_holder_155 rfl (lv_at hl 0 rfl) ?_
                  refine mm_get (v := .ref (ad 16)) hx hb hT hH 16 (by decide) rfl q797 rfl dX4_holder_156 ?_
                  refine lv_iload hx hb dX4_holder_159 (lv_at hl 2 rfl) ?_
                  refine lv_iconst (v := 3) hx hb dX4_holder_161 (by decide) ?_
                  refine lv_iadd hx hb dX4_holder_162 ?_
                  refine lv_as (nI_add (7 * i) 3) ?_
                  refine mm_ild (v := σ.2 16 ((7 * i) + 3)) hx hb hT hH 16 (by decide) rfl ((7 * i) + 3) rfl (show (7 * i) + 3 < 420 by omega) rfl dX4_holder_163 ?_
                  exact mm_ri hx hb hr hlocks hT hH rfl dX4_holder_164 (Or.inr ⟨k, hk, rfl, Or.inr ⟨c_20, Or.inr ⟨k_42, rfl, Or.inr ⟨i, hi, hit, hall, if_neg (fun h => h.1 c_126)⟩⟩⟩⟩)
                · skip
                  refine lv_iload_n hx hb dX4_holder_129 rfl (lv_at hl 1 rfl) ?_
                  refine lv_aload_n hx hb dX4_holder_130 rfl (lv_at hl 0 rfl) ?_
                  refine mm_get (v := .ref (ad 16)) hx hb hT hH 16 (by decide) rfl q797 rfl dX4_holder_131 ?_
                  refine lv_iload hx hb dX4_holder_134 (lv_at hl 2 rfl) ?_
                  refine lv_bipush (v := 6) hx hb dX4_holder_136 (by decide) ?_
                  refine lv_iadd hx hb dX4_holder_138 ?_
                  refine lv_as (nI_add (7 * i) 6) ?_
                  refine mm_ild (v := σ.2 16 ((7 * i) + 6)) hx hb hT hH 16 (by decide) rfl ((7 * i) + 6) rfl (show (7 * i) + 6 < 420 by omega) rfl dX4_holder_139 ?_
                  refine lv_icmp_ge (tgt := 155) hx hb dX4_holder_140 (by decide) (fun c_140 => ?_) (fun c_140 => ?_)
                  · skip
                    refine lv_aload_n hx hb dX4_holder_155 rfl (lv_at hl 0 rfl) ?_
                    refine mm_get (v := .ref (ad 16)) hx hb hT hH 16 (by decide) rfl q797 rfl dX4_holder_156 ?_
                    refine lv_iload hx hb dX4_holder_159 (lv_at hl 2 rfl) ?_
                    refine lv_iconst (v := 3) hx hb dX4_holder_161 (by decide) ?_
                    refine lv_iadd hx hb dX4_holder_162 ?_
                    refine lv_as (nI_add (7 * i) 3) ?_
                    refine mm_ild (v := σ.2 16 ((7 * i) + 3)) hx hb hT hH 16 (by decide) rfl ((7 * i) + 3) rfl (show (7 * i) + 3 < 420 by omega) rfl dX4_holder_163 ?_
                    exact mm_ri hx hb hr hlocks hT hH rfl dX4_holder_164 (Or.inr ⟨k, hk, rfl, Or.inr ⟨c_20, Or.inr ⟨k_42, rfl, Or.inr ⟨i, hi, hit, hall, if_neg (fun h => absurd h.2 (Int32.not_lt.mpr c_140))⟩⟩⟩⟩)
                  · skip
                    refine lv_aload_n hx hb dX4_holder_143 rfl (lv_at hl 0 rfl) ?_
                    refine mm_get (v := .ref (ad 16)) hx hb hT hH 16 (by decide) rfl q797 rfl dX4_holder_144 ?_
                    refine lv_iload hx hb dX4_holder_147 (lv_at hl 2 rfl) ?_
                    refine lv_iconst (v := 4) hx hb dX4_holder_149 (by decide) ?_
                    refine lv_iadd hx hb dX4_holder_150 ?_
                    refine lv_as (nI_add (7 * i) 4) ?_
                    refine mm_ild (v := σ.2 16 ((7 * i) + 4)) hx hb hT hH 16 (by decide) rfl ((7 * i) + 4) rfl (show (7 * i) + 4 < 420 by omega) rfl dX4_holder_151 ?_
                    refine lv_goto (tgt := 164) hx hb dX4_holder_152 (by decide) ?_
                    exact mm_ri hx hb hr hlocks hT hH rfl dX4_holder_164 (Or.inr ⟨k, hk, rfl, Or.inr ⟨c_20, Or.inr ⟨k_42, rfl, Or.inr ⟨i, hi, hit, hall, if_pos ⟨c_126, in_lt c_140⟩⟩⟩⟩⟩)
              · intro H locs ls hall hH hl
                refine lv_iconst (v := (-1)) hx hb dX4_holder_171 (by decide) ?_
                exact mm_ri hx hb hr hlocks hT hH rfl dX4_holder_172 (Or.inr ⟨k, hk, rfl, Or.inr ⟨c_20, Or.inr ⟨k_42, rfl, Or.inl ⟨hall, rfl⟩⟩⟩⟩)
            · skip
              exact absurd c_43 (by decide)
        · skip
          exact absurd c_32 (by decide)
      · skip
        refine lv_iconst (v := 1) hx hb dX4_holder_23 (by decide) ?_
        refine lv_goto (tgt := 28) hx hb dX4_holder_24 (by decide) ?_
        refine lv_iconst (v := 2) hx hb dX4_holder_28 (by decide) ?_
        refine mm_cVi (n := 2) (c_X4_throwsIf1 l (mm_st σ 0 0) 2) hx hb hml hT hH (lw_V q902 q904 qs13 q39 q905) (by decide +kernel) ⟨Nat.le_of_ble_eq_true rfl, Nat.le_of_ble_eq_true rfl⟩ rfl hl.1 rfl (Nat.le_of_ble_eq_true rfl) dX4_holder_29 ⟨Nat.le_refl _, Nat.le_refl _⟩ (fun r_29 u_29 H locs hp_29 hH => ?_)
        obtain ⟨rfl, rfl⟩ := hp_29
        refine lv_if_eq (tgt := 37) hx hb dX4_holder_32 (by decide) (fun c_32 => ?_) (fun c_32 => ?_)
        · skip
          exact absurd c_32 (by decide)
        · skip
          refine lv_iconst (v := 0) hx hb dX4_holder_35 (by decide) ?_
          exact mm_ri hx hb hr hlocks hT hH rfl dX4_holder_36 (Or.inr ⟨k, hk, rfl, Or.inl ⟨c_20, rfl, rfl⟩⟩)

set_option maxHeartbeats 4000000 in
set_option maxRecDepth 100000 in
theorem lp_X4_count5 {p : Program} {l : Launch} {e : Env} {s : State} {m : MethodId} {args : Array Value} {below : List Frame} {meth : Method} {c : Code} {Q : State → Prop} {G : gw_G} {A : Nat → Prop} {H0 : Heap} {ad : Nat → Nat} (σ : mS) {nS : Nat} (h17 : σ.1 17 = nI nS) (hS : nS ≤ 60) (X : gx_X RX4 cX4_count 4 (some .int) G p s m args meth c) (K : (∀ (H : Heap) (locs : List Loc) (ls : Array Slot), mm_H G A H0 H locs ad σ → lv_has ls 4 [(2, .int (nI (pLets σ nS)))] → W p l e (mm_rm 6) s m args below meth c H locs 0 0 Q (F0 m 113 ls []))) : ∀ (n : Nat) (i : Nat), nS < i + n → i ≤ nS → ∀ (H : Heap) (locs : List Loc) (ls : Array Slot), mm_H G A H0 H locs ad σ → lv_has ls 4 [(0, .ref (ad 0)), (2, .int (nI (pLets σ i))), (3, .int (nI i))] → W p l e (mm_rm 6) s m args below meth c H locs 0 0 Q (F0 m 83 ls []) := by
  obtain ⟨hx, hb, hml, hT, hr, hlocks⟩ := id X
  intro n
  induction n with
  | zero =>
    intro i h0 hi
    exact absurd h0 (by omega)
  | succ n ih =>
    intro i h0 hi H locs ls hH hl
    refine lv_iload_n hx hb dX4_count_83 rfl (lv_at hl 2 rfl) ?_
    refine lv_aload_n hx hb dX4_count_84 rfl (lv_at hl 0 rfl) ?_
    refine mm_get (v := .int (σ.1 17)) hx hb hT hH 17 (by decide) rfl q798 rfl dX4_count_85 ?_
    refine lv_as h17 ?_
    refine lv_icmp_ge (tgt := 113) hx hb dX4_count_88 (by decide) (fun c_88 => ?_) (fun c_88 => ?_)
    · skip
      have c_88 : nS ≤ i := (nI_leI (a := nS) (b := i) (by omega) (by omega)).mp c_88
      obtain rfl : nS = i := by omega
      exact K _ _ _ hH (lv_sub hl [1] rfl)
    · skip
      have c_88 : ¬ (nS ≤ i) := fun h => c_88 ((nI_leI (a := nS) (b := i) (by omega) (by omega)).mpr h)
      refine lv_iload_n hx hb dX4_count_91 rfl (lv_at hl 1 rfl) ?_
      refine lv_aload_n hx hb dX4_count_92 rfl (lv_at hl 0 rfl) ?_
      refine lv_iload_n hx hb dX4_count_93 rfl (lv_at hl 2 rfl) ?_
      refine mm_cVi (n := 1) (c_X4_isLet l σ i (by omega)) hx hb hml hT hH (lw_V q992 q994 qs24 q39 q995) (by decide +kernel) ⟨Nat.le_of_ble_eq_true rfl, Nat.le_of_ble_eq_true rfl⟩ rfl hl.1 rfl (Nat.le_of_ble_eq_true rfl) dX4_count_94 ⟨Nat.le_refl _, Nat.le_refl _⟩ (fun r_94 u_94 H locs hp_94 hH => ?_)
      obtain ⟨rfl, hp_94⟩ := hp_94
      rcases hp_94 with ⟨rfl, h_94⟩ | ⟨rfl, h_94⟩
      · skip
        refine lv_if_eq (tgt := 104) hx hb dX4_count_97 (by decide) (fun c_97 => ?_) (fun c_97 => ?_)
        · skip
          exact absurd c_97 (by decide)
        · skip
          refine lv_iconst (v := 1) hx hb dX4_count_100 (by decide) ?_
          refine lv_goto (tgt := 105) hx hb dX4_count_101 (by decide) ?_
          refine lv_iadd hx hb dX4_count_105 ?_
          refine lv_as (z := nI (pLets σ (i + 1))) (by rw [pLets, if_pos h_94]; exact nI_add _ _) ?_
          refine lv_istore_n (lv' := [(2, .int (nI (pLets σ (i + 1)))), (0, .ref (ad 0)), (3, .int (nI i))]) hx hb dX4_count_106 rfl hl (by decide) rfl (fun ls hl => ?_)
          refine lv_iinc (v := nI (i + 1)) (lv' := [(3, .int (nI (i + 1))), (2, .int (nI (pLets σ (i + 1)))), (0, .ref (ad 0))]) hx hb dX4_count_107 hl (k := 2) rfl (nI_add i 1) (by decide) rfl (fun ls hl => ?_)
          refine lv_goto (tgt := 83) hx hb dX4_count_110 (by decide) ?_
          exact ih (i + 1) (by omega) (by omega) _ _ _ hH (lv_sub hl [2, 1, 0] rfl)
      · skip
        refine lv_if_eq (tgt := 104) hx hb dX4_count_97 (by decide) (fun c_97 => ?_) (fun c_97 => ?_)
        · skip
          refine lv_iconst (v := 0) hx hb dX4_count_104 (by decide) ?_
          refine lv_iadd hx hb dX4_count_105 ?_
          refine lv_as (z := nI (pLets σ (i + 1))) (by rw [pLets, if_neg h_94]; exact nI_add _ _) ?_
          refine lv_istore_n (lv' := [(2, .int (nI (pLets σ (i + 1)))), (0, .ref (ad 0)), (3, .int (nI i))]) hx hb dX4_count_106 rfl hl (by decide) rfl (fun ls hl => ?_)
          refine lv_iinc (v := nI (i + 1)) (lv' := [(3, .int (nI (i + 1))), (2, .int (nI (pLets σ (i + 1)))), (0, .ref (ad 0))]) hx hb dX4_count_107 hl (k := 2) rfl (nI_add i 1) (by decide) rfl (fun ls hl => ?_)
          refine lv_goto (tgt := 83) hx hb dX4_count_110 (by decide) ?_
          exact ih (i + 1) (by omega) (by omega) _ _ _ hH (lv_sub hl [2, 1, 0] rfl)
        · skip
          exact absurd c_97 (by decide)

set_option maxHeartbeats 4000000 in
set_option maxRecDepth 100000 in
theorem lp_X4_count7 {p : Program} {l : Launch} {e : Env} {s : State} {m : MethodId} {args : Array Value} {below : List Frame} {meth : Method} {c : Code} {Q : State → Prop} {G : gw_G} {A : Nat → Prop} {H0 : Heap} {ad : Nat → Nat} (σ : mS) {nC : Nat} (h10 : σ.1 10 = nI nC) (hC : nC ≤ 8) {nW : Nat → Nat} (h5 : ∀ c, c < 8 → σ.2 5 c = nI (nW c)) (hW : ∀ c, c < 8 → nW c ≤ 20) (X : gx_X RX4 cX4_count 4 (some .int) G p s m args meth c) (K : (∀ (H : Heap) (locs : List Loc) (ls : Array Slot), mm_H G A H0 H locs ad σ → lv_has ls 4 [(2, .int (pWat σ nC nW nC))] → W p l e (mm_rm 6) s m args below meth c H locs 0 0 Q (F0 m 159 ls []))) : ∀ (n : Nat) (i : Nat), nC < i + n → i ≤ nC → ∀ (H : Heap) (locs : List Loc) (ls : Array Slot), mm_H G A H0 H locs ad σ → lv_has ls 4 [(0, .ref (ad 0)), (2, .int (pWat σ nC nW i)), (3, .int (nI i))] → W p l e (mm_rm 6) s m args below meth c H locs 0 0 Q (F0 m 122 ls []) := by
  obtain ⟨hx, hb, hml, hT, hr, hlocks⟩ := id X
  intro n
  induction n with
  | zero =>
    intro i h0 hi
    exact absurd h0 (by omega)
  | succ n ih =>
    intro i h0 hi H locs ls hH hl
    refine lv_iload_n hx hb dX4_count_122 rfl (lv_at hl 2 rfl) ?_
    refine lv_aload_n hx hb dX4_count_123 rfl (lv_at hl 0 rfl) ?_
    refine mm_get (v := .int (σ.1 10)) hx hb hT hH 10 (by decide) rfl q791 rfl dX4_count_124 ?_
    refine lv_as h10 ?_
    refine lv_icmp_ge (tgt := 159) hx hb dX4_count_127 (by decide) (fun c_127 => ?_) (fun c_127 => ?_)
    · skip
      have c_127 : nC ≤ i := (nI_leI (a := nC) (b := i) (by omega) (by omega)).mp c_127
      obtain rfl : nC = i := by omega
      exact K _ _ _ hH (lv_sub hl [1] rfl)
    · skip
      have c_127 : ¬ (nC ≤ i) := fun h => c_127 ((nI_leI (a := nC) (b := i) (by omega) (by omega)).mpr h)
      refine lv_iload_n hx hb dX4_count_130 rfl (lv_at hl 1 rfl) ?_
      refine lv_aload_n hx hb dX4_count_131 rfl (lv_at hl 0 rfl) ?_
      refine mm_get (v := .ref (ad 6)) hx hb hT hH 6 (by decide) rfl q787 rfl dX4_count_132 ?_
      refine lv_iload_n hx hb dX4_count_135 rfl (lv_at hl 2 rfl) ?_
      refine mm_zld (v := σ.2 6 i) hx hb hT hH 6 (by decide) rfl i rfl (show i < 8 by omega) rfl dX4_count_136 ?_
      refine lv_if_eq (tgt := 150) hx hb dX4_count_137 (by decide) (fun c_137 => ?_) (fun c_137 => ?_)
      · skip
        refine lv_iconst (v := 0) hx hb dX4_count_150 (by decide) ?_
        refine lv_iadd hx hb dX4_count_151 ?_
        refine lv_as (z := pWat σ nC nW (i + 1)) (by rw [pWat, if_pos c_137]) ?_
        refine lv_istore_n (lv' := [(2, .int (pWat σ nC nW (i + 1))), (0, .ref (ad 0)), (3, .int (nI i))]) hx hb dX4_count_152 rfl hl (by decide) rfl (fun ls hl => ?_)
        refine lv_iinc (v := nI (i + 1)) (lv' := [(3, .int (nI (i + 1))), (2, .int (pWat σ nC nW (i + 1))), (0, .ref (ad 0))]) hx hb dX4_count_153 hl (k := 2) rfl (nI_add i 1) (by decide) rfl (fun ls hl => ?_)
        refine lv_goto (tgt := 122) hx hb dX4_count_156 (by decide) ?_
        exact ih (i + 1) (by omega) (by omega) _ _ _ hH (lv_sub hl [2, 1, 0] rfl)
      · skip
        refine lv_aload_n hx hb dX4_count_140 rfl (lv_at hl 0 rfl) ?_
        refine lv_iload_n hx hb dX4_count_141 rfl (lv_at hl 2 rfl) ?_
        refine lv_bipush (v := 8) hx hb dX4_count_142 (by decide) ?_
        refine mm_cVi (n := 2) (c_X4_flows l σ i (by omega) 8 (nC := nC) (nW := nW) h10 hC h5 hW) hx hb hml hT hH (lw_V q959 q961 qs19 q39 q962) (by decide +kernel) ⟨Nat.le_of_ble_eq_true rfl, Nat.le_of_ble_eq_true rfl⟩ rfl hl.1 rfl (Nat.le_of_ble_eq_true rfl) dX4_count_144 ⟨Nat.le_refl _, Nat.le_refl _⟩ (fun r_144 u_144 H locs hp_144 hH => ?_)
        obtain ⟨rfl, rfl⟩ := hp_144
        refine lv_goto (tgt := 151) hx hb dX4_count_147 (by decide) ?_
        refine lv_iadd hx hb dX4_count_151 ?_
        refine lv_as (z := pWat σ nC nW (i + 1)) (by rw [pWat, if_neg c_137]) ?_
        refine lv_istore_n (lv' := [(2, .int (pWat σ nC nW (i + 1))), (0, .ref (ad 0)), (3, .int (nI i))]) hx hb dX4_count_152 rfl hl (by decide) rfl (fun ls hl => ?_)
        refine lv_iinc (v := nI (i + 1)) (lv' := [(3, .int (nI (i + 1))), (2, .int (pWat σ nC nW (i + 1))), (0, .ref (ad 0))]) hx hb dX4_count_153 hl (k := 2) rfl (nI_add i 1) (by decide) rfl (fun ls hl => ?_)
        refine lv_goto (tgt := 122) hx hb dX4_count_156 (by decide) ?_
        exact ih (i + 1) (by omega) (by omega) _ _ _ hH (lv_sub hl [2, 1, 0] rfl)

theorem pLets_st (σ : mS) (v : Int32) : ∀ n, pLets (mm_st σ 0 v) n = pLets σ n
  | 0 => rfl
  | n + 1 => by
    rw [pLets, pLets, pLets_st σ v n]
    rfl
theorem pWat_st (σ : mS) (v : Int32) (nC : Nat) (nW : Nat → Nat) : ∀ n, pWat (mm_st σ 0 v) nC nW n = pWat σ nC nW n
  | 0 => rfl
  | n + 1 => by
    rw [pWat, pWat, pWat_st σ v nC nW n]
    rfl

set_option maxHeartbeats 4000000 in
set_option maxRecDepth 100000 in
theorem c_X4_count (l : Launch) (σ : mS) (x : Int32) {nC : Nat} (h10 : σ.1 10 = nI nC) (hC : nC ≤ 8) {nW : Nat → Nat} (h5 : ∀ c, c < 8 → σ.2 5 c = nI (nW c)) (hW : ∀ c, c < 8 → nW c ≤ 20) {nS : Nat} (h17 : σ.1 17 = nI nS) (hS : nS ≤ 60) : mm_Ci l yX4_count cX4_count 4 (some .int) 6 [.int x] σ (fun r u => mm_st σ 0 0 = u ∧ pCount σ nC nS nW x = r) := by
  refine mm_ofi (by decide) rfl (Nat.le_of_ble_eq_true rfl) ?_
  intro p e s m args below meth c G A ad ls X hH hl
  obtain ⟨hx, hb, hml, hT, hr, hlocks⟩ := id X
  have hl : lv_has ls 4 [(0, .ref (ad 0)), (1, .int x)] := hl
  refine lv_aload_n hx hb dX4_count_0 rfl (lv_at hl 0 rfl) ?_
  refine lv_iconst (v := 0) hx hb dX4_count_1 (by decide) ?_
  refine mm_put hx hb hT hH 0 (by decide) (by decide) rfl rfl q781 rfl dX4_count_2 (fun H locs hH => ?_)
  refine lv_iconst (v := 0) hx hb dX4_count_5 (by decide) ?_
  refine lv_istore_n (lv' := [(2, .int 0), (0, .ref (ad 0)), (1, .int x)]) hx hb dX4_count_6 rfl hl (by decide) rfl (fun ls hl => ?_)
  refine lv_iload_n hx hb dX4_count_7 rfl (lv_at hl 2 rfl) ?_
  by_cases c_8 : x.toInt < 0 ∨ 7 < x.toInt
  · refine lv_tableOut (tgt := 161) hx hb dX4_count_8 c_8 (by decide) ?_
    refine lv_iconst (v := (-1)) hx hb dX4_count_161 (by decide) ?_
    exact mm_ri hx hb hr hlocks hT hH rfl dX4_count_162 (⟨rfl, pCount_out σ nC nS nW x c_8⟩)
  · skip
    have c_8 : x = 0 ∨ x = 1 ∨ x = 2 ∨ x = 3 ∨ x = 4 ∨ x = 5 ∨ x = 6 ∨ x = 7 := gx_sw8 c_8
    rcases c_8 with c_8 | c_8 | c_8 | c_8 | c_8 | c_8 | c_8 | c_8
    · subst c_8
      refine lv_tableIn (tgt := 56) (off := 48) hx hb dX4_count_8 (by decide) (by decide) rfl (by decide) ?_
      refine lv_aload_n hx hb dX4_count_56 rfl (lv_at hl 1 rfl) ?_
      refine mm_get (v := .int (σ.1 10)) hx hb hT hH 10 (by decide) rfl q791 rfl dX4_count_57 ?_
      exact mm_ri hx hb hr hlocks hT hH rfl dX4_count_60 (⟨rfl, rfl⟩)
    · subst c_8
      refine lv_tableIn (tgt := 61) (off := 53) hx hb dX4_count_8 (by decide) (by decide) rfl (by decide) ?_
      refine lv_aload_n hx hb dX4_count_61 rfl (lv_at hl 1 rfl) ?_
      refine mm_get (v := .int (σ.1 11)) hx hb hT hH 11 (by decide) rfl q792 rfl dX4_count_62 ?_
      exact mm_ri hx hb hr hlocks hT hH rfl dX4_count_65 (⟨rfl, rfl⟩)
    · subst c_8
      refine lv_tableIn (tgt := 66) (off := 58) hx hb dX4_count_8 (by decide) (by decide) rfl (by decide) ?_
      refine lv_aload_n hx hb dX4_count_66 rfl (lv_at hl 1 rfl) ?_
      refine mm_get (v := .int (σ.1 3)) hx hb hT hH 3 (by decide) rfl q784 rfl dX4_count_67 ?_
      exact mm_ri hx hb hr hlocks hT hH rfl dX4_count_70 (⟨rfl, rfl⟩)
    · subst c_8
      refine lv_tableIn (tgt := 71) (off := 63) hx hb dX4_count_8 (by decide) (by decide) rfl (by decide) ?_
      refine lv_aload_n hx hb dX4_count_71 rfl (lv_at hl 1 rfl) ?_
      refine mm_get (v := .int (σ.1 4)) hx hb hT hH 4 (by decide) rfl q785 rfl dX4_count_72 ?_
      exact mm_ri hx hb hr hlocks hT hH rfl dX4_count_75 (⟨rfl, rfl⟩)
    · subst c_8
      refine lv_tableIn (tgt := 76) (off := 68) hx hb dX4_count_8 (by decide) (by decide) rfl (by decide) ?_
      refine lv_aload_n hx hb dX4_count_76 rfl (lv_at hl 1 rfl) ?_
      refine mm_get (v := .int (σ.1 17)) hx hb hT hH 17 (by decide) rfl q798 rfl dX4_count_77 ?_
      exact mm_ri hx hb hr hlocks hT hH rfl dX4_count_80 (⟨rfl, rfl⟩)
    · subst c_8
      refine lv_tableIn (tgt := 81) (off := 73) hx hb dX4_count_8 (by decide) (by decide) rfl (by decide) ?_
      refine lv_iconst (v := 0) hx hb dX4_count_81 (by decide) ?_
      refine lv_istore_n (lv' := [(3, .int 0), (2, .int 0), (0, .ref (ad 0)), (1, .int 5)]) hx hb dX4_count_82 rfl hl (by decide) rfl (fun ls hl => ?_)
      refine lp_X4_count5 (mm_st σ 0 0) (nS := nS) h17 hS X ?_ (nS + 1) 0 (by omega) (Nat.zero_le _) _ _ _ hH (lv_sub hl [2, 1, 0] rfl)
      intro H locs ls hH hl
      refine lv_iload_n hx hb dX4_count_113 rfl (lv_at hl 0 rfl) ?_
      exact mm_ri hx hb hr hlocks hT hH rfl dX4_count_114 (⟨rfl, by rw [pLets_st]; rfl⟩)
    · subst c_8
      refine lv_tableIn (tgt := 115) (off := 107) hx hb dX4_count_8 (by decide) (by decide) rfl (by decide) ?_
      refine lv_aload_n hx hb dX4_count_115 rfl (lv_at hl 1 rfl) ?_
      refine mm_get (v := .int (σ.1 34)) hx hb hT hH 34 (by decide) rfl q815 rfl dX4_count_116 ?_
      exact mm_ri hx hb hr hlocks hT hH rfl dX4_count_119 (⟨rfl, rfl⟩)
    · subst c_8
      refine lv_tableIn (tgt := 120) (off := 112) hx hb dX4_count_8 (by decide) (by decide) rfl (by decide) ?_
      refine lv_iconst (v := 0) hx hb dX4_count_120 (by decide) ?_
      refine lv_istore_n (lv' := [(3, .int 0), (2, .int 0), (0, .ref (ad 0)), (1, .int 7)]) hx hb dX4_count_121 rfl hl (by decide) rfl (fun ls hl => ?_)
      refine lp_X4_count7 (mm_st σ 0 0) (nC := nC) (nW := nW) h10 hC h5 hW X ?_ (nC + 1) 0 (by omega) (Nat.zero_le _) _ _ _ hH (lv_sub hl [2, 1, 0] rfl)
      intro H locs ls hH hl
      refine lv_iload_n hx hb dX4_count_159 rfl (lv_at hl 0 rfl) ?_
      exact mm_ri hx hb hr hlocks hT hH rfl dX4_count_160 (⟨rfl, by rw [pWat_st]; rfl⟩)

set_option maxHeartbeats 4000000 in
set_option maxRecDepth 100000 in
theorem lp_X4_feed {p : Program} {l : Launch} {e : Env} {s : State} {m : MethodId} {args : Array Value} {below : List Frame} {meth : Method} {c : Code} {Q : State → Prop} {G : gw_G} {A : Nat → Prop} {H0 : Heap} {ad : Nat → Nat} (σ : mS) {nT : Nat} (h24 : σ.1 24 = nI nT) (hT4 : nT + 20 ≤ 400) (X : gx_X RX4 cX4_feed 7 (some .int) G p s m args meth c) (K : (∀ (H : Heap) (locs : List Loc) (ls : Array Slot), mm_H G A H0 H locs ad (pFed σ nT (fun j => pByt (σ.2 29 (j / 4)) (j % 4)) 20) → lv_has ls 7 [(0, .ref (ad 0))] → W p l e (mm_rm 1) s m args below meth c H locs 0 0 Q (F0 m 106 ls []))) : ∀ (n : Nat) (i : Nat), 20 < i + n → i ≤ 20 → ∀ (H : Heap) (locs : List Loc) (ls : Array Slot), mm_H G A H0 H locs ad (pFed σ nT (fun j => pByt (σ.2 29 (j / 4)) (j % 4)) i) → lv_has ls 7 [(0, .ref (ad 0)), (6, .int (nI i))] → W p l e (mm_rm 1) s m args below meth c H locs 0 0 Q (F0 m 60 ls []) := by
  obtain ⟨hx, hb, hml, hT, hr, hlocks⟩ := id X
  intro n
  induction n with
  | zero =>
    intro i h0 hi
    exact absurd h0 (by omega)
  | succ n ih =>
    intro i h0 hi H locs ls hH hl
    refine lv_iload hx hb dX4_feed_60 (lv_at hl 1 rfl) ?_
    refine lv_bipush (v := 20) hx hb dX4_feed_62 (by decide) ?_
    refine lv_icmp_ge (tgt := 106) hx hb dX4_feed_64 (by decide) (fun c_64 => ?_) (fun c_64 => ?_)
    · skip
      have c_64 : 20 ≤ i := (nI_leI (a := 20) (b := i) (by omega) (by omega)).mp c_64
      obtain rfl : i = 20 := by omega
      exact K _ _ _ hH (lv_sub hl [0] rfl)
    · skip
      have c_64 : ¬ (20 ≤ i) := fun h => c_64 ((nI_leI (a := 20) (b := i) (by omega) (by omega)).mpr h)
      refine lv_aload_n hx hb dX4_feed_67 rfl (lv_at hl 0 rfl) ?_
      refine mm_get (v := .ref (ad 23)) hx hb hT hH 23 (by decide) rfl q804 rfl dX4_feed_68 ?_
      refine lv_aload_n hx hb dX4_feed_71 rfl (lv_at hl 0 rfl) ?_
      refine mm_get (v := .int ((pFed σ nT (fun j => pByt (σ.2 29 (j / 4)) (j % 4)) i).1 24)) hx hb hT hH 24 (by decide) rfl q805 rfl dX4_feed_72 ?_
      refine lv_as ((congrFun (pFed_1 _ _ _ _) _).trans h24) ?_
      refine lv_iload hx hb dX4_feed_75 (lv_at hl 1 rfl) ?_
      refine lv_iadd hx hb dX4_feed_77 ?_
      refine lv_as (nI_add nT i) ?_
      refine lv_aload_n hx hb dX4_feed_78 rfl (lv_at hl 0 rfl) ?_
      refine mm_get (v := .ref (ad 29)) hx hb hT hH 29 (by decide) rfl q810 rfl dX4_feed_79 ?_
      refine lv_iload hx hb dX4_feed_82 (lv_at hl 1 rfl) ?_
      refine lv_iconst (v := 4) hx hb dX4_feed_84 (by decide) ?_
      refine lv_idiv hx hb dX4_feed_85 (by decide : ¬ (4 : Int32) = 0) ?_
      refine lv_as (z := nI (i / 4)) (pk_div (a := i) (d := 4) (by omega) (by decide) (by decide)) ?_
      refine mm_ild (v := σ.2 29 (i / 4)) hx hb hT hH 29 (by decide) rfl (i / 4) rfl (show i / 4 < 5 by omega) (congrFun (pFed_o _ _ _ (by decide) _) _) dX4_feed_86 ?_
      refine lv_bipush (v := 24) hx hb dX4_feed_87 (by decide) ?_
      refine lv_bipush (v := 8) hx hb dX4_feed_89 (by decide) ?_
      refine lv_iload hx hb dX4_feed_91 (lv_at hl 1 rfl) ?_
      refine lv_iconst (v := 4) hx hb dX4_feed_93 (by decide) ?_
      refine lv_irem hx hb dX4_feed_94 (by decide : ¬ (4 : Int32) = 0) ?_
      refine lv_as (z := nI (i % 4)) (pk_rem (a := i) (d := 4) (by omega) (by decide) (by decide)) ?_
      refine lv_imul hx hb dX4_feed_95 ?_
      refine lv_as (pk_mul 8 (i % 4)) ?_
      refine lv_isub hx hb dX4_feed_96 ?_
      refine lv_as (z := nI (24 - 8 * (i % 4))) (pk_sub (a := 24) (b := 8 * (i % 4)) (by omega)) ?_
      refine lv_ishr hx hb dX4_feed_97 ?_
      refine lv_i2b (v := ((σ.2 29 (i / 4)) >>> ((nI (24 - 8 * (i % 4))) &&& 31)).toInt8.toInt32) hx hb dX4_feed_98 rfl ?_
      refine mm_bst (z := pByt (σ.2 29 (i / 4)) (i % 4)) hx hb hT hH 23 (by decide) rfl (nT + i) rfl (show nT + i < 400 by omega) (pk_vb _) dX4_feed_99 (fun H locs hH => ?_)
      refine lv_iinc (v := nI (i + 1)) (lv' := [(6, .int (nI (i + 1))), (0, .ref (ad 0))]) hx hb dX4_feed_100 hl (k := 1) rfl (nI_add i 1) (by decide) rfl (fun ls hl => ?_)
      refine lv_goto (tgt := 60) hx hb dX4_feed_103 (by decide) ?_
      exact ih (i + 1) (by omega) (by omega) _ _ _ hH (lv_sub hl [1, 0] rfl)

set_option maxHeartbeats 4000000 in
set_option maxRecDepth 100000 in
theorem c_X4_feed (l : Launch) (σ : mS) (a b c1 d e1 : Int32) {nT : Nat} (h24 : σ.1 24 = nI nT) (hT4 : nT ≤ 400) : mm_Ci l yX4_feed cX4_feed 7 (some .int) 1 [.int a, .int b, .int c1, .int d, .int e1] σ (fun r u => (nT + 20 ≤ 400 ∧ mm_st (pFed (mm_ar (mm_ar (mm_ar (mm_ar (mm_ar (mm_st σ 0 0) 29 0 a) 29 1 b) 29 2 c1) 29 3 d) 29 4 e1) nT (fun j => pByt ((mm_ar (mm_ar (mm_ar (mm_ar (mm_ar (mm_st σ 0 0) 29 0 a) 29 1 b) 29 2 c1) 29 3 d) 29 4 e1).2 29 (j / 4)) (j % 4)) 20) 24 (nI (nT + 20)) = u ∧ nI (nT + 20) = r) ∨ (400 < nT + 20 ∧ mm_st σ 0 0 = u ∧ (-1) = r)) := by
  refine mm_ofi (by decide) rfl (Nat.le_of_ble_eq_true rfl) ?_
  intro p e s m args below meth c G A ad ls X hH hl
  obtain ⟨hx, hb, hml, hT, hr, hlocks⟩ := id X
  have hl : lv_has ls 7 [(0, .ref (ad 0)), (1, .int a), (2, .int b), (3, .int c1), (4, .int d), (5, .int e1)] := hl
  refine lv_aload_n hx hb dX4_feed_0 rfl (lv_at hl 0 rfl) ?_
  refine lv_iconst (v := 0) hx hb dX4_feed_1 (by decide) ?_
  refine mm_put hx hb hT hH 0 (by decide) (by decide) rfl rfl q781 rfl dX4_feed_2 (fun H locs hH => ?_)
  refine lv_aload_n hx hb dX4_feed_5 rfl (lv_at hl 0 rfl) ?_
  refine mm_get (v := .int (σ.1 24)) hx hb hT hH 24 (by decide) rfl q805 rfl dX4_feed_6 ?_
  refine lv_as h24 ?_
  refine lv_bipush (v := 20) hx hb dX4_feed_9 (by decide) ?_
  refine lv_iadd hx hb dX4_feed_11 ?_
  refine lv_as (nI_add nT 20) ?_
  refine lv_sipush (v := 400) hx hb dX4_feed_12 (by decide) ?_
  refine lv_icmp_le (tgt := 20) hx hb dX4_feed_15 (by decide) (fun c_15 => ?_) (fun c_15 => ?_)
  · skip
    have c_15 : (nT + 20) ≤ 400 := (nI_leI (a := (nT + 20)) (b := 400) (by omega) (by omega)).mp c_15
    refine lv_aload_n hx hb dX4_feed_20 rfl (lv_at hl 0 rfl) ?_
    refine mm_get (v := .ref (ad 29)) hx hb hT hH 29 (by decide) rfl q810 rfl dX4_feed_21 ?_
    refine lv_iconst (v := 0) hx hb dX4_feed_24 (by decide) ?_
    refine lv_iload_n hx hb dX4_feed_25 rfl (lv_at hl 1 rfl) ?_
    refine mm_ist hx hb hT hH 29 (by decide) rfl 0 rfl (show 0 < 5 by omega) dX4_feed_26 (fun H locs hH => ?_)
    refine lv_aload_n hx hb dX4_feed_27 rfl (lv_at hl 0 rfl) ?_
    refine mm_get (v := .ref (ad 29)) hx hb hT hH 29 (by decide) rfl q810 rfl dX4_feed_28 ?_
    refine lv_iconst (v := 1) hx hb dX4_feed_31 (by decide) ?_
    refine lv_iload_n hx hb dX4_feed_32 rfl (lv_at hl 2 rfl) ?_
    refine mm_ist hx hb hT hH 29 (by decide) rfl 1 rfl (show 1 < 5 by omega) dX4_feed_33 (fun H locs hH => ?_)
    refine lv_aload_n hx hb dX4_feed_34 rfl (lv_at hl 0 rfl) ?_
    refine mm_get (v := .ref (ad 29)) hx hb hT hH 29 (by decide) rfl q810 rfl dX4_feed_35 ?_
    refine lv_iconst (v := 2) hx hb dX4_feed_38 (by decide) ?_
    refine lv_iload_n hx hb dX4_feed_39 rfl (lv_at hl 3 rfl) ?_
    refine mm_ist hx hb hT hH 29 (by decide) rfl 2 rfl (show 2 < 5 by omega) dX4_feed_40 (fun H locs hH => ?_)
    refine lv_aload_n hx hb dX4_feed_41 rfl (lv_at hl 0 rfl) ?_
    refine mm_get (v := .ref (ad 29)) hx hb hT hH 29 (by decide) rfl q810 rfl dX4_feed_42 ?_
    refine lv_iconst (v := 3) hx hb dX4_feed_45 (by decide) ?_
    refine lv_iload hx hb dX4_feed_46 (lv_at hl 4 rfl) ?_
    refine mm_ist hx hb hT hH 29 (by decide) rfl 3 rfl (show 3 < 5 by omega) dX4_feed_48 (fun H locs hH => ?_)
    refine lv_aload_n hx hb dX4_feed_49 rfl (lv_at hl 0 rfl) ?_
    refine mm_get (v := .ref (ad 29)) hx hb hT hH 29 (by decide) rfl q810 rfl dX4_feed_50 ?_
    refine lv_iconst (v := 4) hx hb dX4_feed_53 (by decide) ?_
    refine lv_iload hx hb dX4_feed_54 (lv_at hl 5 rfl) ?_
    refine mm_ist hx hb hT hH 29 (by decide) rfl 4 rfl (show 4 < 5 by omega) dX4_feed_56 (fun H locs hH => ?_)
    refine lv_iconst (v := 0) hx hb dX4_feed_57 (by decide) ?_
    refine lv_istore (lv' := [(6, .int 0), (0, .ref (ad 0)), (1, .int a), (2, .int b), (3, .int c1), (4, .int d), (5, .int e1)]) hx hb dX4_feed_58 hl (by decide) rfl (fun ls hl => ?_)
    refine lp_X4_feed (mm_ar (mm_ar (mm_ar (mm_ar (mm_ar (mm_st σ 0 0) 29 0 a) 29 1 b) 29 2 c1) 29 3 d) 29 4 e1) (nT := nT) h24 (by omega) X ?_ 21 0 (by omega) (Nat.zero_le _) _ _ _ hH (lv_sub hl [1, 0] rfl)
    intro H locs ls hH hl
    refine lv_aload_n hx hb dX4_feed_106 rfl (lv_at hl 0 rfl) ?_
    refine lv_dup hx hb dX4_feed_107 rfl ?_
    refine mm_get (v := .int ((pFed (mm_ar (mm_ar (mm_ar (mm_ar (mm_ar (mm_st σ 0 0) 29 0 a) 29 1 b) 29 2 c1) 29 3 d) 29 4 e1) nT (fun j => pByt ((mm_ar (mm_ar (mm_ar (mm_ar (mm_ar (mm_st σ 0 0) 29 0 a) 29 1 b) 29 2 c1) 29 3 d) 29 4 e1).2 29 (j / 4)) (j % 4)) 20).1 24)) hx hb hT hH 24 (by decide) rfl q805 rfl dX4_feed_108 ?_
    refine lv_as ((congrFun (pFed_1 _ _ _ _) _).trans h24) ?_
    refine lv_bipush (v := 20) hx hb dX4_feed_111 (by decide) ?_
    refine lv_iadd hx hb dX4_feed_113 ?_
    refine lv_as (nI_add nT 20) ?_
    refine mm_put hx hb hT hH 24 (by decide) (by decide) rfl rfl q805 rfl dX4_feed_114 (fun H locs hH => ?_)
    refine lv_aload_n hx hb dX4_feed_117 rfl (lv_at hl 0 rfl) ?_
    refine mm_get (v := .int (nI (nT + 20))) hx hb hT hH 24 (by decide) rfl q805 rfl dX4_feed_118 ?_
    exact mm_ri hx hb hr hlocks hT hH rfl dX4_feed_121 (Or.inl ⟨c_15, rfl, rfl⟩)
  · skip
    have c_15 : ¬ ((nT + 20) ≤ 400) := fun h => c_15 ((nI_leI (a := (nT + 20)) (b := 400) (by omega) (by omega)).mpr h)
    refine lv_iconst (v := (-1)) hx hb dX4_feed_18 (by decide) ?_
    exact mm_ri hx hb hr hlocks hT hH rfl dX4_feed_19 (Or.inr ⟨by omega, rfl, rfl⟩)
