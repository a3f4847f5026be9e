/-- two wells too near, the one not deep enough -/
def pClash (σ : mS) (a b : Nat) : Prop := pStep (σ.2 12 a) (σ.2 13 a) (σ.2 12 b) (σ.2 13 b) < σ.2 21 0 ∧ σ.2 14 a < σ.2 14 b + σ.2 21 1
def pMay (σ : mS) (nC : Nat) (nW : Nat → Nat) (k : Nat) : Prop := 2 ≤ nW k ∧ ∀ i, i < nW k → ∀ c, c < nC → ¬ σ.2 6 c = 0 → ∀ j, j < nW c → ¬ pClash σ (20 * k + i) (20 * c + j)

set_option maxHeartbeats 4000000 in
set_option maxRecDepth 100000 in
theorem lp_X4_mayBe1 {p : Program} {l : Launch} {e : Env} {s : State} {m : MethodId} {args : Array Value} {below : List Frame} {meth : Method} {c : Code} {Q : State → Prop} {G : gw_G} {A : Nat → Prop} {H0 : Heap} {ad : Nat → Nat} (σ : mS) (k : Nat) (hk : k < 8) {nC : Nat} (h10 : σ.1 10 = nI nC) (hC : nC ≤ 8) {nW : Nat → Nat} (h5 : ∀ c, c < 8 → σ.2 5 c = nI (nW c)) (hW : ∀ c, c < 8 → nW c ≤ 20) (i : Nat) (hi : i < nW k) (q : Nat) (hq : q < nC) (hd : ¬ σ.2 6 q = 0) (X : gx_X RX4 cX4_mayBe 5 (some .boolean) G p s m args meth c) (K : (∀ (H : Heap) (locs : List Loc) (ls : Array Slot), (∀ z, z < nW q → ¬ pClash σ (20 * k + i) (20 * q + z)) → mm_H G A H0 H locs ad σ → lv_has ls 5 [(0, .ref (ad 0)), (1, .int (nI k)), (2, .int (nI (20 * k + i))), (3, .int (nI q))] → W p l e (mm_rm 3) s m args below meth c H locs 0 0 Q (F0 m 145 ls []))) (K0 : (∀ (H : Heap) (locs : List Loc) (ls : Array Slot), ¬ pMay σ nC nW k → mm_H G A H0 H locs ad σ → lv_has ls 5 [(0, .ref (ad 0))] → W p l e (mm_rm 3) s m args below meth c H locs 0 0 Q (F0 m 137 ls []))) : ∀ (n : Nat) (j : Nat), nW q < j + n → j ≤ nW q → (∀ z, z < j → ¬ pClash σ (20 * k + i) (20 * q + z)) → ∀ (H : Heap) (locs : List Loc) (ls : Array Slot), mm_H G A H0 H locs ad σ → lv_has ls 5 [(0, .ref (ad 0)), (1, .int (nI k)), (2, .int (nI (20 * k + i))), (3, .int (nI q)), (4, .int (nI (20 * q + j)))] → W p l e (mm_rm 3) s m args below meth c H locs 0 0 Q (F0 m 60 ls []) := by
  obtain ⟨hx, hb, hml, hT, hr, hlocks⟩ := id X
  intro n
  induction n with
  | zero =>
    intro j h0 hj hall
    exact absurd h0 (by omega)
  | succ n ih =>
    intro j h0 hj hall H locs ls hH hl
    have hWk := hW k hk
    have hWq := hW q (by omega)
    refine lv_iload hx hb dX4_mayBe_60 (lv_at hl 4 rfl) ?_
    refine lv_bipush (v := 20) hx hb dX4_mayBe_62 (by decide) ?_
    refine lv_iload_n hx hb dX4_mayBe_64 rfl (lv_at hl 3 rfl) ?_
    refine lv_imul hx hb dX4_mayBe_65 ?_
    refine lv_as (pk_mul 20 q) ?_
    refine lv_aload_n hx hb dX4_mayBe_66 rfl (lv_at hl 0 rfl) ?_
    refine mm_get (v := .ref (ad 5)) hx hb hT hH 5 (by decide) rfl q786 rfl dX4_mayBe_67 ?_
    refine lv_iload_n hx hb dX4_mayBe_70 rfl (lv_at hl 3 rfl) ?_
    refine mm_ild (v := σ.2 5 q) hx hb hT hH 5 (by decide) rfl q rfl (show q < 8 by omega) rfl dX4_mayBe_71 ?_
    refine lv_as (h5 q (by omega)) ?_
    refine lv_iadd hx hb dX4_mayBe_72 ?_
    refine lv_as (nI_add (20 * q) (nW q)) ?_
    refine lv_icmp_ge (tgt := 145) hx hb dX4_mayBe_73 (by decide) (fun c_73 => ?_) (fun c_73 => ?_)
    · skip
      have c_73 : ((20 * q) + (nW q)) ≤ (20 * q + j) := (nI_leI (a := ((20 * q) + (nW q))) (b := (20 * q + j)) (by omega) (by omega)).mp c_73
      obtain rfl : nW q = j := by omega
      exact K _ _ _ hall hH (lv_sub hl [0, 1, 2, 3] rfl)
    · skip
      have c_73 : ¬ (((20 * q) + (nW q)) ≤ (20 * q + j)) := fun h => c_73 ((nI_leI (a := ((20 * q) + (nW q))) (b := (20 * q + j)) (by omega) (by omega)).mpr h)
      refine lv_aload_n hx hb dX4_mayBe_76 rfl (lv_at hl 0 rfl) ?_
      refine mm_get (v := .ref (ad 12)) hx hb hT hH 12 (by decide) rfl q793 rfl dX4_mayBe_77 ?_
      refine lv_iload_n hx hb dX4_mayBe_80 rfl (lv_at hl 2 rfl) ?_
      refine mm_ild (v := σ.2 12 (20 * k + i)) hx hb hT hH 12 (by decide) rfl (20 * k + i) rfl (show 20 * k + i < 160 by omega) rfl dX4_mayBe_81 ?_
      refine lv_aload_n hx hb dX4_mayBe_82 rfl (lv_at hl 0 rfl) ?_
      refine mm_get (v := .ref (ad 13)) hx hb hT hH 13 (by decide) rfl q794 rfl dX4_mayBe_83 ?_
      refine lv_iload_n hx hb dX4_mayBe_86 rfl (lv_at hl 2 rfl) ?_
      refine mm_ild (v := σ.2 13 (20 * k + i)) hx hb hT hH 13 (by decide) rfl (20 * k + i) rfl (show 20 * k + i < 160 by omega) rfl dX4_mayBe_87 ?_
      refine lv_aload_n hx hb dX4_mayBe_88 rfl (lv_at hl 0 rfl) ?_
      refine mm_get (v := .ref (ad 12)) hx hb hT hH 12 (by decide) rfl q793 rfl dX4_mayBe_89 ?_
      refine lv_iload hx hb dX4_mayBe_92 (lv_at hl 4 rfl) ?_
      refine mm_ild (v := σ.2 12 (20 * q + j)) hx hb hT hH 12 (by decide) rfl (20 * q + j) rfl (show 20 * q + j < 160 by omega) rfl dX4_mayBe_94 ?_
      refine lv_aload_n hx hb dX4_mayBe_95 rfl (lv_at hl 0 rfl) ?_
      refine mm_get (v := .ref (ad 13)) hx hb hT hH 13 (by decide) rfl q794 rfl dX4_mayBe_96 ?_
      refine lv_iload hx hb dX4_mayBe_99 (lv_at hl 4 rfl) ?_
      refine mm_ild (v := σ.2 13 (20 * q + j)) hx hb hT hH 13 (by decide) rfl (20 * q + j) rfl (show 20 * q + j < 160 by omega) rfl dX4_mayBe_101 ?_
      refine ss_ci (n := 4) (c_X4_steps l (σ.2 12 (20 * k + i)) (σ.2 13 (20 * k + i)) (σ.2 12 (20 * q + j)) (σ.2 13 (20 * q + j))) hx hb hml hT.1 hT.2.1 (lw_S q926 q927 q39 q928) (by decide +kernel) ⟨Nat.le_of_ble_eq_true rfl, Nat.le_of_ble_eq_true rfl⟩ rfl hl.1 rfl (Nat.le_of_ble_eq_true rfl) dX4_mayBe_102 ⟨Nat.le_refl _, Nat.le_refl _⟩ (fun r_102 hp_102 => ?_)
      obtain rfl := hp_102
      refine lv_aload_n hx hb dX4_mayBe_105 rfl (lv_at hl 0 rfl) ?_
      refine mm_get (v := .ref (ad 21)) hx hb hT hH 21 (by decide) rfl q802 rfl dX4_mayBe_106 ?_
      refine lv_iconst (v := 0) hx hb dX4_mayBe_109 (by decide) ?_
      refine mm_ild (v := σ.2 21 0) hx hb hT hH 21 (by decide) rfl 0 rfl (show 0 < 4 by omega) rfl dX4_mayBe_110 ?_
      refine lv_icmp_ge (tgt := 139) hx hb dX4_mayBe_111 (by decide) (fun c_111 => ?_) (fun c_111 => ?_)
      · skip
        refine lv_iinc (v := nI (20 * q + j + 1)) (lv' := [(4, .int (nI (20 * q + j + 1))), (0, .ref (ad 0)), (1, .int (nI k)), (2, .int (nI (20 * k + i))), (3, .int (nI q))]) hx hb dX4_mayBe_139 hl (k := 4) rfl (nI_add (20 * q + j) 1) (by decide) rfl (fun ls hl => ?_)
        refine lv_goto (tgt := 60) hx hb dX4_mayBe_142 (by decide) ?_
        exact ih (j + 1) (by omega) (by omega) (fun z hz => by rcases Nat.lt_or_ge z j with y | y; exact hall z y; rw [show z = j by omega]; exact (fun h => absurd h.1 (Int32.not_lt.mpr c_111))) _ _ _ hH (lv_sub hl [1, 2, 3, 4, 0] rfl)
      · skip
        refine lv_aload_n hx hb dX4_mayBe_114 rfl (lv_at hl 0 rfl) ?_
        refine mm_get (v := .ref (ad 14)) hx hb hT hH 14 (by decide) rfl q795 rfl dX4_mayBe_115 ?_
        refine lv_iload_n hx hb dX4_mayBe_118 rfl (lv_at hl 2 rfl) ?_
        refine mm_ild (v := σ.2 14 (20 * k + i)) hx hb hT hH 14 (by decide) rfl (20 * k + i) rfl (show 20 * k + i < 160 by omega) rfl dX4_mayBe_119 ?_
        refine lv_aload_n hx hb dX4_mayBe_120 rfl (lv_at hl 0 rfl) ?_
        refine mm_get (v := .ref (ad 14)) hx hb hT hH 14 (by decide) rfl q795 rfl dX4_mayBe_121 ?_
        refine lv_iload hx hb dX4_mayBe_124 (lv_at hl 4 rfl) ?_
        refine mm_ild (v := σ.2 14 (20 * q + j)) hx hb hT hH 14 (by decide) rfl (20 * q + j) rfl (show 20 * q + j < 160 by omega) rfl dX4_mayBe_126 ?_
        refine lv_aload_n hx hb dX4_mayBe_127 rfl (lv_at hl 0 rfl) ?_
        refine mm_get (v := .ref (ad 21)) hx hb hT hH 21 (by decide) rfl q802 rfl dX4_mayBe_128 ?_
        refine lv_iconst (v := 1) hx hb dX4_mayBe_131 (by decide) ?_
        refine mm_ild (v := σ.2 21 1) hx hb hT hH 21 (by decide) rfl 1 rfl (show 1 < 4 by omega) rfl dX4_mayBe_132 ?_
        refine lv_iadd hx hb dX4_mayBe_133 ?_
        refine lv_icmp_ge (tgt := 139) hx hb dX4_mayBe_134 (by decide) (fun c_134 => ?_) (fun c_134 => ?_)
        · skip
          refine lv_iinc (v := nI (20 * q + j + 1)) (lv' := [(4, .int (nI (20 * q + j + 1))), (0, .ref (ad 0)), (1, .int (nI k)), (2, .int (nI (20 * k + i))), (3, .int (nI q))]) hx hb dX4_mayBe_139 hl (k := 4) rfl (nI_add (20 * q + j) 1) (by decide) rfl (fun ls hl => ?_)
          refine lv_goto (tgt := 60) hx hb dX4_mayBe_142 (by decide) ?_
          exact ih (j + 1) (by omega) (by omega) (fun z hz => by rcases Nat.lt_or_ge z j with y | y; exact hall z y; rw [show z = j by omega]; exact (fun h => absurd h.2 (Int32.not_lt.mpr c_134))) _ _ _ hH (lv_sub hl [1, 2, 3, 4, 0] rfl)
        · skip
          exact K0 _ _ _ (fun h => h.2 i hi q hq hd j (by omega) ⟨in_lt c_111, in_lt c_134⟩) hH (lv_sub hl [0] rfl)

set_option maxHeartbeats 4000000 in
set_option maxRecDepth 100000 in
theorem lp_X4_mayBe2 {p : Program} {l : Launch} {e : Env} {s : State} {m : MethodId} {args : Array Value} {below : List Frame} {meth : Method} {c : Code} {Q : State → Prop} {G : gw_G} {A : Nat → Prop} {H0 : Heap} {ad : Nat → Nat} (σ : mS) (k : Nat) (hk : k < 8) {nC : Nat} (h10 : σ.1 10 = nI nC) (hC : nC ≤ 8) {nW : Nat → Nat} (h5 : ∀ c, c < 8 → σ.2 5 c = nI (nW c)) (hW : ∀ c, c < 8 → nW c ≤ 20) (i : Nat) (hi : i < nW k) (X : gx_X RX4 cX4_mayBe 5 (some .boolean) G p s m args meth c) (K : (∀ (H : Heap) (locs : List Loc) (ls : Array Slot), (∀ y, y < nC → ¬ σ.2 6 y = 0 → ∀ z, z < nW y → ¬ pClash σ (20 * k + i) (20 * y + z)) → mm_H G A H0 H locs ad σ → lv_has ls 5 [(0, .ref (ad 0)), (1, .int (nI k)), (2, .int (nI (20 * k + i)))] → W p l e (mm_rm 3) s m args below meth c H locs 0 0 Q (F0 m 151 ls []))) (K0 : (∀ (H : Heap) (locs : List Loc) (ls : Array Slot), ¬ pMay σ nC nW k → mm_H G A H0 H locs ad σ → lv_has ls 5 [(0, .ref (ad 0))] → W p l e (mm_rm 3) s m args below meth c H locs 0 0 Q (F0 m 137 ls []))) : ∀ (n : Nat) (q : Nat), nC < q + n → q ≤ nC → (∀ y, y < q → ¬ σ.2 6 y = 0 → ∀ z, z < nW y → ¬ pClash σ (20 * k + i) (20 * y + z)) → ∀ (H : Heap) (locs : List Loc) (ls : Array Slot), mm_H G A H0 H locs ad σ → lv_has ls 5 [(0, .ref (ad 0)), (1, .int (nI k)), (2, .int (nI (20 * k + i))), (3, .int (nI q))] → W p l e (mm_rm 3) s m args below meth c H locs 0 0 Q (F0 m 34 ls []) := by
  obtain ⟨hx, hb, hml, hT, hr, hlocks⟩ := id X
  intro n
  induction n with
  | zero =>
    intro q h0 hq hall
    exact absurd h0 (by omega)
  | succ n ih =>
    intro q h0 hq hall H locs ls hH hl
    have hWk := hW k hk
    refine lv_iload_n hx hb dX4_mayBe_34 rfl (lv_at hl 3 rfl) ?_
    refine lv_aload_n hx hb dX4_mayBe_35 rfl (lv_at hl 0 rfl) ?_
    refine mm_get (v := .int (σ.1 10)) hx hb hT hH 10 (by decide) rfl q791 rfl dX4_mayBe_36 ?_
    refine lv_as h10 ?_
    refine lv_icmp_ge (tgt := 151) hx hb dX4_mayBe_39 (by decide) (fun c_39 => ?_) (fun c_39 => ?_)
    · skip
      have c_39 : nC ≤ q := (nI_leI (a := nC) (b := q) (by omega) (by omega)).mp c_39
      obtain rfl : nC = q := by omega
      exact K _ _ _ hall hH (lv_sub hl [0, 1, 2] rfl)
    · skip
      have c_39 : ¬ (nC ≤ q) := fun h => c_39 ((nI_leI (a := nC) (b := q) (by omega) (by omega)).mpr h)
      refine lv_aload_n hx hb dX4_mayBe_42 rfl (lv_at hl 0 rfl) ?_
      refine mm_get (v := .ref (ad 6)) hx hb hT hH 6 (by decide) rfl q787 rfl dX4_mayBe_43 ?_
      refine lv_iload_n hx hb dX4_mayBe_46 rfl (lv_at hl 3 rfl) ?_
      refine mm_zld (v := σ.2 6 q) hx hb hT hH 6 (by decide) rfl q rfl (show q < 8 by omega) rfl dX4_mayBe_47 ?_
      refine lv_if_ne (tgt := 54) hx hb dX4_mayBe_48 (by decide) (fun c_48 => ?_) (fun c_48 => ?_)
      · skip
        refine lv_bipush (v := 20) hx hb dX4_mayBe_54 (by decide) ?_
        refine lv_iload_n hx hb dX4_mayBe_56 rfl (lv_at hl 3 rfl) ?_
        refine lv_imul hx hb dX4_mayBe_57 ?_
        refine lv_as (pk_mul 20 q) ?_
        refine lv_istore (lv' := [(4, .int (nI (20 * q))), (0, .ref (ad 0)), (1, .int (nI k)), (2, .int (nI (20 * k + i))), (3, .int (nI q))]) hx hb dX4_mayBe_58 hl (by decide) rfl (fun ls hl => ?_)
        refine lp_X4_mayBe1 σ k hk h10 hC h5 hW i hi q (by omega) c_48 X ?_ K0 (nW q + 1) 0 (by omega) (Nat.zero_le _) (fun z hz => absurd hz (Nat.not_lt_zero z)) _ _ _ hH (lv_sub hl [1, 2, 3, 4, 0] rfl)
        intro H locs ls hin hH hl
        refine lv_iinc (v := nI (q + 1)) (lv' := [(3, .int (nI (q + 1))), (0, .ref (ad 0)), (1, .int (nI k)), (2, .int (nI (20 * k + i)))]) hx hb dX4_mayBe_145 hl (k := 3) rfl (nI_add q 1) (by decide) rfl (fun ls hl => ?_)
        refine lv_goto (tgt := 34) hx hb dX4_mayBe_148 (by decide) ?_
        exact ih (q + 1) (by omega) (by omega) (fun y hy => by rcases Nat.lt_or_ge y q with x | x; exact hall y x; rw [show y = q by omega]; exact (fun _ => hin)) _ _ _ hH (lv_sub hl [1, 2, 3, 0] rfl)
      · skip
        refine lv_goto (tgt := 145) hx hb dX4_mayBe_51 (by decide) ?_
        refine lv_iinc (v := nI (q + 1)) (lv' := [(3, .int (nI (q + 1))), (0, .ref (ad 0)), (1, .int (nI k)), (2, .int (nI (20 * k + i)))]) hx hb dX4_mayBe_145 hl (k := 3) rfl (nI_add q 1) (by decide) rfl (fun ls hl => ?_)
        refine lv_goto (tgt := 34) hx hb dX4_mayBe_148 (by decide) ?_
        exact ih (q + 1) (by omega) (by omega) (fun y hy => by rcases Nat.lt_or_ge y q with x | x; exact hall y x; rw [show y = q by omega]; exact (fun h => absurd c_48 h)) _ _ _ hH (lv_sub hl [1, 2, 3, 0] rfl)

set_option maxHeartbeats 4000000 in
set_option maxRecDepth 100000 in
theorem lp_X4_mayBe3 {p : Program} {l : Launch} {e : Env} {s : State} {m : MethodId} {args : Array Value} {below : List Frame} {meth : Method} {c : Code} {Q : State → Prop} {G : gw_G} {A : Nat → Prop} {H0 : Heap} {ad : Nat → Nat} (σ : mS) (k : Nat) (hk : k < 8) {nC : Nat} (h10 : σ.1 10 = nI nC) (hC : nC ≤ 8) {nW : Nat → Nat} (h5 : ∀ c, c < 8 → σ.2 5 c = nI (nW c)) (hW : ∀ c, c < 8 → nW c ≤ 20) (X : gx_X RX4 cX4_mayBe 5 (some .boolean) G p s m args meth c) (K : (∀ (H : Heap) (locs : List Loc) (ls : Array Slot), (∀ x, x < nW k → ∀ y, y < nC → ¬ σ.2 6 y = 0 → ∀ z, z < nW y → ¬ pClash σ (20 * k + x) (20 * y + z)) → mm_H G A H0 H locs ad σ → lv_has ls 5 [(0, .ref (ad 0))] → W p l e (mm_rm 3) s m args below meth c H locs 0 0 Q (F0 m 157 ls []))) (K0 : (∀ (H : Heap) (locs : List Loc) (ls : Array Slot), ¬ pMay σ nC nW k → mm_H G A H0 H locs ad σ → lv_has ls 5 [(0, .ref (ad 0))] → W p l e (mm_rm 3) s m args below meth c H locs 0 0 Q (F0 m 137 ls []))) : ∀ (n : Nat) (i : Nat), nW k < i + n → i ≤ nW k → (∀ x, x < i → ∀ y, y < nC → ¬ σ.2 6 y = 0 → ∀ z, z < nW y → ¬ pClash σ (20 * k + x) (20 * y + z)) → ∀ (H : Heap) (locs : List Loc) (ls : Array Slot), mm_H G A H0 H locs ad σ → lv_has ls 5 [(0, .ref (ad 0)), (1, .int (nI k)), (2, .int (nI (20 * k + i)))] → W p l e (mm_rm 3) s m args below meth c H locs 0 0 Q (F0 m 17 ls []) := by
  obtain ⟨hx, hb, hml, hT, hr, hlocks⟩ := id X
  intro n
  induction n with
  | zero =>
    intro i h0 hi hall
    exact absurd h0 (by omega)
  | succ n ih =>
    intro i h0 hi hall H locs ls hH hl
    have hWk := hW k hk
    refine lv_iload_n hx hb dX4_mayBe_17 rfl (lv_at hl 2 rfl) ?_
    refine lv_bipush (v := 20) hx hb dX4_mayBe_18 (by decide) ?_
    refine lv_iload_n hx hb dX4_mayBe_20 rfl (lv_at hl 1 rfl) ?_
    refine lv_imul hx hb dX4_mayBe_21 ?_
    refine lv_as (pk_mul 20 k) ?_
    refine lv_aload_n hx hb dX4_mayBe_22 rfl (lv_at hl 0 rfl) ?_
    refine mm_get (v := .ref (ad 5)) hx hb hT hH 5 (by decide) rfl q786 rfl dX4_mayBe_23 ?_
    refine lv_iload_n hx hb dX4_mayBe_26 rfl (lv_at hl 1 rfl) ?_
    refine mm_ild (v := σ.2 5 k) hx hb hT hH 5 (by decide) rfl k rfl (show k < 8 by omega) rfl dX4_mayBe_27 ?_
    refine lv_as (h5 k (by omega)) ?_
    refine lv_iadd hx hb dX4_mayBe_28 ?_
    refine lv_as (nI_add (20 * k) (nW k)) ?_
    refine lv_icmp_ge (tgt := 157) hx hb dX4_mayBe_29 (by decide) (fun c_29 => ?_) (fun c_29 => ?_)
    · skip
      have c_29 : ((20 * k) + (nW k)) ≤ (20 * k + i) := (nI_leI (a := ((20 * k) + (nW k))) (b := (20 * k + i)) (by omega) (by omega)).mp c_29
      obtain rfl : nW k = i := by omega
      exact K _ _ _ hall hH (lv_sub hl [0] rfl)
    · skip
      have c_29 : ¬ (((20 * k) + (nW k)) ≤ (20 * k + i)) := fun h => c_29 ((nI_leI (a := ((20 * k) + (nW k))) (b := (20 * k + i)) (by omega) (by omega)).mpr h)
      refine lv_iconst (v := 0) hx hb dX4_mayBe_32 (by decide) ?_
      refine lv_istore_n (lv' := [(3, .int 0), (0, .ref (ad 0)), (1, .int (nI k)), (2, .int (nI (20 * k + i)))]) hx hb dX4_mayBe_33 rfl hl (by decide) rfl (fun ls hl => ?_)
      refine lp_X4_mayBe2 σ k hk h10 hC h5 hW i (by omega) X ?_ K0 (nC + 1) 0 (by omega) (Nat.zero_le _) (fun z hz => absurd hz (Nat.not_lt_zero z)) _ _ _ hH (lv_sub hl [1, 2, 3, 0] rfl)
      intro H locs ls hin hH hl
      refine lv_iinc (v := nI (20 * k + i + 1)) (lv' := [(2, .int (nI (20 * k + i + 1))), (0, .ref (ad 0)), (1, .int (nI k))]) hx hb dX4_mayBe_151 hl (k := 2) rfl (nI_add (20 * k + i) 1) (by decide) rfl (fun ls hl => ?_)
      refine lv_goto (tgt := 17) hx hb dX4_mayBe_154 (by decide) ?_
      exact ih (i + 1) (by omega) (by omega) (fun x hx => by rcases Nat.lt_or_ge x i with y | y; exact hall x y; rw [show x = i by omega]; exact hin) _ _ _ hH (lv_sub hl [1, 2, 0] rfl)

set_option maxHeartbeats 4000000 in
set_option maxRecDepth 100000 in
theorem c_X4_mayBe (l : Launch) (σ : mS) (k : Nat) (hk : k < 8) {nC : Nat} (h10 : σ.1 10 = nI nC) (hC : nC ≤ 8) {nW : Nat → Nat} (h5 : ∀ c, c < 8 → σ.2 5 c = nI (nW c)) (hW : ∀ c, c < 8 → nW c ≤ 20) : mm_Ci l yX4_mayBe cX4_mayBe 5 (some .boolean) 3 [.int (nI k)] σ (fun r u => σ = u ∧ ((1 = r ∧ pMay σ nC nW k) ∨ (0 = r ∧ ¬ pMay σ nC nW k))) := by
  refine mm_ofi (by decide) rfl (Nat.le_of_ble_eq_true rfl) ?_
  intro p e s m args below meth c G A ad ls X hH hl
  obtain ⟨hx, hb, hml, hT, hr, hlocks⟩ := id X
  have hl : lv_has ls 5 [(0, .ref (ad 0)), (1, .int (nI k))] := hl
  have hWk := hW k hk
  refine lv_aload_n hx hb dX4_mayBe_0 rfl (lv_at hl 0 rfl) ?_
  refine mm_get (v := .ref (ad 5)) hx hb hT hH 5 (by decide) rfl q786 rfl dX4_mayBe_1 ?_
  refine lv_iload_n hx hb dX4_mayBe_4 rfl (lv_at hl 1 rfl) ?_
  refine mm_ild (v := σ.2 5 k) hx hb hT hH 5 (by decide) rfl k rfl (show k < 8 by omega) rfl dX4_mayBe_5 ?_
  refine lv_as (h5 k (by omega)) ?_
  refine lv_iconst (v := 2) hx hb dX4_mayBe_6 (by decide) ?_
  refine lv_icmp_ge (tgt := 12) hx hb dX4_mayBe_7 (by decide) (fun c_7 => ?_) (fun c_7 => ?_)
  · skip
    have c_7 : 2 ≤ (nW k) := (nI_leI (a := 2) (b := (nW k)) (by omega) (by omega)).mp c_7
    refine lv_bipush (v := 20) hx hb dX4_mayBe_12 (by decide) ?_
    refine lv_iload_n hx hb dX4_mayBe_14 rfl (lv_at hl 1 rfl) ?_
    refine lv_imul hx hb dX4_mayBe_15 ?_
    refine lv_as (pk_mul 20 k) ?_
    refine lv_istore_n (lv' := [(2, .int (nI (20 * k))), (0, .ref (ad 0)), (1, .int (nI k))]) hx hb dX4_mayBe_16 rfl hl (by decide) rfl (fun ls hl => ?_)
    refine lp_X4_mayBe3 σ k hk h10 hC h5 hW X ?_ ?_ (nW k + 1) 0 (by omega) (Nat.zero_le _) (fun z hz => absurd hz (Nat.not_lt_zero z)) _ _ _ hH (lv_sub hl [1, 2, 0] rfl)
    · intro H locs ls hall hH hl
      refine lv_iconst (v := 1) hx hb dX4_mayBe_157 (by decide) ?_
      exact mm_ri hx hb hr hlocks hT hH rfl dX4_mayBe_158 (⟨rfl, Or.inl ⟨rfl, c_7, hall⟩⟩)
    · intro H locs ls hno hH hl
      refine lv_iconst (v := 0) hx hb dX4_mayBe_137 (by decide) ?_
      exact mm_ri hx hb hr hlocks hT hH rfl dX4_mayBe_138 (⟨rfl, Or.inr ⟨rfl, hno⟩⟩)
  · skip
    have c_7 : ¬ (2 ≤ (nW k)) := fun h => c_7 ((nI_leI (a := 2) (b := (nW k)) (by omega) (by omega)).mpr h)
    refine lv_iconst (v := 0) hx hb dX4_mayBe_10 (by decide) ?_
    exact mm_ri hx hb hr hlocks hT hH rfl dX4_mayBe_11 (⟨rfl, Or.inr ⟨rfl, fun h => c_7 h.1⟩⟩)

set_option maxHeartbeats 4000000 in
set_option maxRecDepth 100000 in
theorem c_X4_may (l : Launch) (σ : mS) (v : Int32) {nC : Nat} {nW : Nat → Nat} (h10 : σ.1 10 = nI nC) (hC : nC ≤ 8) (h5 : ∀ c, c < 8 → σ.2 5 c = nI (nW c)) (hW : ∀ c, c < 8 → nW c ≤ 20) (h6 : ∀ c, c < 8 → σ.2 6 c = 0 ∨ σ.2 6 c = 1) : mm_Ci l yX4_may cX4_may 2 (some .boolean) 4 [.int v] σ (fun r u => ((¬ ∃ k, k < nC ∧ nI k = v) ∧ mm_st (mm_st σ 0 0) 0 1 = u ∧ 0 = r) ∨ ∃ k, k < nC ∧ nI k = v ∧ ((σ.2 6 k = 1 ∧ mm_st (mm_st σ 0 0) 0 2 = u ∧ 0 = r) ∨ (σ.2 6 k = 0 ∧ mm_st σ 0 0 = u ∧ ((1 = r ∧ pMay σ nC nW k) ∨ (0 = r ∧ ¬ pMay σ nC nW k))))) := by
  refine mm_ofi (by decide) rfl (Nat.le_of_ble_eq_true rfl) ?_
  intro p e s m args below meth c G A ad ls X hH hl
  obtain ⟨hx, hb, hml, hT, hr, hlocks⟩ := id X
  have hl : lv_has ls 2 [(0, .ref (ad 0)), (1, .int v)] := hl
  refine lv_aload_n hx hb dX4_may_0 rfl (lv_at hl 0 rfl) ?_
  refine lv_iconst (v := 0) hx hb dX4_may_1 (by decide) ?_
  refine mm_put hx hb hT hH 0 (by decide) (by decide) rfl rfl q781 rfl dX4_may_2 (fun H locs hH => ?_)
  refine lv_aload_n hx hb dX4_may_5 rfl (lv_at hl 0 rfl) ?_
  refine lv_aload_n hx hb dX4_may_6 rfl (lv_at hl 0 rfl) ?_
  refine lv_iload_n hx hb dX4_may_7 rfl (lv_at hl 1 rfl) ?_
  refine mm_cVi (n := 1) (c_X4_noChannel l (mm_st σ 0 0) v (nC := nC) h10 hC) hx hb hml hT hH (lw_V q914 q916 qs14 q39 q917) (by decide +kernel) ⟨Nat.le_of_ble_eq_true rfl, Nat.le_of_ble_eq_true rfl⟩ rfl hl.1 rfl (Nat.le_of_ble_eq_true rfl) dX4_may_8 ⟨Nat.le_refl _, Nat.le_refl _⟩ (fun r_8 u_8 H locs hp_8 hH => ?_)
  obtain ⟨rfl, hp_8⟩ := hp_8
  rcases hp_8 with ⟨rfl, h_8⟩ | ⟨rfl, h_8⟩
  · skip
    refine lv_iconst (v := 1) hx hb dX4_may_11 (by decide) ?_
    refine mm_cVi (n := 2) (c_X4_throwsIf1 l (mm_st σ 0 0) 1) hx hb hml hT hH (lw_V q902 q904 qs13 q39 q905) (by decide +kernel) ⟨Nat.le_of_ble_eq_true rfl, Nat.le_of_ble_eq_true rfl⟩ rfl hl.1 rfl (Nat.le_of_ble_eq_true rfl) dX4_may_12 ⟨Nat.le_refl _, Nat.le_refl _⟩ (fun r_12 u_12 H locs hp_12 hH => ?_)
    obtain ⟨rfl, rfl⟩ := hp_12
    refine lv_if_ne (tgt := 44) hx hb dX4_may_15 (by decide) (fun c_15 => ?_) (fun c_15 => ?_)
    · skip
      refine lv_iconst (v := 0) hx hb dX4_may_44 (by decide) ?_
      exact mm_ri hx hb hr hlocks hT hH rfl dX4_may_45 (Or.inl ⟨h_8, rfl, rfl⟩)
    · skip
      exact absurd c_15 (by decide)
  · skip
    obtain ⟨k, hk, rfl⟩ := h_8
    refine lv_iconst (v := 1) hx hb dX4_may_11 (by decide) ?_
    refine mm_cVi (n := 2) (c_X4_throwsIf0 l (mm_st σ 0 0) 1) hx hb hml hT hH (lw_V q902 q904 qs13 q39 q905) (by decide +kernel) ⟨Nat.le_of_ble_eq_true rfl, Nat.le_of_ble_eq_true rfl⟩ rfl hl.1 rfl (Nat.le_of_ble_eq_true rfl) dX4_may_12 ⟨Nat.le_refl _, Nat.le_refl _⟩ (fun r_12 u_12 H locs hp_12 hH => ?_)
    obtain ⟨rfl, rfl⟩ := hp_12
    refine lv_if_ne (tgt := 44) hx hb dX4_may_15 (by decide) (fun c_15 => ?_) (fun c_15 => ?_)
    · skip
      exact absurd c_15 (by decide)
    · skip
      refine lv_aload_n hx hb dX4_may_18 rfl (lv_at hl 0 rfl) ?_
      refine lv_aload_n hx hb dX4_may_19 rfl (lv_at hl 0 rfl) ?_
      refine mm_get (v := .ref (ad 6)) hx hb hT hH 6 (by decide) rfl q787 rfl dX4_may_20 ?_
      refine lv_iload_n hx hb dX4_may_23 rfl (lv_at hl 1 rfl) ?_
      refine mm_zld (v := σ.2 6 k) hx hb hT hH 6 (by decide) rfl k rfl (show k < 8 by omega) rfl dX4_may_24 ?_
      rcases h6 k (by omega) with k_24 | k_24
      · refine lv_as k_24 ?_
        refine lv_iconst (v := 2) hx hb dX4_may_25 (by decide) ?_
        refine mm_cVi (n := 2) (c_X4_throwsIf0 l (mm_st σ 0 0) 2) hx hb hml hT hH (lw_V q902 q904 qs13 q39 q905) (by decide +kernel) ⟨Nat.le_of_ble_eq_true rfl, Nat.le_of_ble_eq_true rfl⟩ rfl hl.1 rfl (Nat.le_of_ble_eq_true rfl) dX4_may_26 ⟨Nat.le_refl _, Nat.le_refl _⟩ (fun r_26 u_26 H locs hp_26 hH => ?_)
        obtain ⟨rfl, rfl⟩ := hp_26
        refine lv_if_ne (tgt := 44) hx hb dX4_may_29 (by decide) (fun c_29 => ?_) (fun c_29 => ?_)
        · skip
          exact absurd c_29 (by decide)
        · skip
          refine lv_aload_n hx hb dX4_may_32 rfl (lv_at hl 0 rfl) ?_
          refine lv_iload_n hx hb dX4_may_33 rfl (lv_at hl 1 rfl) ?_
          refine mm_cVi (n := 1) (c_X4_mayBe l (mm_st σ 0 0) k (by omega) (nC := nC) (nW := nW) h10 hC h5 hW) hx hb hml hT hH (lw_V q922 q924 qs15 q39 q925) (by decide +kernel) ⟨Nat.le_of_ble_eq_true rfl, Nat.le_of_ble_eq_true rfl⟩ rfl hl.1 rfl (Nat.le_of_ble_eq_true rfl) dX4_may_34 ⟨Nat.le_refl _, Nat.le_refl _⟩ (fun r_34 u_34 H locs hp_34 hH => ?_)
          obtain ⟨rfl, hp_34⟩ := hp_34
          rcases hp_34 with ⟨rfl, h_34⟩ | ⟨rfl, h_34⟩
          · skip
            refine lv_if_eq (tgt := 44) hx hb dX4_may_37 (by decide) (fun c_37 => ?_) (fun c_37 => ?_)
            · skip
              exact absurd c_37 (by decide)
            · skip
              refine lv_iconst (v := 1) hx hb dX4_may_40 (by decide) ?_
              refine lv_goto (tgt := 45) hx hb dX4_may_41 (by decide) ?_
              exact mm_ri hx hb hr hlocks hT hH rfl dX4_may_45 (Or.inr ⟨k, hk, rfl, Or.inr ⟨k_24, rfl, Or.inl ⟨rfl, h_34⟩⟩⟩)
          · skip
            refine lv_if_eq (tgt := 44) hx hb dX4_may_37 (by decide) (fun c_37 => ?_) (fun c_37 => ?_)
            · skip
              refine lv_iconst (v := 0) hx hb dX4_may_44 (by decide) ?_
              exact mm_ri hx hb hr hlocks hT hH rfl dX4_may_45 (Or.inr ⟨k, hk, rfl, Or.inr ⟨k_24, rfl, Or.inr ⟨rfl, h_34⟩⟩⟩)
            · skip
              exact absurd c_37 (by decide)
      · refine lv_as k_24 ?_
        refine lv_iconst (v := 2) hx hb dX4_may_25 (by decide) ?_
        refine mm_cVi (n := 2) (c_X4_throwsIf1 l (mm_st σ 0 0) 2) hx hb hml hT hH (lw_V q902 q904 qs13 q39 q905) (by decide +kernel) ⟨Nat.le_of_ble_eq_true rfl, Nat.le_of_ble_eq_true rfl⟩ rfl hl.1 rfl (Nat.le_of_ble_eq_true rfl) dX4_may_26 ⟨Nat.le_refl _, Nat.le_refl _⟩ (fun r_26 u_26 H locs hp_26 hH => ?_)
        obtain ⟨rfl, rfl⟩ := hp_26
        refine lv_if_ne (tgt := 44) hx hb dX4_may_29 (by decide) (fun c_29 => ?_) (fun c_29 => ?_)
        · skip
          refine lv_iconst (v := 0) hx hb dX4_may_44 (by decide) ?_
          exact mm_ri hx hb hr hlocks hT hH rfl dX4_may_45 (Or.inr ⟨k, hk, rfl, Or.inl ⟨k_24, rfl, rfl⟩⟩)
        · skip
          exact absurd c_29 (by decide)

def pDig (σ : mS) (nD nS k : Nat) (o : Int32) (q : Nat) : mS := pAdds (mm_ar (mm_st (mm_ar (mm_ar (mm_ar σ 6 k 1) 7 k (σ.1 3)) 8 k (nI nD)) 11 (nI (nD + 1))) 9 k (nI (1440 * q))) nS (nI k) 0 (nI (1440 * q)) o

set_option maxHeartbeats 4000000 in
set_option maxRecDepth 100000 in
theorem c_X4_dig (l : Launch) (σ : mS) (v o d : Int32) {nC : Nat} {nW : Nat → Nat} (h10 : σ.1 10 = nI nC) (hC : nC ≤ 8) (h5 : ∀ c, c < 8 → σ.2 5 c = nI (nW c)) (hW : ∀ c, c < 8 → nW c ≤ 20) (h6 : ∀ c, c < 8 → σ.2 6 c = 0 ∨ σ.2 6 c = 1) {nD nS : Nat} (h11 : σ.1 11 = nI nD) (h17 : σ.1 17 = nI nS) (hS : nS ≤ 60) : mm_Ci l yX4_dig cX4_dig 4 (some .int) 4 [.int v, .int o, .int d] σ (fun r u => ((¬ ∃ k, k < nC ∧ nI k = v) ∧ mm_st (mm_st σ 0 0) 0 1 = u ∧ 0 = r) ∨ ∃ k, k < nC ∧ nI k = v ∧ ((σ.2 6 k = 1 ∧ mm_st (mm_st σ 0 0) 0 2 = u ∧ 0 = r) ∨ (σ.2 6 k = 0 ∧ ((¬ ((0 ≤ o ∧ o ≤ 30) ∧ (1 ≤ d ∧ d ≤ 15)) ∧ mm_st (mm_st σ 0 0) 0 3 = u ∧ 0 = r) ∨ (((0 ≤ o ∧ o ≤ 30) ∧ (1 ≤ d ∧ d ≤ 15)) ∧ (¬ pMay σ nC nW k ∨ nS = 60) ∧ mm_st σ 0 0 = u ∧ (-1) = r) ∨ (((0 ≤ o ∧ o ≤ 30) ∧ (1 ≤ d ∧ d ≤ 15)) ∧ pMay σ nC nW k ∧ nS < 60 ∧ ∃ q, (1 ≤ q ∧ q ≤ 15) ∧ nI q = d ∧ pDig (mm_st σ 0 0) nD nS k o q = u ∧ nI nS = r))))) := by
  refine mm_ofi (by decide) rfl (Nat.le_of_ble_eq_true rfl) ?_
  intro p e s m args below meth c G A ad ls X hH hl
  obtain ⟨hx, hb, hml, hT, hr, hlocks⟩ := id X
  have hl : lv_has ls 4 [(0, .ref (ad 0)), (1, .int v), (2, .int o), (3, .int d)] := hl
  refine lv_aload_n hx hb dX4_dig_0 rfl (lv_at hl 0 rfl) ?_
  refine lv_iconst (v := 0) hx hb dX4_dig_1 (by decide) ?_
  refine mm_put hx hb hT hH 0 (by decide) (by decide) rfl rfl q781 rfl dX4_dig_2 (fun H locs hH => ?_)
  refine lv_aload_n hx hb dX4_dig_5 rfl (lv_at hl 0 rfl) ?_
  refine lv_aload_n hx hb dX4_dig_6 rfl (lv_at hl 0 rfl) ?_
  refine lv_iload_n hx hb dX4_dig_7 rfl (lv_at hl 1 rfl) ?_
  refine mm_cVi (n := 1) (c_X4_noChannel l (mm_st σ 0 0) v (nC := nC) h10 hC) hx hb hml hT hH (lw_V q914 q916 qs14 q39 q917) (by decide +kernel) ⟨Nat.le_of_ble_eq_true rfl, Nat.le_of_ble_eq_true rfl⟩ rfl hl.1 rfl (Nat.le_of_ble_eq_true rfl) dX4_dig_8 ⟨Nat.le_refl _, Nat.le_refl _⟩ (fun r_8 u_8 H locs hp_8 hH => ?_)
  obtain ⟨rfl, hp_8⟩ := hp_8
  rcases hp_8 with ⟨rfl, h_8⟩ | ⟨rfl, h_8⟩
  · skip
    refine lv_iconst (v := 1) hx hb dX4_dig_11 (by decide) ?_
    refine mm_cVi (n := 2) (c_X4_throwsIf1 l (mm_st σ 0 0) 1) hx hb hml hT hH (lw_V q902 q904 qs13 q39 q905) (by decide +kernel) ⟨Nat.le_of_ble_eq_true rfl, Nat.le_of_ble_eq_true rfl⟩ rfl hl.1 rfl (Nat.le_of_ble_eq_true rfl) dX4_dig_12 ⟨Nat.le_refl _, Nat.le_refl _⟩ (fun r_12 u_12 H locs hp_12 hH => ?_)
    obtain ⟨rfl, rfl⟩ := hp_12
    refine lv_if_ne (tgt := 65) hx hb dX4_dig_15 (by decide) (fun c_15 => ?_) (fun c_15 => ?_)
    · skip
      refine lv_iconst (v := 0) hx hb dX4_dig_65 (by decide) ?_
      exact mm_ri hx hb hr hlocks hT hH rfl dX4_dig_66 (Or.inl ⟨h_8, rfl, rfl⟩)
    · skip
      exact absurd c_15 (by decide)
  · skip
    obtain ⟨k, hk, rfl⟩ := h_8
    refine lv_iconst (v := 1) hx hb dX4_dig_11 (by decide) ?_
    refine mm_cVi (n := 2) (c_X4_throwsIf0 l (mm_st σ 0 0) 1) hx hb hml hT hH (lw_V q902 q904 qs13 q39 q905) (by decide +kernel) ⟨Nat.le_of_ble_eq_true rfl, Nat.le_of_ble_eq_true rfl⟩ rfl hl.1 rfl (Nat.le_of_ble_eq_true rfl) dX4_dig_12 ⟨Nat.le_refl _, Nat.le_refl _⟩ (fun r_12 u_12 H locs hp_12 hH => ?_)
    obtain ⟨rfl, rfl⟩ := hp_12
    refine lv_if_ne (tgt := 65) hx hb dX4_dig_15 (by decide) (fun c_15 => ?_) (fun c_15 => ?_)
    · skip
      exact absurd c_15 (by decide)
    · skip
      refine lv_aload_n hx hb dX4_dig_18 rfl (lv_at hl 0 rfl) ?_
      refine lv_aload_n hx hb dX4_dig_19 rfl (lv_at hl 0 rfl) ?_
      refine mm_get (v := .ref (ad 6)) hx hb hT hH 6 (by decide) rfl q787 rfl dX4_dig_20 ?_
      refine lv_iload_n hx hb dX4_dig_23 rfl (lv_at hl 1 rfl) ?_
      refine mm_zld (v := σ.2 6 k) hx hb hT hH 6 (by decide) rfl k rfl (show k < 8 by omega) rfl dX4_dig_24 ?_
      rcases h6 k (by omega) with k_24 | k_24
      · refine lv_as k_24 ?_
        refine lv_iconst (v := 2) hx hb dX4_dig_25 (by decide) ?_
        refine mm_cVi (n := 2) (c_X4_throwsIf0 l (mm_st σ 0 0) 2) hx hb hml hT hH (lw_V q902 q904 qs13 q39 q905) (by decide +kernel) ⟨Nat.le_of_ble_eq_true rfl, Nat.le_of_ble_eq_true rfl⟩ rfl hl.1 rfl (Nat.le_of_ble_eq_true rfl) dX4_dig_26 ⟨Nat.le_refl _, Nat.le_refl _⟩ (fun r_26 u_26 H locs hp_26 hH => ?_)
        obtain ⟨rfl, rfl⟩ := hp_26
        refine lv_if_ne (tgt := 65) hx hb dX4_dig_29 (by decide) (fun c_29 => ?_) (fun c_29 => ?_)
        · skip
          exact absurd c_29 (by decide)
        · skip
          refine lv_aload_n hx hb dX4_dig_32 rfl (lv_at hl 0 rfl) ?_
          refine lv_iload_n hx hb dX4_dig_33 rfl (lv_at hl 2 rfl) ?_
          refine lv_iconst (v := 0) hx hb dX4_dig_34 (by decide) ?_
          refine lv_bipush (v := 30) hx hb dX4_dig_35 (by decide) ?_
          refine ss_ci (n := 3) (c_X4_in l o 0 30) hx hb hml hT.1 hT.2.1 (lw_S q899 q900 q39 q901) (by decide +kernel) ⟨Nat.le_of_ble_eq_true rfl, Nat.le_of_ble_eq_true rfl⟩ rfl hl.1 rfl (Nat.le_of_ble_eq_true rfl) dX4_dig_37 ⟨Nat.le_refl _, Nat.le_refl _⟩ (fun r_37 hp_37 => ?_)
          rcases hp_37 with ⟨rfl, h_37⟩ | ⟨rfl, h_37⟩
          · skip
            refine lv_if_eq (tgt := 53) hx hb dX4_dig_40 (by decide) (fun c_40 => ?_) (fun c_40 => ?_)
            · skip
              exact absurd c_40 (by decide)
            · skip
              refine lv_iload_n hx hb dX4_dig_43 rfl (lv_at hl 3 rfl) ?_
              refine lv_iconst (v := 1) hx hb dX4_dig_44 (by decide) ?_
              refine lv_bipush (v := 15) hx hb dX4_dig_45 (by decide) ?_
              refine ss_ci (n := 3) (c_X4_in l d 1 15) hx hb hml hT.1 hT.2.1 (lw_S q899 q900 q39 q901) (by decide +kernel) ⟨Nat.le_of_ble_eq_true rfl, Nat.le_of_ble_eq_true rfl⟩ rfl hl.1 rfl (Nat.le_of_ble_eq_true rfl) dX4_dig_47 ⟨Nat.le_refl _, Nat.le_refl _⟩ (fun r_47 hp_47 => ?_)
              rcases hp_47 with ⟨rfl, h_47⟩ | ⟨rfl, h_47⟩
              · skip
                refine lv_if_ne (tgt := 57) hx hb dX4_dig_50 (by decide) (fun c_50 => ?_) (fun c_50 => ?_)
                · skip
                  refine lv_iconst (v := 0) hx hb dX4_dig_57 (by decide) ?_
                  refine lv_iconst (v := 3) hx hb dX4_dig_58 (by decide) ?_
                  refine mm_cVi (n := 2) (c_X4_throwsIf0 l (mm_st σ 0 0) 3) hx hb hml hT hH (lw_V q902 q904 qs13 q39 q905) (by decide +kernel) ⟨Nat.le_of_ble_eq_true rfl, Nat.le_of_ble_eq_true rfl⟩ rfl hl.1 rfl (Nat.le_of_ble_eq_true rfl) dX4_dig_59 ⟨Nat.le_refl _, Nat.le_refl _⟩ (fun r_59 u_59 H locs hp_59 hH => ?_)
                  obtain ⟨rfl, rfl⟩ := hp_59
                  refine lv_if_eq (tgt := 67) hx hb dX4_dig_62 (by decide) (fun c_62 => ?_) (fun c_62 => ?_)
                  · skip
                    refine lv_aload_n hx hb dX4_dig_67 rfl (lv_at hl 0 rfl) ?_
                    refine lv_iload_n hx hb dX4_dig_68 rfl (lv_at hl 1 rfl) ?_
                    refine mm_cVi (n := 1) (c_X4_mayBe l (mm_st σ 0 0) k (by omega) (nC := nC) (nW := nW) h10 hC h5 hW) hx hb hml hT hH (lw_V q922 q924 qs15 q39 q925) (by decide +kernel) ⟨Nat.le_of_ble_eq_true rfl, Nat.le_of_ble_eq_true rfl⟩ rfl hl.1 rfl (Nat.le_of_ble_eq_true rfl) dX4_dig_69 ⟨Nat.le_refl _, Nat.le_refl _⟩ (fun r_69 u_69 H locs hp_69 hH => ?_)
                    obtain ⟨rfl, hp_69⟩ := hp_69
                    rcases hp_69 with ⟨rfl, h_69⟩ | ⟨rfl, h_69⟩
                    · skip
                      refine lv_if_eq (tgt := 84) hx hb dX4_dig_72 (by decide) (fun c_72 => ?_) (fun c_72 => ?_)
                      · skip
                        exact absurd c_72 (by decide)
                      · skip
                        refine lv_aload_n hx hb dX4_dig_75 rfl (lv_at hl 0 rfl) ?_
                        refine mm_get (v := .int (σ.1 17)) hx hb hT hH 17 (by decide) rfl q798 rfl dX4_dig_76 ?_
                        refine lv_as h17 ?_
                        refine lv_bipush (v := 60) hx hb dX4_dig_79 (by decide) ?_
                        refine lv_icmp_ne (tgt := 86) hx hb dX4_dig_81 (by decide) (fun c_81 => ?_) (fun c_81 => ?_)
                        · skip
                          have c_81 : ¬ (nS = 60) := fun h => c_81 ((nI_eq (a := nS) (b := 60) (by omega) (by omega)).mpr h)
                          obtain ⟨q, hq1, hq2, rfl⟩ := in_rk (a := 1) (b := 15) (by decide) d h_47 (by decide)
                          refine lv_aload_n hx hb dX4_dig_86 rfl (lv_at hl 0 rfl) ?_
                          refine mm_get (v := .ref (ad 6)) hx hb hT hH 6 (by decide) rfl q787 rfl dX4_dig_87 ?_
                          refine lv_iload_n hx hb dX4_dig_90 rfl (lv_at hl 1 rfl) ?_
                          refine lv_iconst (v := 1) hx hb dX4_dig_91 (by decide) ?_
                          refine mm_zst (z := 1) hx hb hT hH 6 (by decide) rfl k rfl (show k < 8 by omega) rfl dX4_dig_92 (fun H locs hH => ?_)
                          refine lv_aload_n hx hb dX4_dig_93 rfl (lv_at hl 0 rfl) ?_
                          refine mm_get (v := .ref (ad 7)) hx hb hT hH 7 (by decide) rfl q788 rfl dX4_dig_94 ?_
                          refine lv_iload_n hx hb dX4_dig_97 rfl (lv_at hl 1 rfl) ?_
                          refine lv_aload_n hx hb dX4_dig_98 rfl (lv_at hl 0 rfl) ?_
                          refine mm_get (v := .int (σ.1 3)) hx hb hT hH 3 (by decide) rfl q784 rfl dX4_dig_99 ?_
                          refine mm_ist hx hb hT hH 7 (by decide) rfl k rfl (show k < 8 by omega) dX4_dig_102 (fun H locs hH => ?_)
                          refine lv_aload_n hx hb dX4_dig_103 rfl (lv_at hl 0 rfl) ?_
                          refine mm_get (v := .ref (ad 8)) hx hb hT hH 8 (by decide) rfl q789 rfl dX4_dig_104 ?_
                          refine lv_iload_n hx hb dX4_dig_107 rfl (lv_at hl 1 rfl) ?_
                          refine lv_aload_n hx hb dX4_dig_108 rfl (lv_at hl 0 rfl) ?_
                          refine mm_get (v := .int (σ.1 11)) hx hb hT hH 11 (by decide) rfl q792 rfl dX4_dig_109 ?_
                          refine lv_as h11 ?_
                          refine mm_ist hx hb hT hH 8 (by decide) rfl k rfl (show k < 8 by omega) dX4_dig_112 (fun H locs hH => ?_)
                          refine lv_aload_n hx hb dX4_dig_113 rfl (lv_at hl 0 rfl) ?_
                          refine lv_dup hx hb dX4_dig_114 rfl ?_
                          refine mm_get (v := .int (σ.1 11)) hx hb hT hH 11 (by decide) rfl q792 rfl dX4_dig_115 ?_
                          refine lv_as h11 ?_
                          refine lv_iconst (v := 1) hx hb dX4_dig_118 (by decide) ?_
                          refine lv_iadd hx hb dX4_dig_119 ?_
                          refine lv_as (nI_add nD 1) ?_
                          refine mm_put hx hb hT hH 11 (by decide) (by decide) rfl rfl q792 rfl dX4_dig_120 (fun H locs hH => ?_)
                          refine lv_aload_n hx hb dX4_dig_123 rfl (lv_at hl 0 rfl) ?_
                          refine mm_get (v := .ref (ad 9)) hx hb hT hH 9 (by decide) rfl q790 rfl dX4_dig_124 ?_
                          refine lv_iload_n hx hb dX4_dig_127 rfl (lv_at hl 1 rfl) ?_
                          refine lv_sipush (v := 1440) hx hb dX4_dig_128 (by decide) ?_
                          refine lv_iload_n hx hb dX4_dig_131 rfl (lv_at hl 3 rfl) ?_
                          refine lv_imul hx hb dX4_dig_132 ?_
                          refine lv_as (pk_mul 1440 q) ?_
                          refine mm_ist hx hb hT hH 9 (by decide) rfl k rfl (show k < 8 by omega) dX4_dig_133 (fun H locs hH => ?_)
                          refine lv_aload_n hx hb dX4_dig_134 rfl (lv_at hl 0 rfl) ?_
                          refine lv_iload_n hx hb dX4_dig_135 rfl (lv_at hl 1 rfl) ?_
                          refine lv_iconst (v := 0) hx hb dX4_dig_136 (by decide) ?_
                          refine lv_aload_n hx hb dX4_dig_137 rfl (lv_at hl 0 rfl) ?_
                          refine mm_get (v := .ref (ad 9)) hx hb hT hH 9 (by decide) rfl q790 rfl dX4_dig_138 ?_
                          refine lv_iload_n hx hb dX4_dig_141 rfl (lv_at hl 1 rfl) ?_
                          refine mm_ild (v := nI (1440 * q)) hx hb hT hH 9 (by decide) rfl k rfl (show k < 8 by omega) (mm_ar_s _ _ _ _) dX4_dig_142 ?_
                          refine lv_iload_n hx hb dX4_dig_143 rfl (lv_at hl 2 rfl) ?_
                          refine mm_cVv (n := 4) (c_X4_adds l (mm_ar (mm_st (mm_ar (mm_ar (mm_ar (mm_st σ 0 0) 6 k 1) 7 k (σ.1 3)) 8 k (nI nD)) 11 (nI (nD + 1))) 9 k (nI (1440 * q))) (nS := nS) h17 (by omega) (nI k) 0 (nI (1440 * q)) o) hx hb hml hT hH (lw_V q935 q937 qs16 q39 q938) (by decide +kernel) ⟨Nat.le_of_ble_eq_true rfl, Nat.le_of_ble_eq_true rfl⟩ rfl hl.1 rfl (Nat.le_of_ble_eq_true rfl) dX4_dig_144 ⟨Nat.le_refl _, Nat.le_refl _⟩ (fun u_144 H locs hp_144 hH => ?_)
                          obtain rfl := hp_144
                          refine lv_aload_n hx hb dX4_dig_147 rfl (lv_at hl 0 rfl) ?_
                          refine mm_get (v := .int ((pAdds (mm_ar (mm_st (mm_ar (mm_ar (mm_ar (mm_st σ 0 0) 6 k 1) 7 k (σ.1 3)) 8 k (nI nD)) 11 (nI (nD + 1))) 9 k (nI (1440 * q))) nS (nI k) 0 (nI (1440 * q)) o).1 17)) hx hb hT hH 17 (by decide) rfl q798 rfl dX4_dig_148 ?_
                          refine lv_iconst (v := 1) hx hb dX4_dig_151 (by decide) ?_
                          refine lv_isub hx hb dX4_dig_152 ?_
                          refine lv_as (nI_pred nS) ?_
                          exact mm_ri hx hb hr hlocks hT hH rfl dX4_dig_153 (Or.inr ⟨k, hk, rfl, Or.inr ⟨k_24, Or.inr (Or.inr ⟨⟨h_37, h_47⟩, h_69, by omega, q, ⟨hq1, hq2⟩, rfl, rfl, rfl⟩)⟩⟩)
                        · skip
                          have c_81 : nS = 60 := (nI_eq (a := nS) (b := 60) (by omega) (by omega)).mp c_81
                          refine lv_iconst (v := (-1)) hx hb dX4_dig_84 (by decide) ?_
                          exact mm_ri hx hb hr hlocks hT hH rfl dX4_dig_85 (Or.inr ⟨k, hk, rfl, Or.inr ⟨k_24, Or.inr (Or.inl ⟨⟨h_37, h_47⟩, Or.inr c_81, rfl, rfl⟩)⟩⟩)
                    · skip
                      refine lv_if_eq (tgt := 84) hx hb dX4_dig_72 (by decide) (fun c_72 => ?_) (fun c_72 => ?_)
                      · skip
                        refine lv_iconst (v := (-1)) hx hb dX4_dig_84 (by decide) ?_
                        exact mm_ri hx hb hr hlocks hT hH rfl dX4_dig_85 (Or.inr ⟨k, hk, rfl, Or.inr ⟨k_24, Or.inr (Or.inl ⟨⟨h_37, h_47⟩, Or.inl h_69, rfl, rfl⟩)⟩⟩)
                      · skip
                        exact absurd c_72 (by decide)
                  · skip
                    exact absurd c_62 (by decide)
                · skip
                  exact absurd c_50 (by decide)
              · skip
                refine lv_if_ne (tgt := 57) hx hb dX4_dig_50 (by decide) (fun c_50 => ?_) (fun c_50 => ?_)
                · skip
                  exact absurd c_50 (by decide)
                · skip
                  refine lv_iconst (v := 1) hx hb dX4_dig_53 (by decide) ?_
                  refine lv_goto (tgt := 58) hx hb dX4_dig_54 (by decide) ?_
                  refine lv_iconst (v := 3) hx hb dX4_dig_58 (by decide) ?_
                  refine mm_cVi (n := 2) (c_X4_throwsIf1 l (mm_st σ 0 0) 3) hx hb hml hT hH (lw_V q902 q904 qs13 q39 q905) (by decide +kernel) ⟨Nat.le_of_ble_eq_true rfl, Nat.le_of_ble_eq_true rfl⟩ rfl hl.1 rfl (Nat.le_of_ble_eq_true rfl) dX4_dig_59 ⟨Nat.le_refl _, Nat.le_refl _⟩ (fun r_59 u_59 H locs hp_59 hH => ?_)
                  obtain ⟨rfl, rfl⟩ := hp_59
                  refine lv_if_eq (tgt := 67) hx hb dX4_dig_62 (by decide) (fun c_62 => ?_) (fun c_62 => ?_)
                  · skip
                    exact absurd c_62 (by decide)
                  · skip
                    refine lv_iconst (v := 0) hx hb dX4_dig_65 (by decide) ?_
                    exact mm_ri hx hb hr hlocks hT hH rfl dX4_dig_66 (Or.inr ⟨k, hk, rfl, Or.inr ⟨k_24, Or.inl ⟨fun g => h_47 g.2, rfl, rfl⟩⟩⟩)
          · skip
            refine lv_if_eq (tgt := 53) hx hb dX4_dig_40 (by decide) (fun c_40 => ?_) (fun c_40 => ?_)
            · skip
              refine lv_iconst (v := 1) hx hb dX4_dig_53 (by decide) ?_
              refine lv_goto (tgt := 58) hx hb dX4_dig_54 (by decide) ?_
              refine lv_iconst (v := 3) hx hb dX4_dig_58 (by decide) ?_
              refine mm_cVi (n := 2) (c_X4_throwsIf1 l (mm_st σ 0 0) 3) hx hb hml hT hH (lw_V q902 q904 qs13 q39 q905) (by decide +kernel) ⟨Nat.le_of_ble_eq_true rfl, Nat.le_of_ble_eq_true rfl⟩ rfl hl.1 rfl (Nat.le_of_ble_eq_true rfl) dX4_dig_59 ⟨Nat.le_refl _, Nat.le_refl _⟩ (fun r_59 u_59 H locs hp_59 hH => ?_)
              obtain ⟨rfl, rfl⟩ := hp_59
              refine lv_if_eq (tgt := 67) hx hb dX4_dig_62 (by decide) (fun c_62 => ?_) (fun c_62 => ?_)
              · skip
                exact absurd c_62 (by decide)
              · skip
                refine lv_iconst (v := 0) hx hb dX4_dig_65 (by decide) ?_
                exact mm_ri hx hb hr hlocks hT hH rfl dX4_dig_66 (Or.inr ⟨k, hk, rfl, Or.inr ⟨k_24, Or.inl ⟨fun g => h_37 g.1, rfl, rfl⟩⟩⟩)
            · skip
              exact absurd c_40 (by decide)
      · refine lv_as k_24 ?_
        refine lv_iconst (v := 2) hx hb dX4_dig_25 (by decide) ?_
        refine mm_cVi (n := 2) (c_X4_throwsIf1 l (mm_st σ 0 0) 2) hx hb hml hT hH (lw_V q902 q904 qs13 q39 q905) (by decide +kernel) ⟨Nat.le_of_ble_eq_true rfl, Nat.le_of_ble_eq_true rfl⟩ rfl hl.1 rfl (Nat.le_of_ble_eq_true rfl) dX4_dig_26 ⟨Nat.le_refl _, Nat.le_refl _⟩ (fun r_26 u_26 H locs hp_26 hH => ?_)
        obtain ⟨rfl, rfl⟩ := hp_26
        refine lv_if_ne (tgt := 65) hx hb dX4_dig_29 (by decide) (fun c_29 => ?_) (fun c_29 => ?_)
        · skip
          refine lv_iconst (v := 0) hx hb dX4_dig_65 (by decide) ?_
          exact mm_ri hx hb hr hlocks hT hH rfl dX4_dig_66 (Or.inr ⟨k, hk, rfl, Or.inl ⟨k_24, rfl, rfl⟩⟩)
        · skip
          exact absurd c_29 (by decide)

set_option maxHeartbeats 4000000 in
set_option maxRecDepth 100000 in
theorem c_X4_flow (l : Launch) (σ : mS) (v : Int32) {nC : Nat} {nW : Nat → Nat} (h10 : σ.1 10 = nI nC) (hC : nC ≤ 8) (h5 : ∀ c, c < 8 → σ.2 5 c = nI (nW c)) (hW : ∀ c, c < 8 → nW c ≤ 20) (h6 : ∀ c, c < 8 → σ.2 6 c = 0 ∨ σ.2 6 c = 1) : mm_Ci l yX4_flow cX4_flow 2 (some .int) 6 [.int v] σ (fun r u => ((¬ ∃ k, k < nC ∧ nI k = v) ∧ mm_st (mm_st σ 0 0) 0 1 = u ∧ 0 = r) ∨ ∃ k, k < nC ∧ nI k = v ∧ ((σ.2 6 k = 0 ∧ mm_st (mm_st σ 0 0) 0 2 = u ∧ 0 = r) ∨ (σ.2 6 k = 1 ∧ mm_st σ 0 0 = u ∧ pFlows σ nC nW k 8 = r))) := by
  refine mm_ofi (by decide) rfl (Nat.le_of_ble_eq_true rfl) ?_
  intro p e s m args below meth c G A ad ls X hH hl
  obtain ⟨hx, hb, hml, hT, hr, hlocks⟩ := id X
  have hl : lv_has ls 2 [(0, .ref (ad 0)), (1, .int v)] := hl
  refine lv_aload_n hx hb dX4_flow_0 rfl (lv_at hl 0 rfl) ?_
  refine lv_iconst (v := 0) hx hb dX4_flow_1 (by decide) ?_
  refine mm_put hx hb hT hH 0 (by decide) (by decide) rfl rfl q781 rfl dX4_flow_2 (fun H locs hH => ?_)
  refine lv_aload_n hx hb dX4_flow_5 rfl (lv_at hl 0 rfl) ?_
  refine lv_aload_n hx hb dX4_flow_6 rfl (lv_at hl 0 rfl) ?_
  refine lv_iload_n hx hb dX4_flow_7 rfl (lv_at hl 1 rfl) ?_
  refine mm_cVi (n := 1) (c_X4_noChannel l (mm_st σ 0 0) v (nC := nC) h10 hC) hx hb hml hT hH (lw_V q914 q916 qs14 q39 q917) (by decide +kernel) ⟨Nat.le_of_ble_eq_true rfl, Nat.le_of_ble_eq_true rfl⟩ rfl hl.1 rfl (Nat.le_of_ble_eq_true rfl) dX4_flow_8 ⟨Nat.le_refl _, Nat.le_refl _⟩ (fun r_8 u_8 H locs hp_8 hH => ?_)
  obtain ⟨rfl, hp_8⟩ := hp_8
  rcases hp_8 with ⟨rfl, h_8⟩ | ⟨rfl, h_8⟩
  · skip
    refine lv_iconst (v := 1) hx hb dX4_flow_11 (by decide) ?_
    refine mm_cVi (n := 2) (c_X4_throwsIf1 l (mm_st σ 0 0) 1) hx hb hml hT hH (lw_V q902 q904 qs13 q39 q905) (by decide +kernel) ⟨Nat.le_of_ble_eq_true rfl, Nat.le_of_ble_eq_true rfl⟩ rfl hl.1 rfl (Nat.le_of_ble_eq_true rfl) dX4_flow_12 ⟨Nat.le_refl _, Nat.le_refl _⟩ (fun r_12 u_12 H locs hp_12 hH => ?_)
    obtain ⟨rfl, rfl⟩ := hp_12
    refine lv_if_ne (tgt := 40) hx hb dX4_flow_15 (by decide) (fun c_15 => ?_) (fun c_15 => ?_)
    · skip
      refine lv_iconst (v := 0) hx hb dX4_flow_40 (by decide) ?_
      refine lv_goto (tgt := 51) hx hb dX4_flow_41 (by decide) ?_
      exact mm_ri hx hb hr hlocks hT hH rfl dX4_flow_51 (Or.inl ⟨h_8, rfl, rfl⟩)
    · skip
      exact absurd c_15 (by decide)
  · skip
    obtain ⟨k, hk, rfl⟩ := h_8
    refine lv_iconst (v := 1) hx hb dX4_flow_11 (by decide) ?_
    refine mm_cVi (n := 2) (c_X4_throwsIf0 l (mm_st σ 0 0) 1) hx hb hml hT hH (lw_V q902 q904 qs13 q39 q905) (by decide +kernel) ⟨Nat.le_of_ble_eq_true rfl, Nat.le_of_ble_eq_true rfl⟩ rfl hl.1 rfl (Nat.le_of_ble_eq_true rfl) dX4_flow_12 ⟨Nat.le_refl _, Nat.le_refl _⟩ (fun r_12 u_12 H locs hp_12 hH => ?_)
    obtain ⟨rfl, rfl⟩ := hp_12
    refine lv_if_ne (tgt := 40) hx hb dX4_flow_15 (by decide) (fun c_15 => ?_) (fun c_15 => ?_)
    · skip
      exact absurd c_15 (by decide)
    · skip
      refine lv_aload_n hx hb dX4_flow_18 rfl (lv_at hl 0 rfl) ?_
      refine lv_aload_n hx hb dX4_flow_19 rfl (lv_at hl 0 rfl) ?_
      refine mm_get (v := .ref (ad 6)) hx hb hT hH 6 (by decide) rfl q787 rfl dX4_flow_20 ?_
      refine lv_iload_n hx hb dX4_flow_23 rfl (lv_at hl 1 rfl) ?_
      refine mm_zld (v := σ.2 6 k) hx hb hT hH 6 (by decide) rfl k rfl (show k < 8 by omega) rfl dX4_flow_24 ?_
      rcases h6 k (by omega) with k_24 | k_24
      · refine lv_as k_24 ?_
        refine lv_if_ne (tgt := 32) hx hb dX4_flow_25 (by decide) (fun c_25 => ?_) (fun c_25 => ?_)
        · skip
          exact absurd c_25 (by decide)
        · skip
          refine lv_iconst (v := 1) hx hb dX4_flow_28 (by decide) ?_
          refine lv_goto (tgt := 33) hx hb dX4_flow_29 (by decide) ?_
          refine lv_iconst (v := 2) hx hb dX4_flow_33 (by decide) ?_
          refine mm_cVi (n := 2) (c_X4_throwsIf1 l (mm_st σ 0 0) 2) hx hb hml hT hH (lw_V q902 q904 qs13 q39 q905) (by decide +kernel) ⟨Nat.le_of_ble_eq_true rfl, Nat.le_of_ble_eq_true rfl⟩ rfl hl.1 rfl (Nat.le_of_ble_eq_true rfl) dX4_flow_34 ⟨Nat.le_refl _, Nat.le_refl _⟩ (fun r_34 u_34 H locs hp_34 hH => ?_)
          obtain ⟨rfl, rfl⟩ := hp_34
          refine lv_if_eq (tgt := 44) hx hb dX4_flow_37 (by decide) (fun c_37 => ?_) (fun c_37 => ?_)
          · skip
            exact absurd c_37 (by decide)
          · skip
            refine lv_iconst (v := 0) hx hb dX4_flow_40 (by decide) ?_
            refine lv_goto (tgt := 51) hx hb dX4_flow_41 (by decide) ?_
            exact mm_ri hx hb hr hlocks hT hH rfl dX4_flow_51 (Or.inr ⟨k, hk, rfl, Or.inl ⟨k_24, rfl, rfl⟩⟩)
      · refine lv_as k_24 ?_
        refine lv_if_ne (tgt := 32) hx hb dX4_flow_25 (by decide) (fun c_25 => ?_) (fun c_25 => ?_)
        · skip
          refine lv_iconst (v := 0) hx hb dX4_flow_32 (by decide) ?_
          refine lv_iconst (v := 2) hx hb dX4_flow_33 (by decide) ?_
          refine mm_cVi (n := 2) (c_X4_throwsIf0 l (mm_st σ 0 0) 2) hx hb hml hT hH (lw_V q902 q904 qs13 q39 q905) (by decide +kernel) ⟨Nat.le_of_ble_eq_true rfl, Nat.le_of_ble_eq_true rfl⟩ rfl hl.1 rfl (Nat.le_of_ble_eq_true rfl) dX4_flow_34 ⟨Nat.le_refl _, Nat.le_refl _⟩ (fun r_34 u_34 H locs hp_34 hH => ?_)
          obtain ⟨rfl, rfl⟩ := hp_34
          refine lv_if_eq (tgt := 44) hx hb dX4_flow_37 (by decide) (fun c_37 => ?_) (fun c_37 => ?_)
          · skip
            refine lv_aload_n hx hb dX4_flow_44 rfl (lv_at hl 0 rfl) ?_
            refine lv_iload_n hx hb dX4_flow_45 rfl (lv_at hl 1 rfl) ?_
            refine lv_bipush (v := 8) hx hb dX4_flow_46 (by decide) ?_
            refine mm_cVi (n := 2) (c_X4_flows l (mm_st σ 0 0) k (by omega) 8 (nC := nC) (nW := nW) h10 hC h5 hW) hx hb hml hT hH (lw_V q959 q961 qs19 q39 q962) (by decide +kernel) ⟨Nat.le_of_ble_eq_true rfl, Nat.le_of_ble_eq_true rfl⟩ rfl hl.1 rfl (Nat.le_of_ble_eq_true rfl) dX4_flow_48 ⟨Nat.le_refl _, Nat.le_refl _⟩ (fun r_48 u_48 H locs hp_48 hH => ?_)
            obtain ⟨rfl, rfl⟩ := hp_48
            exact mm_ri hx hb hr hlocks hT hH rfl dX4_flow_51 (Or.inr ⟨k, hk, rfl, Or.inr ⟨k_24, rfl, rfl⟩⟩)
          · skip
            exact absurd c_37 (by decide)
        · skip
          exact absurd c_25 (by decide)

set_option maxHeartbeats 4000000 in
set_option maxRecDepth 100000 in
theorem c_X4_harm (l : Launch) (σ : mS) (v : Int32) {nC : Nat} {nW : Nat → Nat} (h10 : σ.1 10 = nI nC) (hC : nC ≤ 8) (h5 : ∀ c, c < 8 → σ.2 5 c = nI (nW c)) (hW : ∀ c, c < 8 → nW c ≤ 20) (h6 : ∀ c, c < 8 → σ.2 6 c = 0 ∨ σ.2 6 c = 1) : mm_Ci l yX4_harm cX4_harm 2 (some .int) 6 [.int v] σ (fun r u => ((¬ ∃ k, k < nC ∧ nI k = v) ∧ mm_st (mm_st σ 0 0) 0 1 = u ∧ 0 = r) ∨ ∃ k, k < nC ∧ nI k = v ∧ ((σ.2 6 k = 0 ∧ mm_st (mm_st σ 0 0) 0 2 = u ∧ 0 = r) ∨ (σ.2 6 k = 1 ∧ mm_st σ 0 0 = u ∧ pFlows σ nC nW k (σ.2 8 k) - pFlows σ nC nW k 8 = r))) := by
  refine mm_ofi (by decide) rfl (Nat.le_of_ble_eq_true rfl) ?_
  intro p e s m args below meth c G A ad ls X hH hl
  obtain ⟨hx, hb, hml, hT, hr, hlocks⟩ := id X
  have hl : lv_has ls 2 [(0, .ref (ad 0)), (1, .int v)] := hl
  refine lv_aload_n hx hb dX4_harm_0 rfl (lv_at hl 0 rfl) ?_
  refine lv_iconst (v := 0) hx hb dX4_harm_1 (by decide) ?_
  refine mm_put hx hb hT hH 0 (by decide) (by decide) rfl rfl q781 rfl dX4_harm_2 (fun H locs hH => ?_)
  refine lv_aload_n hx hb dX4_harm_5 rfl (lv_at hl 0 rfl) ?_
  refine lv_aload_n hx hb dX4_harm_6 rfl (lv_at hl 0 rfl) ?_
  refine lv_iload_n hx hb dX4_harm_7 rfl (lv_at hl 1 rfl) ?_
  refine mm_cVi (n := 1) (c_X4_noChannel l (mm_st σ 0 0) v (nC := nC) h10 hC) hx hb hml hT hH (lw_V q914 q916 qs14 q39 q917) (by decide +kernel) ⟨Nat.le_of_ble_eq_true rfl, Nat.le_of_ble_eq_true rfl⟩ rfl hl.1 rfl (Nat.le_of_ble_eq_true rfl) dX4_harm_8 ⟨Nat.le_refl _, Nat.le_refl _⟩ (fun r_8 u_8 H locs hp_8 hH => ?_)
  obtain ⟨rfl, hp_8⟩ := hp_8
  rcases hp_8 with ⟨rfl, h_8⟩ | ⟨rfl, h_8⟩
  · skip
    refine lv_iconst (v := 1) hx hb dX4_harm_11 (by decide) ?_
    refine mm_cVi (n := 2) (c_X4_throwsIf1 l (mm_st σ 0 0) 1) hx hb hml hT hH (lw_V q902 q904 qs13 q39 q905) (by decide +kernel) ⟨Nat.le_of_ble_eq_true rfl, Nat.le_of_ble_eq_true rfl⟩ rfl hl.1 rfl (Nat.le_of_ble_eq_true rfl) dX4_harm_12 ⟨Nat.le_refl _, Nat.le_refl _⟩ (fun r_12 u_12 H locs hp_12 hH => ?_)
    obtain ⟨rfl, rfl⟩ := hp_12
    refine lv_if_ne (tgt := 40) hx hb dX4_harm_15 (by decide) (fun c_15 => ?_) (fun c_15 => ?_)
    · skip
      refine lv_iconst (v := 0) hx hb dX4_harm_40 (by decide) ?_
      refine lv_goto (tgt := 63) hx hb dX4_harm_41 (by decide) ?_
      exact mm_ri hx hb hr hlocks hT hH rfl dX4_harm_63 (Or.inl ⟨h_8, rfl, rfl⟩)
    · skip
      exact absurd c_15 (by decide)
  · skip
    obtain ⟨k, hk, rfl⟩ := h_8
    refine lv_iconst (v := 1) hx hb dX4_harm_11 (by decide) ?_
    refine mm_cVi (n := 2) (c_X4_throwsIf0 l (mm_st σ 0 0) 1) hx hb hml hT hH (lw_V q902 q904 qs13 q39 q905) (by decide +kernel) ⟨Nat.le_of_ble_eq_true rfl, Nat.le_of_ble_eq_true rfl⟩ rfl hl.1 rfl (Nat.le_of_ble_eq_true rfl) dX4_harm_12 ⟨Nat.le_refl _, Nat.le_refl _⟩ (fun r_12 u_12 H locs hp_12 hH => ?_)
    obtain ⟨rfl, rfl⟩ := hp_12
    refine lv_if_ne (tgt := 40) hx hb dX4_harm_15 (by decide) (fun c_15 => ?_) (fun c_15 => ?_)
    · skip
      exact absurd c_15 (by decide)
    · skip
      refine lv_aload_n hx hb dX4_harm_18 rfl (lv_at hl 0 rfl) ?_
      refine lv_aload_n hx hb dX4_harm_19 rfl (lv_at hl 0 rfl) ?_
      refine mm_get (v := .ref (ad 6)) hx hb hT hH 6 (by decide) rfl q787 rfl dX4_harm_20 ?_
      refine lv_iload_n hx hb dX4_harm_23 rfl (lv_at hl 1 rfl) ?_
      refine mm_zld (v := σ.2 6 k) hx hb hT hH 6 (by decide) rfl k rfl (show k < 8 by omega) rfl dX4_harm_24 ?_
      rcases h6 k (by omega) with k_24 | k_24
      · refine lv_as k_24 ?_
        refine lv_if_ne (tgt := 32) hx hb dX4_harm_25 (by decide) (fun c_25 => ?_) (fun c_25 => ?_)
        · skip
          exact absurd c_25 (by decide)
        · skip
          refine lv_iconst (v := 1) hx hb dX4_harm_28 (by decide) ?_
          refine lv_goto (tgt := 33) hx hb dX4_harm_29 (by decide) ?_
          refine lv_iconst (v := 2) hx hb dX4_harm_33 (by decide) ?_
          refine mm_cVi (n := 2) (c_X4_throwsIf1 l (mm_st σ 0 0) 2) hx hb hml hT hH (lw_V q902 q904 qs13 q39 q905) (by decide +kernel) ⟨Nat.le_of_ble_eq_true rfl, Nat.le_of_ble_eq_true rfl⟩ rfl hl.1 rfl (Nat.le_of_ble_eq_true rfl) dX4_harm_34 ⟨Nat.le_refl _, Nat.le_refl _⟩ (fun r_34 u_34 H locs hp_34 hH => ?_)
          obtain ⟨rfl, rfl⟩ := hp_34
          refine lv_if_eq (tgt := 44) hx hb dX4_harm_37 (by decide) (fun c_37 => ?_) (fun c_37 => ?_)
          · skip
            exact absurd c_37 (by decide)
          · skip
            refine lv_iconst (v := 0) hx hb dX4_harm_40 (by decide) ?_
            refine lv_goto (tgt := 63) hx hb dX4_harm_41 (by decide) ?_
            exact mm_ri hx hb hr hlocks hT hH rfl dX4_harm_63 (Or.inr ⟨k, hk, rfl, Or.inl ⟨k_24, rfl, rfl⟩⟩)
      · refine lv_as k_24 ?_
        refine lv_if_ne (tgt := 32) hx hb dX4_harm_25 (by decide) (fun c_25 => ?_) (fun c_25 => ?_)
        · skip
          refine lv_iconst (v := 0) hx hb dX4_harm_32 (by decide) ?_
          refine lv_iconst (v := 2) hx hb dX4_harm_33 (by decide) ?_
          refine mm_cVi (n := 2) (c_X4_throwsIf0 l (mm_st σ 0 0) 2) hx hb hml hT hH (lw_V q902 q904 qs13 q39 q905) (by decide +kernel) ⟨Nat.le_of_ble_eq_true rfl, Nat.le_of_ble_eq_true rfl⟩ rfl hl.1 rfl (Nat.le_of_ble_eq_true rfl) dX4_harm_34 ⟨Nat.le_refl _, Nat.le_refl _⟩ (fun r_34 u_34 H locs hp_34 hH => ?_)
          obtain ⟨rfl, rfl⟩ := hp_34
          refine lv_if_eq (tgt := 44) hx hb dX4_harm_37 (by decide) (fun c_37 => ?_) (fun c_37 => ?_)
          · skip
            refine lv_aload_n hx hb dX4_harm_44 rfl (lv_at hl 0 rfl) ?_
            refine lv_iload_n hx hb dX4_harm_45 rfl (lv_at hl 1 rfl) ?_
            refine lv_aload_n hx hb dX4_harm_46 rfl (lv_at hl 0 rfl) ?_
            refine mm_get (v := .ref (ad 8)) hx hb hT hH 8 (by decide) rfl q789 rfl dX4_harm_47 ?_
            refine lv_iload_n hx hb dX4_harm_50 rfl (lv_at hl 1 rfl) ?_
            refine mm_ild (v := σ.2 8 k) hx hb hT hH 8 (by decide) rfl k rfl (show k < 8 by omega) rfl dX4_harm_51 ?_
            refine mm_cVi (n := 2) (c_X4_flows l (mm_st σ 0 0) k (by omega) (σ.2 8 k) (nC := nC) (nW := nW) h10 hC h5 hW) hx hb hml hT hH (lw_V q959 q961 qs19 q39 q962) (by decide +kernel) ⟨Nat.le_of_ble_eq_true rfl, Nat.le_of_ble_eq_true rfl⟩ rfl hl.1 rfl (Nat.le_of_ble_eq_true rfl) dX4_harm_52 ⟨Nat.le_refl _, Nat.le_refl _⟩ (fun r_52 u_52 H locs hp_52 hH => ?_)
            obtain ⟨rfl, rfl⟩ := hp_52
            refine lv_aload_n hx hb dX4_harm_55 rfl (lv_at hl 0 rfl) ?_
            refine lv_iload_n hx hb dX4_harm_56 rfl (lv_at hl 1 rfl) ?_
            refine lv_bipush (v := 8) hx hb dX4_harm_57 (by decide) ?_
            refine mm_cVi (n := 2) (c_X4_flows l (mm_st σ 0 0) k (by omega) 8 (nC := nC) (nW := nW) h10 hC h5 hW) hx hb hml hT hH (lw_V q959 q961 qs19 q39 q962) (by decide +kernel) ⟨Nat.le_of_ble_eq_true rfl, Nat.le_of_ble_eq_true rfl⟩ rfl hl.1 rfl (Nat.le_of_ble_eq_true rfl) dX4_harm_59 ⟨Nat.le_refl _, Nat.le_refl _⟩ (fun r_59 u_59 H locs hp_59 hH => ?_)
            obtain ⟨rfl, rfl⟩ := hp_59
            refine lv_isub hx hb dX4_harm_62 ?_
            exact mm_ri hx hb hr hlocks hT hH rfl dX4_harm_63 (Or.inr ⟨k, hk, rfl, Or.inr ⟨k_24, rfl, rfl⟩⟩)
          · skip
            exact absurd c_37 (by decide)
        · skip
          exact absurd c_25 (by decide)

set_option maxHeartbeats 4000000 in
set_option maxRecDepth 100000 in
theorem c_X4_seep (l : Launch) (σ : mS) (v z : Int32) {nC : Nat} {nW : Nat → Nat} (h10 : σ.1 10 = nI nC) (hC : nC ≤ 8) (h5 : ∀ c, c < 8 → σ.2 5 c = nI (nW c)) (hW : ∀ c, c < 8 → nW c ≤ 20) (h6 : ∀ c, c < 8 → σ.2 6 c = 0 ∨ σ.2 6 c = 1) : mm_Ci l yX4_seep cX4_seep 3 (some .int) 5 [.int v, .int z] σ (fun r u => ((¬ ∃ k j, (k < nC ∧ j < nW k) ∧ nI k = v ∧ nI j = z) ∧ mm_st (mm_st σ 0 0) 0 1 = u ∧ 0 = r) ∨ ∃ k j, (k < nC ∧ j < nW k) ∧ nI k = v ∧ nI j = z ∧ ((σ.2 6 k = 0 ∧ mm_st (mm_st σ 0 0) 0 2 = u ∧ 0 = r) ∨ (σ.2 6 k = 1 ∧ mm_st σ 0 0 = u ∧ (if j < pRuns (σ.2 15) (20 * k) (nW k) then pSeeps σ nC nW k j 8 else 0) = r))) := by
  refine mm_ofi (by decide) rfl (Nat.le_of_ble_eq_true rfl) ?_
  intro p e s m args below meth c G A ad ls X hH hl
  obtain ⟨hx, hb, hml, hT, hr, hlocks⟩ := id X
  have hl : lv_has ls 3 [(0, .ref (ad 0)), (1, .int v), (2, .int z)] := hl
  refine lv_aload_n hx hb dX4_seep_0 rfl (lv_at hl 0 rfl) ?_
  refine lv_iconst (v := 0) hx hb dX4_seep_1 (by decide) ?_
  refine mm_put hx hb hT hH 0 (by decide) (by decide) rfl rfl q781 rfl dX4_seep_2 (fun H locs hH => ?_)
  refine lv_aload_n hx hb dX4_seep_5 rfl (lv_at hl 0 rfl) ?_
  refine lv_aload_n hx hb dX4_seep_6 rfl (lv_at hl 0 rfl) ?_
  refine lv_iload_n hx hb dX4_seep_7 rfl (lv_at hl 1 rfl) ?_
  refine lv_iload_n hx hb dX4_seep_8 rfl (lv_at hl 2 rfl) ?_
  refine mm_cVi (n := 2) (c_X4_noWell l (mm_st σ 0 0) v z (nC := nC) (nW := nW) h10 hC h5 hW) hx hb hml hT hH (lw_V q951 q953 qs18 q39 q954) (by decide +kernel) ⟨Nat.le_of_ble_eq_true rfl, Nat.le_of_ble_eq_true rfl⟩ rfl hl.1 rfl (Nat.le_of_ble_eq_true rfl) dX4_seep_9 ⟨Nat.le_refl _, Nat.le_refl _⟩ (fun r_9 u_9 H locs hp_9 hH => ?_)
  obtain ⟨rfl, hp_9⟩ := hp_9
  rcases hp_9 with ⟨rfl, h_9⟩ | ⟨rfl, h_9⟩
  · skip
    refine lv_iconst (v := 1) hx hb dX4_seep_12 (by decide) ?_
    refine mm_cVi (n := 2) (c_X4_throwsIf1 l (mm_st σ 0 0) 1) hx hb hml hT hH (lw_V q902 q904 qs13 q39 q905) (by decide +kernel) ⟨Nat.le_of_ble_eq_true rfl, Nat.le_of_ble_eq_true rfl⟩ rfl hl.1 rfl (Nat.le_of_ble_eq_true rfl) dX4_seep_13 ⟨Nat.le_refl _, Nat.le_refl _⟩ (fun r_13 u_13 H locs hp_13 hH => ?_)
    obtain ⟨rfl, rfl⟩ := hp_13
    refine lv_if_ne (tgt := 41) hx hb dX4_seep_16 (by decide) (fun c_16 => ?_) (fun c_16 => ?_)
    · skip
      refine lv_iconst (v := 0) hx hb dX4_seep_41 (by decide) ?_
      exact mm_ri hx hb hr hlocks hT hH rfl dX4_seep_42 (Or.inl ⟨h_9, rfl, rfl⟩)
    · skip
      exact absurd c_16 (by decide)
  · skip
    obtain ⟨k, j, hkj, rfl, rfl⟩ := h_9
    have hWk := hW k (by omega)
    have hR := pRuns_le (σ.2 15) (nW k) (20 * k)
    refine lv_iconst (v := 1) hx hb dX4_seep_12 (by decide) ?_
    refine mm_cVi (n := 2) (c_X4_throwsIf0 l (mm_st σ 0 0) 1) hx hb hml hT hH (lw_V q902 q904 qs13 q39 q905) (by decide +kernel) ⟨Nat.le_of_ble_eq_true rfl, Nat.le_of_ble_eq_true rfl⟩ rfl hl.1 rfl (Nat.le_of_ble_eq_true rfl) dX4_seep_13 ⟨Nat.le_refl _, Nat.le_refl _⟩ (fun r_13 u_13 H locs hp_13 hH => ?_)
    obtain ⟨rfl, rfl⟩ := hp_13
    refine lv_if_ne (tgt := 41) hx hb dX4_seep_16 (by decide) (fun c_16 => ?_) (fun c_16 => ?_)
    · skip
      exact absurd c_16 (by decide)
    · skip
      refine lv_aload_n hx hb dX4_seep_19 rfl (lv_at hl 0 rfl) ?_
      refine lv_aload_n hx hb dX4_seep_20 rfl (lv_at hl 0 rfl) ?_
      refine mm_get (v := .ref (ad 6)) hx hb hT hH 6 (by decide) rfl q787 rfl dX4_seep_21 ?_
      refine lv_iload_n hx hb dX4_seep_24 rfl (lv_at hl 1 rfl) ?_
      refine mm_zld (v := σ.2 6 k) hx hb hT hH 6 (by decide) rfl k rfl (show k < 8 by omega) rfl dX4_seep_25 ?_
      rcases h6 k (by omega) with k_25 | k_25
      · refine lv_as k_25 ?_
        refine lv_if_ne (tgt := 33) hx hb dX4_seep_26 (by decide) (fun c_26 => ?_) (fun c_26 => ?_)
        · skip
          exact absurd c_26 (by decide)
        · skip
          refine lv_iconst (v := 1) hx hb dX4_seep_29 (by decide) ?_
          refine lv_goto (tgt := 34) hx hb dX4_seep_30 (by decide) ?_
          refine lv_iconst (v := 2) hx hb dX4_seep_34 (by decide) ?_
          refine mm_cVi (n := 2) (c_X4_throwsIf1 l (mm_st σ 0 0) 2) hx hb hml hT hH (lw_V q902 q904 qs13 q39 q905) (by decide +kernel) ⟨Nat.le_of_ble_eq_true rfl, Nat.le_of_ble_eq_true rfl⟩ rfl hl.1 rfl (Nat.le_of_ble_eq_true rfl) dX4_seep_35 ⟨Nat.le_refl _, Nat.le_refl _⟩ (fun r_35 u_35 H locs hp_35 hH => ?_)
          obtain ⟨rfl, rfl⟩ := hp_35
          refine lv_if_eq (tgt := 43) hx hb dX4_seep_38 (by decide) (fun c_38 => ?_) (fun c_38 => ?_)
          · skip
            exact absurd c_38 (by decide)
          · skip
            refine lv_iconst (v := 0) hx hb dX4_seep_41 (by decide) ?_
            exact mm_ri hx hb hr hlocks hT hH rfl dX4_seep_42 (Or.inr ⟨k, j, hkj, rfl, rfl, Or.inl ⟨k_25, rfl, rfl⟩⟩)
      · refine lv_as k_25 ?_
        refine lv_if_ne (tgt := 33) hx hb dX4_seep_26 (by decide) (fun c_26 => ?_) (fun c_26 => ?_)
        · skip
          refine lv_iconst (v := 0) hx hb dX4_seep_33 (by decide) ?_
          refine lv_iconst (v := 2) hx hb dX4_seep_34 (by decide) ?_
          refine mm_cVi (n := 2) (c_X4_throwsIf0 l (mm_st σ 0 0) 2) hx hb hml hT hH (lw_V q902 q904 qs13 q39 q905) (by decide +kernel) ⟨Nat.le_of_ble_eq_true rfl, Nat.le_of_ble_eq_true rfl⟩ rfl hl.1 rfl (Nat.le_of_ble_eq_true rfl) dX4_seep_35 ⟨Nat.le_refl _, Nat.le_refl _⟩ (fun r_35 u_35 H locs hp_35 hH => ?_)
          obtain ⟨rfl, rfl⟩ := hp_35
          refine lv_if_eq (tgt := 43) hx hb dX4_seep_38 (by decide) (fun c_38 => ?_) (fun c_38 => ?_)
          · skip
            refine lv_iload_n hx hb dX4_seep_43 rfl (lv_at hl 2 rfl) ?_
            refine lv_aload_n hx hb dX4_seep_44 rfl (lv_at hl 0 rfl) ?_
            refine lv_iload_n hx hb dX4_seep_45 rfl (lv_at hl 1 rfl) ?_
            refine mm_cVi (n := 1) (c_X4_runs l (mm_st σ 0 0) k (by omega) (nW := nW) h5 hW) hx hb hml hT hH (lw_V q963 q965 qs20 q39 q966) (by decide +kernel) ⟨Nat.le_of_ble_eq_true rfl, Nat.le_of_ble_eq_true rfl⟩ rfl hl.1 rfl (Nat.le_of_ble_eq_true rfl) dX4_seep_46 ⟨Nat.le_refl _, Nat.le_refl _⟩ (fun r_46 u_46 H locs hp_46 hH => ?_)
            obtain ⟨rfl, rfl⟩ := hp_46
            refine lv_icmp_ge (tgt := 63) hx hb dX4_seep_49 (by decide) (fun c_49 => ?_) (fun c_49 => ?_)
            · skip
              have c_49 : (pRuns (σ.2 15) (20 * k) (nW k)) ≤ j := (nI_leI (a := (pRuns (σ.2 15) (20 * k) (nW k))) (b := j) (by omega) (by omega)).mp c_49
              refine lv_iconst (v := 0) hx hb dX4_seep_63 (by decide) ?_
              exact mm_ri hx hb hr hlocks hT hH rfl dX4_seep_64 (Or.inr ⟨k, j, hkj, rfl, rfl, Or.inr ⟨k_25, rfl, if_neg (by omega)⟩⟩)
            · skip
              have c_49 : ¬ ((pRuns (σ.2 15) (20 * k) (nW k)) ≤ j) := fun h => c_49 ((nI_leI (a := (pRuns (σ.2 15) (20 * k) (nW k))) (b := j) (by omega) (by omega)).mpr h)
              refine lv_aload_n hx hb dX4_seep_52 rfl (lv_at hl 0 rfl) ?_
              refine lv_iload_n hx hb dX4_seep_53 rfl (lv_at hl 1 rfl) ?_
              refine lv_iload_n hx hb dX4_seep_54 rfl (lv_at hl 2 rfl) ?_
              refine lv_bipush (v := 8) hx hb dX4_seep_55 (by decide) ?_
              refine mm_cVi (n := 3) (c_X4_seeps l (mm_st σ 0 0) k (by omega) j (by omega) 8 (nC := nC) (nW := nW) h10 hC h5 hW) hx hb hml hT hH (lw_V q967 q969 qs21 q39 q970) (by decide +kernel) ⟨Nat.le_of_ble_eq_true rfl, Nat.le_of_ble_eq_true rfl⟩ rfl hl.1 rfl (Nat.le_of_ble_eq_true rfl) dX4_seep_57 ⟨Nat.le_refl _, Nat.le_refl _⟩ (fun r_57 u_57 H locs hp_57 hH => ?_)
              obtain ⟨rfl, rfl⟩ := hp_57
              refine lv_goto (tgt := 64) hx hb dX4_seep_60 (by decide) ?_
              exact mm_ri hx hb hr hlocks hT hH rfl dX4_seep_64 (Or.inr ⟨k, j, hkj, rfl, rfl, Or.inr ⟨k_25, rfl, if_pos (by omega)⟩⟩)
          · skip
            exact absurd c_38 (by decide)
        · skip
          exact absurd c_26 (by decide)
