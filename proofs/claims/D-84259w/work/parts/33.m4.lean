theorem i_am1 (x : Int32) : x + (-1) = x - 1 := by rw [Int32.sub_eq_add_neg]
def pRuns (dn : Nat → Int32) (b : Nat) : Nat → Nat
  | 0 => 0
  | n + 1 => if dn b = 0 then pRuns dn (b + 1) n + 1 else 0
theorem pRuns_le (dn : Nat → Int32) : ∀ (n b : Nat), pRuns dn b n ≤ n
  | 0, _ => Nat.le_refl _
  | n + 1, b => by
    rw [pRuns]
    split
    · have := pRuns_le dn n (b + 1)
      omega
    · omega
theorem pRuns_eq (dn : Nat → Int32) : ∀ (n b i : Nat), i ≤ n → (∀ j, j < i → dn (b + j) = 0) → (i = n ∨ ¬ dn (b + i) = 0) → pRuns dn b n = i
  | 0, b, i, h1, h2, h3 => by
    have : i = 0 := by omega
    subst this
    rfl
  | n + 1, b, i, h1, h2, h3 => by
    rw [pRuns]
    cases i with
    | zero =>
      rcases h3 with h | h
      · omega
      · rw [Nat.add_zero] at h
        rw [if_neg h]
    | succ i =>
      have h20 := h2 0 (by omega)
      rw [Nat.add_zero] at h20
      rw [if_pos h20, pRuns_eq dn n (b + 1) i (by omega) (fun j hj => by rw [show b + 1 + j = b + (j + 1) by omega]; exact h2 (j + 1) (by omega)) (by
        rcases h3 with h | h
        · exact Or.inl (by omega)
        · exact Or.inr (by rw [show b + 1 + i = b + (i + 1) by omega]; exact h))]
def pMax (a b : Int32) : Int32 := if a < b then b else a
def pBest (x y : Int32) (wx wy : Nat → Int32) (b : Nat) : Nat → Int32
  | 0 => 0
  | n + 1 => pMax (pBest x y wx wy b n) (30 - pStep x y (wx (b + n)) (wy (b + n)))
def pAge (d age : Int32) : Int32 := if 5 ≤ age then d else d * age / 5
def pTab (t0 : Int32) (use : Nat → Bool) (dr : Nat → Int32) : Nat → Int32
  | 0 => t0
  | n + 1 => if use n = true then pTab t0 use dr n - dr n else pTab t0 use dr n
def pSeep (tab fl : Int32) : Int32 := if fl < tab then (if (tab - fl) / 10 < 50 then (tab - fl) / 10 else 50) else 0
def pFlow (sp fl : Nat → Int32) : Nat → Int32 → Int32
  | 0, g => g
  | 1, g => g + sp 0
  | n + 2, g => pFlow sp fl (n + 1) (if fl (n + 1) - fl n = 0 ∨ 20 < fl (n + 1) - fl n then (g + sp (n + 1)) - ((g + sp (n + 1)) + 99) / 100 else g + sp (n + 1))
/-- what a channel draws at (x, y) -/
def pDraw (σ : mS) (nW : Nat → Nat) (c : Nat) (x y : Int32) : Int32 := pAge (pBest x y (σ.2 12) (σ.2 13) (20 * c) (pRuns (σ.2 15) (20 * c) (nW c))) (σ.1 3 - σ.2 7 c)
/-- which channels count: dug, another, at most so late -/
def pUse (σ : mS) (c : Nat) (up : Int32) (k : Nat) : Bool := decide (¬ k = c ∧ ¬ σ.2 6 k = 0 ∧ ¬ up < σ.2 8 k)
def pSeeps (σ : mS) (nC : Nat) (nW : Nat → Nat) (c w : Nat) (up : Int32) : Int32 := pSeep (pTab (σ.1 1 + σ.1 2 * σ.2 12 (20 * c + w)) (pUse σ c up) (fun k => pDraw σ nW k (σ.2 12 (20 * c + w)) (σ.2 13 (20 * c + w))) nC) (σ.2 14 (20 * c + w))
def pFlows (σ : mS) (nC : Nat) (nW : Nat → Nat) (c : Nat) (up : Int32) : Int32 := pFlow (fun w => pSeeps σ nC nW c w up) (fun w => σ.2 14 (20 * c + w)) (pRuns (σ.2 15) (20 * c) (nW c)) 0

set_option maxHeartbeats 4000000 in
set_option maxRecDepth 100000 in
theorem lp_X4_runs {p : Program} {l : Launch} {e : Env} {s : State} {m : MethodId} {args : Array Value} {below : List Frame} {meth : Method} {c : Code} {Q : State → Prop} {G : gw_G} {A : Nat → Prop} {H0 : Heap} {ad : Nat → Nat} (σ : mS) (k : Nat) (hk : k < 8) {nW : Nat → Nat} (h5 : ∀ c, c < 8 → σ.2 5 c = nI (nW c)) (hW : ∀ c, c < 8 → nW c ≤ 20) (X : gx_X RX4 cX4_runs 3 (some .int) G p s m args meth c) (K : (∀ (H : Heap) (locs : List Loc) (ls : Array Slot), mm_H G A H0 H locs ad σ → lv_has ls 3 [(0, .ref (ad 0)), (1, .int (nI k)), (2, .int (nI (pRuns (σ.2 15) (20 * k) (nW k))))] → W p l e (mm_rm 1) s m args below meth c H locs 0 0 Q (F0 m 32 ls []))) : ∀ (n : Nat) (i : Nat), nW k < i + n → i ≤ nW k → (∀ j, j < i → σ.2 15 (20 * k + j) = 0) → ∀ (H : Heap) (locs : List Loc) (ls : Array Slot), mm_H G A H0 H locs ad σ → lv_has ls 3 [(0, .ref (ad 0)), (1, .int (nI k)), (2, .int (nI i))] → W p l e (mm_rm 1) s m args below meth c H locs 0 0 Q (F0 m 2 ls []) := by
  obtain ⟨hx, hb, hml, hT, hr, hlocks⟩ := id X
  intro n
  induction n with
  | zero =>
    intro i h0 hi hj
    exact absurd h0 (by omega)
  | succ n ih =>
    intro i h0 hi hj H locs ls hH hl
    have hWk := hW k hk
    refine lv_iload_n hx hb dX4_runs_2 rfl (lv_at hl 2 rfl) ?_
    refine lv_aload_n hx hb dX4_runs_3 rfl (lv_at hl 0 rfl) ?_
    refine mm_get (v := .ref (ad 5)) hx hb hT hH 5 (by decide) rfl q786 rfl dX4_runs_4 ?_
    refine lv_iload_n hx hb dX4_runs_7 rfl (lv_at hl 1 rfl) ?_
    refine mm_ild (v := σ.2 5 k) hx hb hT hH 5 (by decide) rfl k rfl (show k < 8 by omega) rfl dX4_runs_8 ?_
    refine lv_as (h5 k (by omega)) ?_
    refine lv_icmp_ge (tgt := 32) hx hb dX4_runs_9 (by decide) (fun c_9 => ?_) (fun c_9 => ?_)
    · skip
      have c_9 : (nW k) ≤ i := (nI_leI (a := (nW k)) (b := i) (by omega) (by omega)).mp c_9
      obtain rfl : pRuns (σ.2 15) (20 * k) (nW k) = i := pRuns_eq _ _ _ _ hi hj (Or.inl (by omega))
      exact K _ _ _ hH (lv_sub hl [0, 1, 2] rfl)
    · skip
      have c_9 : ¬ ((nW k) ≤ i) := fun h => c_9 ((nI_leI (a := (nW k)) (b := i) (by omega) (by omega)).mpr h)
      refine lv_aload_n hx hb dX4_runs_12 rfl (lv_at hl 0 rfl) ?_
      refine mm_get (v := .ref (ad 15)) hx hb hT hH 15 (by decide) rfl q796 rfl dX4_runs_13 ?_
      refine lv_bipush (v := 20) hx hb dX4_runs_16 (by decide) ?_
      refine lv_iload_n hx hb dX4_runs_18 rfl (lv_at hl 1 rfl) ?_
      refine lv_imul hx hb dX4_runs_19 ?_
      refine lv_as (pk_mul 20 k) ?_
      refine lv_iload_n hx hb dX4_runs_20 rfl (lv_at hl 2 rfl) ?_
      refine lv_iadd hx hb dX4_runs_21 ?_
      refine lv_as (nI_add (20 * k) i) ?_
      refine mm_zld (v := σ.2 15 ((20 * k) + i)) hx hb hT hH 15 (by decide) rfl ((20 * k) + i) rfl (show (20 * k) + i < 160 by omega) rfl dX4_runs_22 ?_
      refine lv_if_ne (tgt := 32) hx hb dX4_runs_23 (by decide) (fun c_23 => ?_) (fun c_23 => ?_)
      · skip
        obtain rfl : pRuns (σ.2 15) (20 * k) (nW k) = i := pRuns_eq _ _ _ _ hi hj (Or.inr c_23)
        exact K _ _ _ hH (lv_sub hl [0, 1, 2] rfl)
      · skip
        refine lv_iinc (v := nI (i + 1)) (lv' := [(2, .int (nI (i + 1))), (0, .ref (ad 0)), (1, .int (nI k))]) hx hb dX4_runs_26 hl (k := 2) rfl (nI_add i 1) (by decide) rfl (fun ls hl => ?_)
        refine lv_goto (tgt := 2) hx hb dX4_runs_29 (by decide) ?_
        exact ih (i + 1) (by omega) (by omega) (fun j hj2 => by rcases Nat.lt_or_ge j i with q | q; exact hj j q; rw [show j = i by omega]; exact c_23) _ _ _ hH (lv_sub hl [1, 2, 0] rfl)

set_option maxHeartbeats 4000000 in
set_option maxRecDepth 100000 in
theorem c_X4_runs (l : Launch) (σ : mS) (k : Nat) (hk : k < 8) {nW : Nat → Nat} (h5 : ∀ c, c < 8 → σ.2 5 c = nI (nW c)) (hW : ∀ c, c < 8 → nW c ≤ 20) : mm_Ci l yX4_runs cX4_runs 3 (some .int) 1 [.int (nI k)] σ (fun r u => σ = u ∧ nI (pRuns (σ.2 15) (20 * k) (nW k)) = r) := by
  refine mm_ofi (by decide) rfl (Nat.le_of_ble_eq_true rfl) ?_
  intro p e s m args below meth c G A ad ls X hH hl
  obtain ⟨hx, hb, hml, hT, hr, hlocks⟩ := id X
  have hl : lv_has ls 3 [(0, .ref (ad 0)), (1, .int (nI k))] := hl
  refine lv_iconst (v := 0) hx hb dX4_runs_0 (by decide) ?_
  refine lv_istore_n (lv' := [(2, .int 0), (0, .ref (ad 0)), (1, .int (nI k))]) hx hb dX4_runs_1 rfl hl (by decide) rfl (fun ls hl => ?_)
  refine lp_X4_runs σ k hk h5 hW X ?_ (nW k + 1) 0 (by omega) (Nat.zero_le _) (fun j hj => absurd hj (Nat.not_lt_zero j)) _ _ _ hH (lv_sub hl [1, 2, 0] rfl)
  intro H locs ls hH hl
  refine lv_iload_n hx hb dX4_runs_32 rfl (lv_at hl 2 rfl) ?_
  exact mm_ri hx hb hr hlocks hT hH rfl dX4_runs_33 (⟨rfl, rfl⟩)

set_option maxHeartbeats 4000000 in
set_option maxRecDepth 100000 in
theorem lp_X4_draw {p : Program} {l : Launch} {e : Env} {s : State} {m : MethodId} {args : Array Value} {below : List Frame} {meth : Method} {c : Code} {Q : State → Prop} {G : gw_G} {A : Nat → Prop} {H0 : Heap} {ad : Nat → Nat} (σ : mS) (k : Nat) (hk : k < 8) (x y : Int32) {nW : Nat → Nat} (h5 : ∀ c, c < 8 → σ.2 5 c = nI (nW c)) (hW : ∀ c, c < 8 → nW c ≤ 20) (X : gx_X RX4 cX4_draw 6 (some .int) G p s m args meth c) (K : (∀ (H : Heap) (locs : List Loc) (ls : Array Slot), mm_H G A H0 H locs ad σ → lv_has ls 6 [(0, .ref (ad 0)), (1, .int (nI k)), (4, .int (pBest x y (σ.2 12) (σ.2 13) (20 * k) (pRuns (σ.2 15) (20 * k) (nW k))))] → W p l e (mm_rm 3) s m args below meth c H locs 0 0 Q (F0 m 59 ls []))) : ∀ (n : Nat) (i : Nat), pRuns (σ.2 15) (20 * k) (nW k) < i + n → i ≤ pRuns (σ.2 15) (20 * k) (nW k) → ∀ (H : Heap) (locs : List Loc) (ls : Array Slot), mm_H G A H0 H locs ad σ → lv_has ls 6 [(0, .ref (ad 0)), (1, .int (nI k)), (2, .int x), (3, .int y), (4, .int (pBest x y (σ.2 12) (σ.2 13) (20 * k) i)), (5, .int (nI (20 * k + i)))] → W p l e (mm_rm 3) s m args below meth c H locs 0 0 Q (F0 m 9 ls []) := by
  obtain ⟨hx, hb, hml, hT, hr, hlocks⟩ := id X
  intro n
  induction n with
  | zero =>
    intro i h0 hi
    exact absurd h0 (by omega)
  | succ n ih =>
    intro i h0 hi H locs ls hH hl
    have hWk := hW k hk
    have hR := pRuns_le (σ.2 15) (nW k) (20 * k)
    refine lv_iload hx hb dX4_draw_9 (lv_at hl 5 rfl) ?_
    refine lv_bipush (v := 20) hx hb dX4_draw_11 (by decide) ?_
    refine lv_iload_n hx hb dX4_draw_13 rfl (lv_at hl 1 rfl) ?_
    refine lv_imul hx hb dX4_draw_14 ?_
    refine lv_as (pk_mul 20 k) ?_
    refine lv_aload_n hx hb dX4_draw_15 rfl (lv_at hl 0 rfl) ?_
    refine lv_iload_n hx hb dX4_draw_16 rfl (lv_at hl 1 rfl) ?_
    refine mm_cVi (n := 1) (c_X4_runs l σ k (by omega) (nW := nW) h5 hW) hx hb hml hT hH (lw_V q963 q965 qs20 q39 q966) (by decide +kernel) ⟨Nat.le_of_ble_eq_true rfl, Nat.le_of_ble_eq_true rfl⟩ rfl hl.1 rfl (Nat.le_of_ble_eq_true rfl) dX4_draw_17 ⟨Nat.le_refl _, Nat.le_refl _⟩ (fun r_17 u_17 H locs hp_17 hH => ?_)
    obtain ⟨rfl, rfl⟩ := hp_17
    refine lv_iadd hx hb dX4_draw_20 ?_
    refine lv_as (nI_add (20 * k) (pRuns (σ.2 15) (20 * k) (nW k))) ?_
    refine lv_icmp_ge (tgt := 59) hx hb dX4_draw_21 (by decide) (fun c_21 => ?_) (fun c_21 => ?_)
    · skip
      have c_21 : ((20 * k) + (pRuns (σ.2 15) (20 * k) (nW k))) ≤ (20 * k + i) := (nI_leI (a := ((20 * k) + (pRuns (σ.2 15) (20 * k) (nW k)))) (b := (20 * k + i)) (by omega) (by omega)).mp c_21
      obtain rfl : pRuns (σ.2 15) (20 * k) (nW k) = i := by omega
      exact K _ _ _ hH (lv_sub hl [0, 1, 4] rfl)
    · skip
      have c_21 : ¬ (((20 * k) + (pRuns (σ.2 15) (20 * k) (nW k))) ≤ (20 * k + i)) := fun h => c_21 ((nI_leI (a := ((20 * k) + (pRuns (σ.2 15) (20 * k) (nW k)))) (b := (20 * k + i)) (by omega) (by omega)).mpr h)
      refine lv_iload hx hb dX4_draw_24 (lv_at hl 4 rfl) ?_
      refine lv_bipush (v := 30) hx hb dX4_draw_26 (by decide) ?_
      refine lv_iload_n hx hb dX4_draw_28 rfl (lv_at hl 2 rfl) ?_
      refine lv_iload_n hx hb dX4_draw_29 rfl (lv_at hl 3 rfl) ?_
      refine lv_aload_n hx hb dX4_draw_30 rfl (lv_at hl 0 rfl) ?_
      refine mm_get (v := .ref (ad 12)) hx hb hT hH 12 (by decide) rfl q793 rfl dX4_draw_31 ?_
      refine lv_iload hx hb dX4_draw_34 (lv_at hl 5 rfl) ?_
      refine mm_ild (v := σ.2 12 (20 * k + i)) hx hb hT hH 12 (by decide) rfl (20 * k + i) rfl (show 20 * k + i < 160 by omega) rfl dX4_draw_36 ?_
      refine lv_aload_n hx hb dX4_draw_37 rfl (lv_at hl 0 rfl) ?_
      refine mm_get (v := .ref (ad 13)) hx hb hT hH 13 (by decide) rfl q794 rfl dX4_draw_38 ?_
      refine lv_iload hx hb dX4_draw_41 (lv_at hl 5 rfl) ?_
      refine mm_ild (v := σ.2 13 (20 * k + i)) hx hb hT hH 13 (by decide) rfl (20 * k + i) rfl (show 20 * k + i < 160 by omega) rfl dX4_draw_43 ?_
      refine ss_ci (n := 4) (c_X4_steps l x y (σ.2 12 (20 * k + i)) (σ.2 13 (20 * k + i))) hx hb hml hT.1 hT.2.1 (lw_S q926 q927 q39 q928) (by decide +kernel) ⟨Nat.le_of_ble_eq_true rfl, Nat.le_of_ble_eq_true rfl⟩ rfl hl.1 rfl (Nat.le_of_ble_eq_true rfl) dX4_draw_44 ⟨Nat.le_refl _, Nat.le_refl _⟩ (fun r_44 hp_44 => ?_)
      obtain rfl := hp_44
      refine lv_isub hx hb dX4_draw_47 ?_
      refine va_mmax hx hb (hml.trans hl.1.symm) hT.1 (hT.2.1 _ q930) (hT.2.1 _ q267) (hT.2.1 _ q48) (hT.2.1 _ q268) (by decide) (Nat.le_of_ble_eq_true rfl) (Nat.zero_le _) (Nat.zero_le _) dX4_draw_48 ?_
      refine lv_as (z := pBest x y (σ.2 12) (σ.2 13) (20 * k) (i + 1)) rfl ?_
      refine lv_istore (lv' := [(4, .int (pBest x y (σ.2 12) (σ.2 13) (20 * k) (i + 1))), (0, .ref (ad 0)), (1, .int (nI k)), (2, .int x), (3, .int y), (5, .int (nI (20 * k + i)))]) hx hb dX4_draw_51 hl (by decide) rfl (fun ls hl => ?_)
      refine lv_iinc (v := nI (20 * k + i + 1)) (lv' := [(5, .int (nI (20 * k + i + 1))), (4, .int (pBest x y (σ.2 12) (σ.2 13) (20 * k) (i + 1))), (0, .ref (ad 0)), (1, .int (nI k)), (2, .int x), (3, .int y)]) hx hb dX4_draw_53 hl (k := 5) rfl (nI_add (20 * k + i) 1) (by decide) rfl (fun ls hl => ?_)
      refine lv_goto (tgt := 9) hx hb dX4_draw_56 (by decide) ?_
      exact ih (i + 1) (by omega) (by omega) _ _ _ hH (lv_sub hl [2, 3, 4, 5, 1, 0] rfl)

set_option maxHeartbeats 4000000 in
set_option maxRecDepth 100000 in
theorem c_X4_draw (l : Launch) (σ : mS) (k : Nat) (hk : k < 8) (x y : Int32) {nW : Nat → Nat} (h5 : ∀ c, c < 8 → σ.2 5 c = nI (nW c)) (hW : ∀ c, c < 8 → nW c ≤ 20) : mm_Ci l yX4_draw cX4_draw 6 (some .int) 3 [.int (nI k), .int x, .int y] σ (fun r u => σ = u ∧ pDraw σ nW k x y = r) := by
  refine mm_ofi (by decide) rfl (Nat.le_of_ble_eq_true rfl) ?_
  intro p e s m args below meth c G A ad ls X hH hl
  obtain ⟨hx, hb, hml, hT, hr, hlocks⟩ := id X
  have hl : lv_has ls 6 [(0, .ref (ad 0)), (1, .int (nI k)), (2, .int x), (3, .int y)] := hl
  refine lv_iconst (v := 0) hx hb dX4_draw_0 (by decide) ?_
  refine lv_istore (lv' := [(4, .int 0), (0, .ref (ad 0)), (1, .int (nI k)), (2, .int x), (3, .int y)]) hx hb dX4_draw_1 hl (by decide) rfl (fun ls hl => ?_)
  refine lv_bipush (v := 20) hx hb dX4_draw_3 (by decide) ?_
  refine lv_iload_n hx hb dX4_draw_5 rfl (lv_at hl 2 rfl) ?_
  refine lv_imul hx hb dX4_draw_6 ?_
  refine lv_as (pk_mul 20 k) ?_
  refine lv_istore (lv' := [(5, .int (nI (20 * k))), (4, .int 0), (0, .ref (ad 0)), (1, .int (nI k)), (2, .int x), (3, .int y)]) hx hb dX4_draw_7 hl (by decide) rfl (fun ls hl => ?_)
  refine lp_X4_draw σ k hk x y h5 hW X ?_ (pRuns (σ.2 15) (20 * k) (nW k) + 1) 0 (by omega) (Nat.zero_le _) _ _ _ hH (lv_sub hl [2, 3, 4, 5, 1, 0] rfl)
  intro H locs ls hH hl
  refine lv_aload_n hx hb dX4_draw_59 rfl (lv_at hl 0 rfl) ?_
  refine mm_get (v := .int (σ.1 3)) hx hb hT hH 3 (by decide) rfl q784 rfl dX4_draw_60 ?_
  refine lv_aload_n hx hb dX4_draw_63 rfl (lv_at hl 0 rfl) ?_
  refine mm_get (v := .ref (ad 7)) hx hb hT hH 7 (by decide) rfl q788 rfl dX4_draw_64 ?_
  refine lv_iload_n hx hb dX4_draw_67 rfl (lv_at hl 1 rfl) ?_
  refine mm_ild (v := σ.2 7 k) hx hb hT hH 7 (by decide) rfl k rfl (show k < 8 by omega) rfl dX4_draw_68 ?_
  refine lv_isub hx hb dX4_draw_69 ?_
  refine lv_istore (lv' := [(5, .int ((σ.1 3) - (σ.2 7 k))), (0, .ref (ad 0)), (1, .int (nI k)), (4, .int (pBest x y (σ.2 12) (σ.2 13) (20 * k) (pRuns (σ.2 15) (20 * k) (nW k))))]) hx hb dX4_draw_70 hl (by decide) rfl (fun ls hl => ?_)
  refine lv_iload hx hb dX4_draw_72 (lv_at hl 0 rfl) ?_
  refine lv_iconst (v := 5) hx hb dX4_draw_74 (by decide) ?_
  refine lv_icmp_ge (tgt := 88) hx hb dX4_draw_75 (by decide) (fun c_75 => ?_) (fun c_75 => ?_)
  · skip
    refine lv_iload hx hb dX4_draw_88 (lv_at hl 3 rfl) ?_
    exact mm_ri hx hb hr hlocks hT hH rfl dX4_draw_90 (⟨rfl, if_pos c_75⟩)
  · skip
    refine lv_iload hx hb dX4_draw_78 (lv_at hl 3 rfl) ?_
    refine lv_iload hx hb dX4_draw_80 (lv_at hl 0 rfl) ?_
    refine lv_imul hx hb dX4_draw_82 ?_
    refine lv_iconst (v := 5) hx hb dX4_draw_83 (by decide) ?_
    refine lv_idiv hx hb dX4_draw_84 (by decide : ¬ (5 : Int32) = 0) ?_
    refine lv_goto (tgt := 90) hx hb dX4_draw_85 (by decide) ?_
    exact mm_ri hx hb hr hlocks hT hH rfl dX4_draw_90 (⟨rfl, if_neg c_75⟩)

set_option maxHeartbeats 4000000 in
set_option maxRecDepth 100000 in
theorem lp_X4_seeps {p : Program} {l : Launch} {e : Env} {s : State} {m : MethodId} {args : Array Value} {below : List Frame} {meth : Method} {c : Code} {Q : State → Prop} {G : gw_G} {A : Nat → Prop} {H0 : Heap} {ad : Nat → Nat} (σ : mS) (k : Nat) (hk : k < 8) (w : Nat) (hw : w < 20) (up : Int32) {nC : Nat} (h10 : σ.1 10 = nI nC) (hC : nC ≤ 8) {nW : Nat → Nat} (h5 : ∀ c, c < 8 → σ.2 5 c = nI (nW c)) (hW : ∀ c, c < 8 → nW c ≤ 20) (X : gx_X RX4 cX4_seeps 7 (some .int) G p s m args meth c) (K : (∀ (H : Heap) (locs : List Loc) (ls : Array Slot), mm_H G A H0 H locs ad σ → lv_has ls 7 [(0, .ref (ad 0)), (1, .int (nI k)), (3, .int up), (4, .int (nI (20 * k + w))), (5, .int (pTab (σ.1 1 + σ.1 2 * σ.2 12 (20 * k + w)) (pUse σ k up) (fun q => pDraw σ nW q (σ.2 12 (20 * k + w)) (σ.2 13 (20 * k + w))) nC)), (6, .int (nI nC))] → W p l e (mm_rm 4) s m args below meth c H locs 0 0 Q (F0 m 97 ls []))) : ∀ (n : Nat) (i : Nat), nC < i + n → i ≤ nC → ∀ (H : Heap) (locs : List Loc) (ls : Array Slot), mm_H G A H0 H locs ad σ → lv_has ls 7 [(0, .ref (ad 0)), (1, .int (nI k)), (3, .int up), (4, .int (nI (20 * k + w))), (5, .int (pTab (σ.1 1 + σ.1 2 * σ.2 12 (20 * k + w)) (pUse σ k up) (fun q => pDraw σ nW q (σ.2 12 (20 * k + w)) (σ.2 13 (20 * k + w))) i)), (6, .int (nI i))] → W p l e (mm_rm 4) s m args below meth c H locs 0 0 Q (F0 m 30 ls []) := by
  obtain ⟨hx, hb, hml, hT, hr, hlocks⟩ := id X
  intro n
  induction n with
  | zero =>
    intro i h0 hi
    exact absurd h0 (by omega)
  | succ n ih =>
    intro i h0 hi H locs ls hH hl
    refine lv_iload hx hb dX4_seeps_30 (lv_at hl 5 rfl) ?_
    refine lv_aload_n hx hb dX4_seeps_32 rfl (lv_at hl 0 rfl) ?_
    refine mm_get (v := .int (σ.1 10)) hx hb hT hH 10 (by decide) rfl q791 rfl dX4_seeps_33 ?_
    refine lv_as h10 ?_
    refine lv_icmp_ge (tgt := 97) hx hb dX4_seeps_36 (by decide) (fun c_36 => ?_) (fun c_36 => ?_)
    · skip
      have c_36 : nC ≤ i := (nI_leI (a := nC) (b := i) (by omega) (by omega)).mp c_36
      obtain rfl : nC = i := by omega
      exact K _ _ _ hH (lv_sub hl [0, 1, 2, 3, 4, 5] rfl)
    · skip
      have c_36 : ¬ (nC ≤ i) := fun h => c_36 ((nI_leI (a := nC) (b := i) (by omega) (by omega)).mpr h)
      refine lv_iload hx hb dX4_seeps_39 (lv_at hl 5 rfl) ?_
      refine lv_iload_n hx hb dX4_seeps_41 rfl (lv_at hl 1 rfl) ?_
      refine lv_icmp_eq (tgt := 91) hx hb dX4_seeps_42 (by decide) (fun c_42 => ?_) (fun c_42 => ?_)
      · skip
        have c_42 : i = k := (nI_eq (a := i) (b := k) (by omega) (by omega)).mp c_42
        refine lv_iinc (v := nI (i + 1)) (lv' := [(6, .int (nI (i + 1))), (0, .ref (ad 0)), (1, .int (nI k)), (3, .int up), (4, .int (nI (20 * k + w))), (5, .int (pTab (σ.1 1 + σ.1 2 * σ.2 12 (20 * k + w)) (pUse σ k up) (fun q => pDraw σ nW q (σ.2 12 (20 * k + w)) (σ.2 13 (20 * k + w))) i))]) hx hb dX4_seeps_91 hl (k := 5) rfl (nI_add i 1) (by decide) rfl (fun ls hl => ?_)
        refine lv_goto (tgt := 30) hx hb dX4_seeps_94 (by decide) ?_
        have hl := (lv_sub (l' := [(0, .ref (ad 0)), (1, .int (nI k)), (3, .int up), (4, .int (nI (20 * k + w))), (5, .int (pTab (σ.1 1 + σ.1 2 * σ.2 12 (20 * k + w)) (pUse σ k up) (fun q => pDraw σ nW q (σ.2 12 (20 * k + w)) (σ.2 13 (20 * k + w))) i)), (6, .int (nI (i + 1)))]) hl [1, 2, 3, 4, 5, 0] rfl)
        rw [show pTab (σ.1 1 + σ.1 2 * σ.2 12 (20 * k + w)) (pUse σ k up) (fun q => pDraw σ nW q (σ.2 12 (20 * k + w)) (σ.2 13 (20 * k + w))) i = pTab (σ.1 1 + σ.1 2 * σ.2 12 (20 * k + w)) (pUse σ k up) (fun q => pDraw σ nW q (σ.2 12 (20 * k + w)) (σ.2 13 (20 * k + w))) (i + 1) from (by rw [pTab, if_neg (show ¬ pUse σ k up i = true from fun h => (of_decide_eq_true (p := ¬ i = k ∧ ¬ σ.2 6 i = 0 ∧ ¬ up < σ.2 8 i) h).1 c_42)])] at hl
        exact ih (i + 1) (by omega) (by omega) _ _ _ hH hl
      · skip
        have c_42 : ¬ (i = k) := fun h => c_42 ((nI_eq (a := i) (b := k) (by omega) (by omega)).mpr h)
        refine lv_aload_n hx hb dX4_seeps_45 rfl (lv_at hl 0 rfl) ?_
        refine mm_get (v := .ref (ad 6)) hx hb hT hH 6 (by decide) rfl q787 rfl dX4_seeps_46 ?_
        refine lv_iload hx hb dX4_seeps_49 (lv_at hl 5 rfl) ?_
        refine mm_zld (v := σ.2 6 i) hx hb hT hH 6 (by decide) rfl i rfl (show i < 8 by omega) rfl dX4_seeps_51 ?_
        refine lv_if_eq (tgt := 91) hx hb dX4_seeps_52 (by decide) (fun c_52 => ?_) (fun c_52 => ?_)
        · skip
          refine lv_iinc (v := nI (i + 1)) (lv' := [(6, .int (nI (i + 1))), (0, .ref (ad 0)), (1, .int (nI k)), (3, .int up), (4, .int (nI (20 * k + w))), (5, .int (pTab (σ.1 1 + σ.1 2 * σ.2 12 (20 * k + w)) (pUse σ k up) (fun q => pDraw σ nW q (σ.2 12 (20 * k + w)) (σ.2 13 (20 * k + w))) i))]) hx hb dX4_seeps_91 hl (k := 5) rfl (nI_add i 1) (by decide) rfl (fun ls hl => ?_)
          refine lv_goto (tgt := 30) hx hb dX4_seeps_94 (by decide) ?_
          have hl := (lv_sub (l' := [(0, .ref (ad 0)), (1, .int (nI k)), (3, .int up), (4, .int (nI (20 * k + w))), (5, .int (pTab (σ.1 1 + σ.1 2 * σ.2 12 (20 * k + w)) (pUse σ k up) (fun q => pDraw σ nW q (σ.2 12 (20 * k + w)) (σ.2 13 (20 * k + w))) i)), (6, .int (nI (i + 1)))]) hl [1, 2, 3, 4, 5, 0] rfl)
          rw [show pTab (σ.1 1 + σ.1 2 * σ.2 12 (20 * k + w)) (pUse σ k up) (fun q => pDraw σ nW q (σ.2 12 (20 * k + w)) (σ.2 13 (20 * k + w))) i = pTab (σ.1 1 + σ.1 2 * σ.2 12 (20 * k + w)) (pUse σ k up) (fun q => pDraw σ nW q (σ.2 12 (20 * k + w)) (σ.2 13 (20 * k + w))) (i + 1) from (by rw [pTab, if_neg (show ¬ pUse σ k up i = true from fun h => (of_decide_eq_true (p := ¬ i = k ∧ ¬ σ.2 6 i = 0 ∧ ¬ up < σ.2 8 i) h).2.1 c_52)])] at hl
          exact ih (i + 1) (by omega) (by omega) _ _ _ hH hl
        · skip
          refine lv_aload_n hx hb dX4_seeps_55 rfl (lv_at hl 0 rfl) ?_
          refine mm_get (v := .ref (ad 8)) hx hb hT hH 8 (by decide) rfl q789 rfl dX4_seeps_56 ?_
          refine lv_iload hx hb dX4_seeps_59 (lv_at hl 5 rfl) ?_
          refine mm_ild (v := σ.2 8 i) hx hb hT hH 8 (by decide) rfl i rfl (show i < 8 by omega) rfl dX4_seeps_61 ?_
          refine lv_iload_n hx hb dX4_seeps_62 rfl (lv_at hl 2 rfl) ?_
          refine lv_icmp_gt (tgt := 91) hx hb dX4_seeps_63 (by decide) (fun c_63 => ?_) (fun c_63 => ?_)
          · skip
            refine lv_iinc (v := nI (i + 1)) (lv' := [(6, .int (nI (i + 1))), (0, .ref (ad 0)), (1, .int (nI k)), (3, .int up), (4, .int (nI (20 * k + w))), (5, .int (pTab (σ.1 1 + σ.1 2 * σ.2 12 (20 * k + w)) (pUse σ k up) (fun q => pDraw σ nW q (σ.2 12 (20 * k + w)) (σ.2 13 (20 * k + w))) i))]) hx hb dX4_seeps_91 hl (k := 5) rfl (nI_add i 1) (by decide) rfl (fun ls hl => ?_)
            refine lv_goto (tgt := 30) hx hb dX4_seeps_94 (by decide) ?_
            have hl := (lv_sub (l' := [(0, .ref (ad 0)), (1, .int (nI k)), (3, .int up), (4, .int (nI (20 * k + w))), (5, .int (pTab (σ.1 1 + σ.1 2 * σ.2 12 (20 * k + w)) (pUse σ k up) (fun q => pDraw σ nW q (σ.2 12 (20 * k + w)) (σ.2 13 (20 * k + w))) i)), (6, .int (nI (i + 1)))]) hl [1, 2, 3, 4, 5, 0] rfl)
            rw [show pTab (σ.1 1 + σ.1 2 * σ.2 12 (20 * k + w)) (pUse σ k up) (fun q => pDraw σ nW q (σ.2 12 (20 * k + w)) (σ.2 13 (20 * k + w))) i = pTab (σ.1 1 + σ.1 2 * σ.2 12 (20 * k + w)) (pUse σ k up) (fun q => pDraw σ nW q (σ.2 12 (20 * k + w)) (σ.2 13 (20 * k + w))) (i + 1) from (by rw [pTab, if_neg (show ¬ pUse σ k up i = true from fun h => (of_decide_eq_true (p := ¬ i = k ∧ ¬ σ.2 6 i = 0 ∧ ¬ up < σ.2 8 i) h).2.2 c_63)])] at hl
            exact ih (i + 1) (by omega) (by omega) _ _ _ hH hl
          · skip
            refine lv_iload hx hb dX4_seeps_66 (lv_at hl 4 rfl) ?_
            refine lv_aload_n hx hb dX4_seeps_68 rfl (lv_at hl 0 rfl) ?_
            refine lv_iload hx hb dX4_seeps_69 (lv_at hl 5 rfl) ?_
            refine lv_aload_n hx hb dX4_seeps_71 rfl (lv_at hl 0 rfl) ?_
            refine mm_get (v := .ref (ad 12)) hx hb hT hH 12 (by decide) rfl q793 rfl dX4_seeps_72 ?_
            refine lv_iload hx hb dX4_seeps_75 (lv_at hl 3 rfl) ?_
            refine mm_ild (v := σ.2 12 (20 * k + w)) hx hb hT hH 12 (by decide) rfl (20 * k + w) rfl (show 20 * k + w < 160 by omega) rfl dX4_seeps_77 ?_
            refine lv_aload_n hx hb dX4_seeps_78 rfl (lv_at hl 0 rfl) ?_
            refine mm_get (v := .ref (ad 13)) hx hb hT hH 13 (by decide) rfl q794 rfl dX4_seeps_79 ?_
            refine lv_iload hx hb dX4_seeps_82 (lv_at hl 3 rfl) ?_
            refine mm_ild (v := σ.2 13 (20 * k + w)) hx hb hT hH 13 (by decide) rfl (20 * k + w) rfl (show 20 * k + w < 160 by omega) rfl dX4_seeps_84 ?_
            refine mm_cVi (n := 3) (c_X4_draw l σ i (by omega) (σ.2 12 (20 * k + w)) (σ.2 13 (20 * k + w)) (nW := nW) h5 hW) hx hb hml hT hH (lw_V q971 q973 qs22 q39 q974) (by decide +kernel) ⟨Nat.le_of_ble_eq_true rfl, Nat.le_of_ble_eq_true rfl⟩ rfl hl.1 rfl (Nat.le_of_ble_eq_true rfl) dX4_seeps_85 ⟨Nat.le_refl _, Nat.le_refl _⟩ (fun r_85 u_85 H locs hp_85 hH => ?_)
            obtain ⟨rfl, rfl⟩ := hp_85
            refine lv_isub hx hb dX4_seeps_88 ?_
            refine lv_istore (lv' := [(5, .int ((pTab (σ.1 1 + σ.1 2 * σ.2 12 (20 * k + w)) (pUse σ k up) (fun q => pDraw σ nW q (σ.2 12 (20 * k + w)) (σ.2 13 (20 * k + w))) i) - (pDraw σ nW i (σ.2 12 (20 * k + w)) (σ.2 13 (20 * k + w))))), (0, .ref (ad 0)), (1, .int (nI k)), (3, .int up), (4, .int (nI (20 * k + w))), (6, .int (nI i))]) hx hb dX4_seeps_89 hl (by decide) rfl (fun ls hl => ?_)
            refine lv_iinc (v := nI (i + 1)) (lv' := [(6, .int (nI (i + 1))), (5, .int ((pTab (σ.1 1 + σ.1 2 * σ.2 12 (20 * k + w)) (pUse σ k up) (fun q => pDraw σ nW q (σ.2 12 (20 * k + w)) (σ.2 13 (20 * k + w))) i) - (pDraw σ nW i (σ.2 12 (20 * k + w)) (σ.2 13 (20 * k + w))))), (0, .ref (ad 0)), (1, .int (nI k)), (3, .int up), (4, .int (nI (20 * k + w)))]) hx hb dX4_seeps_91 hl (k := 5) rfl (nI_add i 1) (by decide) rfl (fun ls hl => ?_)
            refine lv_goto (tgt := 30) hx hb dX4_seeps_94 (by decide) ?_
            have hl := (lv_sub (l' := [(0, .ref (ad 0)), (1, .int (nI k)), (3, .int up), (4, .int (nI (20 * k + w))), (5, .int ((pTab (σ.1 1 + σ.1 2 * σ.2 12 (20 * k + w)) (pUse σ k up) (fun q => pDraw σ nW q (σ.2 12 (20 * k + w)) (σ.2 13 (20 * k + w))) i) - (pDraw σ nW i (σ.2 12 (20 * k + w)) (σ.2 13 (20 * k + w))))), (6, .int (nI (i + 1)))]) hl [2, 3, 4, 5, 1, 0] rfl)
            rw [show (pTab (σ.1 1 + σ.1 2 * σ.2 12 (20 * k + w)) (pUse σ k up) (fun q => pDraw σ nW q (σ.2 12 (20 * k + w)) (σ.2 13 (20 * k + w))) i) - (pDraw σ nW i (σ.2 12 (20 * k + w)) (σ.2 13 (20 * k + w))) = pTab (σ.1 1 + σ.1 2 * σ.2 12 (20 * k + w)) (pUse σ k up) (fun q => pDraw σ nW q (σ.2 12 (20 * k + w)) (σ.2 13 (20 * k + w))) (i + 1) from (by rw [pTab, if_pos (show pUse σ k up i = true from decide_eq_true (p := ¬ i = k ∧ ¬ σ.2 6 i = 0 ∧ ¬ up < σ.2 8 i) ⟨c_42, c_52, c_63⟩)])] at hl
            exact ih (i + 1) (by omega) (by omega) _ _ _ hH hl

set_option maxHeartbeats 4000000 in
set_option maxRecDepth 100000 in
theorem c_X4_seeps (l : Launch) (σ : mS) (k : Nat) (hk : k < 8) (w : Nat) (hw : w < 20) (up : Int32) {nC : Nat} (h10 : σ.1 10 = nI nC) (hC : nC ≤ 8) {nW : Nat → Nat} (h5 : ∀ c, c < 8 → σ.2 5 c = nI (nW c)) (hW : ∀ c, c < 8 → nW c ≤ 20) : mm_Ci l yX4_seeps cX4_seeps 7 (some .int) 4 [.int (nI k), .int (nI w), .int up] σ (fun r u => σ = u ∧ pSeeps σ nC nW k w up = r) := by
  refine mm_ofi (by decide) rfl (Nat.le_of_ble_eq_true rfl) ?_
  intro p e s m args below meth c G A ad ls X hH hl
  obtain ⟨hx, hb, hml, hT, hr, hlocks⟩ := id X
  have hl : lv_has ls 7 [(0, .ref (ad 0)), (1, .int (nI k)), (2, .int (nI w)), (3, .int up)] := hl
  refine lv_bipush (v := 20) hx hb dX4_seeps_0 (by decide) ?_
  refine lv_iload_n hx hb dX4_seeps_2 rfl (lv_at hl 1 rfl) ?_
  refine lv_imul hx hb dX4_seeps_3 ?_
  refine lv_as (pk_mul 20 k) ?_
  refine lv_iload_n hx hb dX4_seeps_4 rfl (lv_at hl 2 rfl) ?_
  refine lv_iadd hx hb dX4_seeps_5 ?_
  refine lv_as (nI_add (20 * k) w) ?_
  refine lv_istore (lv' := [(4, .int (nI ((20 * k) + w))), (0, .ref (ad 0)), (1, .int (nI k)), (2, .int (nI w)), (3, .int up)]) hx hb dX4_seeps_6 hl (by decide) rfl (fun ls hl => ?_)
  refine lv_aload_n hx hb dX4_seeps_8 rfl (lv_at hl 1 rfl) ?_
  refine mm_get (v := .int (σ.1 1)) hx hb hT hH 1 (by decide) rfl q782 rfl dX4_seeps_9 ?_
  refine lv_aload_n hx hb dX4_seeps_12 rfl (lv_at hl 1 rfl) ?_
  refine mm_get (v := .int (σ.1 2)) hx hb hT hH 2 (by decide) rfl q783 rfl dX4_seeps_13 ?_
  refine lv_aload_n hx hb dX4_seeps_16 rfl (lv_at hl 1 rfl) ?_
  refine mm_get (v := .ref (ad 12)) hx hb hT hH 12 (by decide) rfl q793 rfl dX4_seeps_17 ?_
  refine lv_iload hx hb dX4_seeps_20 (lv_at hl 0 rfl) ?_
  refine mm_ild (v := σ.2 12 ((20 * k) + w)) hx hb hT hH 12 (by decide) rfl ((20 * k) + w) rfl (show (20 * k) + w < 160 by omega) rfl dX4_seeps_22 ?_
  refine lv_imul hx hb dX4_seeps_23 ?_
  refine lv_iadd hx hb dX4_seeps_24 ?_
  refine lv_istore (lv' := [(5, .int ((σ.1 1) + ((σ.1 2) * (σ.2 12 ((20 * k) + w))))), (4, .int (nI ((20 * k) + w))), (0, .ref (ad 0)), (1, .int (nI k)), (2, .int (nI w)), (3, .int up)]) hx hb dX4_seeps_25 hl (by decide) rfl (fun ls hl => ?_)
  refine lv_iconst (v := 0) hx hb dX4_seeps_27 (by decide) ?_
  refine lv_istore (lv' := [(6, .int 0), (5, .int ((σ.1 1) + ((σ.1 2) * (σ.2 12 ((20 * k) + w))))), (4, .int (nI ((20 * k) + w))), (0, .ref (ad 0)), (1, .int (nI k)), (2, .int (nI w)), (3, .int up)]) hx hb dX4_seeps_28 hl (by decide) rfl (fun ls hl => ?_)
  refine lp_X4_seeps σ k hk w hw up h10 hC h5 hW X ?_ (nC + 1) 0 (by omega) (Nat.zero_le _) _ _ _ hH (lv_sub hl [3, 4, 6, 2, 1, 0] rfl)
  intro H locs ls hH hl
  refine lv_iload hx hb dX4_seeps_97 (lv_at hl 4 rfl) ?_
  refine lv_aload_n hx hb dX4_seeps_99 rfl (lv_at hl 0 rfl) ?_
  refine mm_get (v := .ref (ad 14)) hx hb hT hH 14 (by decide) rfl q795 rfl dX4_seeps_100 ?_
  refine lv_iload hx hb dX4_seeps_103 (lv_at hl 3 rfl) ?_
  refine mm_ild (v := σ.2 14 (20 * k + w)) hx hb hT hH 14 (by decide) rfl (20 * k + w) rfl (show 20 * k + w < 160 by omega) rfl dX4_seeps_105 ?_
  refine lv_icmp_gt (tgt := 113) hx hb dX4_seeps_106 (by decide) (fun c_106 => ?_) (fun c_106 => ?_)
  · skip
    refine lv_bipush (v := 50) hx hb dX4_seeps_113 (by decide) ?_
    refine lv_iload hx hb dX4_seeps_115 (lv_at hl 4 rfl) ?_
    refine lv_aload_n hx hb dX4_seeps_117 rfl (lv_at hl 0 rfl) ?_
    refine mm_get (v := .ref (ad 14)) hx hb hT hH 14 (by decide) rfl q795 rfl dX4_seeps_118 ?_
    refine lv_iload hx hb dX4_seeps_121 (lv_at hl 3 rfl) ?_
    refine mm_ild (v := σ.2 14 (20 * k + w)) hx hb hT hH 14 (by decide) rfl (20 * k + w) rfl (show 20 * k + w < 160 by omega) rfl dX4_seeps_123 ?_
    refine lv_isub hx hb dX4_seeps_124 ?_
    refine lv_bipush (v := 10) hx hb dX4_seeps_125 (by decide) ?_
    refine lv_idiv hx hb dX4_seeps_127 (by decide : ¬ (10 : Int32) = 0) ?_
    refine va_mmin hx hb (hml.trans hl.1.symm) hT.1 (hT.2.1 _ q975) (hT.2.1 _ q270) (hT.2.1 _ q48) (hT.2.1 _ q271) (by decide) (Nat.le_of_ble_eq_true rfl) (Nat.zero_le _) (Nat.zero_le _) dX4_seeps_128 ?_
    exact mm_ri hx hb hr hlocks hT hH rfl dX4_seeps_131 (⟨rfl, if_pos c_106⟩)
  · skip
    refine lv_iconst (v := 0) hx hb dX4_seeps_109 (by decide) ?_
    refine lv_goto (tgt := 131) hx hb dX4_seeps_110 (by decide) ?_
    exact mm_ri hx hb hr hlocks hT hH rfl dX4_seeps_131 (⟨rfl, if_neg c_106⟩)


set_option maxHeartbeats 4000000 in
set_option maxRecDepth 100000 in
theorem lp_X4_flows {p : Program} {l : Launch} {e : Env} {s : State} {m : MethodId} {args : Array Value} {below : List Frame} {meth : Method} {c : Code} {Q : State → Prop} {G : gw_G} {A : Nat → Prop} {H0 : Heap} {ad : Nat → Nat} (σ : mS) (k : Nat) (hk : k < 8) (up : Int32) {nC : Nat} (h10 : σ.1 10 = nI nC) (hC : nC ≤ 8)  {nW : Nat → Nat} (h5 : ∀ c, c < 8 → σ.2 5 c = nI (nW c)) (hW : ∀ c, c < 8 → nW c ≤ 20) {Z : Int32} (X : gx_X RX4 cX4_flows 6 (some .int) G p s m args meth c) (K : ∀ (z : Int32), Z = z → (∀ (H : Heap) (locs : List Loc) (ls : Array Slot), mm_H G A H0 H locs ad σ → lv_has ls 6 [(3, .int z)] → W p l e (mm_rm 5) s m args below meth c H locs 0 0 Q (F0 m 92 ls []))) : ∀ (i : Nat) (g : Int32), i ≤ 20 → ∀ (x : Int32), x = nI i - 1 → pFlow (fun w => pSeeps σ nC nW k w up) (fun w => σ.2 14 (20 * k + w)) i g = Z → ∀ (H : Heap) (locs : List Loc) (ls : Array Slot), mm_H G A H0 H locs ad σ → lv_has ls 6 [(0, .ref (ad 0)), (1, .int (nI k)), (2, .int up), (3, .int g), (4, .int x)] → W p l e (mm_rm 5) s m args below meth c H locs 0 0 Q (F0 m 11 ls []) := by
  obtain ⟨hx, hb, hml, hT, hr, hlocks⟩ := id X
  intro i
  induction i with
  | zero =>
    intro g hi x ex hz H locs ls hH hl
    refine lv_iload hx hb dX4_flows_11 (lv_at hl 4 rfl) ?_
    refine lv_if_lt (tgt := 92) hx hb dX4_flows_13 (by decide) (fun c_13 => ?_) (fun c_13 => ?_)
    · skip
      exact K g hz.symm _ _ _ hH (lv_sub hl [3] rfl)
    · skip
      exact absurd (by rw [ex]; decide) c_13
  | succ i ih =>
    intro g hi x ex hz H locs ls hH hl
    rw [nI_pred] at ex
    subst ex
    refine lv_iload hx hb dX4_flows_11 (lv_at hl 4 rfl) ?_
    refine lv_if_lt (tgt := 92) hx hb dX4_flows_13 (by decide) (fun c_13 => ?_) (fun c_13 => ?_)
    · skip
      exact absurd c_13 (nI_pos (by omega))
    · skip
      refine lv_iload_n hx hb dX4_flows_16 rfl (lv_at hl 3 rfl) ?_
      refine lv_aload_n hx hb dX4_flows_17 rfl (lv_at hl 0 rfl) ?_
      refine lv_iload_n hx hb dX4_flows_18 rfl (lv_at hl 1 rfl) ?_
      refine lv_iload hx hb dX4_flows_19 (lv_at hl 4 rfl) ?_
      refine lv_iload_n hx hb dX4_flows_21 rfl (lv_at hl 2 rfl) ?_
      refine mm_cVi (n := 3) (c_X4_seeps l σ k (by omega) i (by omega) up (nC := nC) (nW := nW) h10 hC h5 hW) hx hb hml hT hH (lw_V q967 q969 qs21 q39 q970) (by decide +kernel) ⟨Nat.le_of_ble_eq_true rfl, Nat.le_of_ble_eq_true rfl⟩ rfl hl.1 rfl (Nat.le_of_ble_eq_true rfl) dX4_flows_22 ⟨Nat.le_refl _, Nat.le_refl _⟩ (fun r_22 u_22 H locs hp_22 hH => ?_)
      obtain ⟨rfl, rfl⟩ := hp_22
      refine lv_iadd hx hb dX4_flows_25 ?_
      refine lv_istore_n (lv' := [(3, .int (g + (pSeeps σ nC nW k i up))), (0, .ref (ad 0)), (1, .int (nI k)), (2, .int up), (4, .int (nI i))]) hx hb dX4_flows_26 rfl hl (by decide) rfl (fun ls hl => ?_)
      refine lv_iload hx hb dX4_flows_27 (lv_at hl 4 rfl) ?_
      refine lv_if_ne (tgt := 35) hx hb dX4_flows_29 (by decide) (fun c_29 => ?_) (fun c_29 => ?_)
      · skip
        have c_29 : ¬ (i = 0) := fun h => c_29 ((nI_eq (a := i) (b := 0) (by omega) (by omega)).mpr h)
        refine lv_aload_n hx hb dX4_flows_35 rfl (lv_at hl 1 rfl) ?_
        refine mm_get (v := .ref (ad 14)) hx hb hT hH 14 (by decide) rfl q795 rfl dX4_flows_36 ?_
        refine lv_bipush (v := 20) hx hb dX4_flows_39 (by decide) ?_
        refine lv_iload_n hx hb dX4_flows_41 rfl (lv_at hl 2 rfl) ?_
        refine lv_imul hx hb dX4_flows_42 ?_
        refine lv_as (pk_mul 20 k) ?_
        refine lv_iload hx hb dX4_flows_43 (lv_at hl 4 rfl) ?_
        refine lv_iadd hx hb dX4_flows_45 ?_
        refine lv_as (nI_add (20 * k) i) ?_
        refine mm_ild (v := σ.2 14 ((20 * k) + i)) hx hb hT hH 14 (by decide) rfl ((20 * k) + i) rfl (show (20 * k) + i < 160 by omega) rfl dX4_flows_46 ?_
        refine lv_aload_n hx hb dX4_flows_47 rfl (lv_at hl 1 rfl) ?_
        refine mm_get (v := .ref (ad 14)) hx hb hT hH 14 (by decide) rfl q795 rfl dX4_flows_48 ?_
        refine lv_bipush (v := 20) hx hb dX4_flows_51 (by decide) ?_
        refine lv_iload_n hx hb dX4_flows_53 rfl (lv_at hl 2 rfl) ?_
        refine lv_imul hx hb dX4_flows_54 ?_
        refine lv_as (pk_mul 20 k) ?_
        refine lv_iload hx hb dX4_flows_55 (lv_at hl 4 rfl) ?_
        refine lv_iadd hx hb dX4_flows_57 ?_
        refine lv_as (nI_add (20 * k) i) ?_
        refine lv_iconst (v := 1) hx hb dX4_flows_58 (by decide) ?_
        refine lv_isub hx hb dX4_flows_59 ?_
        refine lv_as (pk_sub (a := 20 * k + i) (b := 1) (by omega)) ?_
        refine mm_ild (v := σ.2 14 (20 * k + (i - 1))) hx hb hT hH 14 (by decide) rfl (20 * k + i - 1) rfl (show 20 * k + i - 1 < 160 by omega) (by rw [show 20 * k + i - 1 = 20 * k + (i - 1) by omega]) dX4_flows_60 ?_
        refine lv_isub hx hb dX4_flows_61 ?_
        refine lv_istore (lv' := [(5, .int ((σ.2 14 ((20 * k) + i)) - (σ.2 14 (20 * k + (i - 1))))), (3, .int (g + (pSeeps σ nC nW k i up))), (0, .ref (ad 0)), (1, .int (nI k)), (2, .int up), (4, .int (nI i))]) hx hb dX4_flows_62 hl (by decide) rfl (fun ls hl => ?_)
        refine lv_iload hx hb dX4_flows_64 (lv_at hl 0 rfl) ?_
        refine lv_if_eq (tgt := 76) hx hb dX4_flows_66 (by decide) (fun c_66 => ?_) (fun c_66 => ?_)
        · skip
          refine lv_iload_n hx hb dX4_flows_76 rfl (lv_at hl 1 rfl) ?_
          refine lv_iload_n hx hb dX4_flows_77 rfl (lv_at hl 1 rfl) ?_
          refine lv_bipush (v := 99) hx hb dX4_flows_78 (by decide) ?_
          refine lv_iadd hx hb dX4_flows_80 ?_
          refine lv_bipush (v := 100) hx hb dX4_flows_81 (by decide) ?_
          refine lv_idiv hx hb dX4_flows_83 (by decide : ¬ (100 : Int32) = 0) ?_
          refine lv_isub hx hb dX4_flows_84 ?_
          refine lv_istore_n (lv' := [(3, .int ((g + (pSeeps σ nC nW k i up)) - (((g + (pSeeps σ nC nW k i up)) + 99) / 100))), (5, .int ((σ.2 14 ((20 * k) + i)) - (σ.2 14 (20 * k + (i - 1))))), (0, .ref (ad 0)), (1, .int (nI k)), (2, .int up), (4, .int (nI i))]) hx hb dX4_flows_85 rfl hl (by decide) rfl (fun ls hl => ?_)
          refine lv_iinc (v := (nI i) + (-1)) (lv' := [(4, .int ((nI i) + (-1))), (3, .int ((g + (pSeeps σ nC nW k i up)) - (((g + (pSeeps σ nC nW k i up)) + 99) / 100))), (5, .int ((σ.2 14 ((20 * k) + i)) - (σ.2 14 (20 * k + (i - 1))))), (0, .ref (ad 0)), (1, .int (nI k)), (2, .int up)]) hx hb dX4_flows_86 hl (k := 5) rfl rfl (by decide) rfl (fun ls hl => ?_)
          refine lv_goto (tgt := 11) hx hb dX4_flows_89 (by decide) ?_
          have hl := (lv_sub (l' := [(0, .ref (ad 0)), (1, .int (nI k)), (2, .int up), (3, .int ((g + (pSeeps σ nC nW k i up)) - (((g + (pSeeps σ nC nW k i up)) + 99) / 100))), (4, .int (nI i + (-1)))]) hl [3, 4, 5, 1, 0] rfl)
          obtain ⟨i, rfl⟩ : ∃ q, i = q + 1 := ⟨i - 1, by omega⟩
          rw [Nat.add_sub_cancel] at c_66
          rw [pFlow, if_pos (Or.inl c_66)] at hz
          exact ih _ (by omega) _ (i_am1 _) hz _ _ _ hH hl
        · skip
          refine lv_iload hx hb dX4_flows_69 (lv_at hl 0 rfl) ?_
          refine lv_bipush (v := 20) hx hb dX4_flows_71 (by decide) ?_
          refine lv_icmp_le (tgt := 86) hx hb dX4_flows_73 (by decide) (fun c_73 => ?_) (fun c_73 => ?_)
          · skip
            refine lv_iinc (v := (nI i) + (-1)) (lv' := [(4, .int ((nI i) + (-1))), (5, .int ((σ.2 14 ((20 * k) + i)) - (σ.2 14 (20 * k + (i - 1))))), (3, .int (g + (pSeeps σ nC nW k i up))), (0, .ref (ad 0)), (1, .int (nI k)), (2, .int up)]) hx hb dX4_flows_86 hl (k := 5) rfl rfl (by decide) rfl (fun ls hl => ?_)
            refine lv_goto (tgt := 11) hx hb dX4_flows_89 (by decide) ?_
            have hl := (lv_sub (l' := [(0, .ref (ad 0)), (1, .int (nI k)), (2, .int up), (3, .int (g + (pSeeps σ nC nW k i up))), (4, .int (nI i + (-1)))]) hl [3, 4, 5, 2, 0] rfl)
            obtain ⟨i, rfl⟩ : ∃ q, i = q + 1 := ⟨i - 1, by omega⟩
            rw [Nat.add_sub_cancel] at c_66 c_73
            rw [pFlow, if_neg (fun h => h.elim c_66 (fun h => absurd h (Int32.not_lt.mpr c_73)))] at hz
            exact ih _ (by omega) _ (i_am1 _) hz _ _ _ hH hl
          · skip
            refine lv_iload_n hx hb dX4_flows_76 rfl (lv_at hl 1 rfl) ?_
            refine lv_iload_n hx hb dX4_flows_77 rfl (lv_at hl 1 rfl) ?_
            refine lv_bipush (v := 99) hx hb dX4_flows_78 (by decide) ?_
            refine lv_iadd hx hb dX4_flows_80 ?_
            refine lv_bipush (v := 100) hx hb dX4_flows_81 (by decide) ?_
            refine lv_idiv hx hb dX4_flows_83 (by decide : ¬ (100 : Int32) = 0) ?_
            refine lv_isub hx hb dX4_flows_84 ?_
            refine lv_istore_n (lv' := [(3, .int ((g + (pSeeps σ nC nW k i up)) - (((g + (pSeeps σ nC nW k i up)) + 99) / 100))), (5, .int ((σ.2 14 ((20 * k) + i)) - (σ.2 14 (20 * k + (i - 1))))), (0, .ref (ad 0)), (1, .int (nI k)), (2, .int up), (4, .int (nI i))]) hx hb dX4_flows_85 rfl hl (by decide) rfl (fun ls hl => ?_)
            refine lv_iinc (v := (nI i) + (-1)) (lv' := [(4, .int ((nI i) + (-1))), (3, .int ((g + (pSeeps σ nC nW k i up)) - (((g + (pSeeps σ nC nW k i up)) + 99) / 100))), (5, .int ((σ.2 14 ((20 * k) + i)) - (σ.2 14 (20 * k + (i - 1))))), (0, .ref (ad 0)), (1, .int (nI k)), (2, .int up)]) hx hb dX4_flows_86 hl (k := 5) rfl rfl (by decide) rfl (fun ls hl => ?_)
            refine lv_goto (tgt := 11) hx hb dX4_flows_89 (by decide) ?_
            have hl := (lv_sub (l' := [(0, .ref (ad 0)), (1, .int (nI k)), (2, .int up), (3, .int ((g + (pSeeps σ nC nW k i up)) - (((g + (pSeeps σ nC nW k i up)) + 99) / 100))), (4, .int (nI i + (-1)))]) hl [3, 4, 5, 1, 0] rfl)
            obtain ⟨i, rfl⟩ : ∃ q, i = q + 1 := ⟨i - 1, by omega⟩
            rw [Nat.add_sub_cancel] at c_66 c_73
            rw [pFlow, if_pos (Or.inr (in_lt c_73))] at hz
            exact ih _ (by omega) _ (i_am1 _) hz _ _ _ hH hl
      · skip
        have c_29 : i = 0 := (nI_eq (a := i) (b := 0) (by omega) (by omega)).mp c_29
        refine lv_goto (tgt := 86) hx hb dX4_flows_32 (by decide) ?_
        refine lv_iinc (v := (nI i) + (-1)) (lv' := [(4, .int ((nI i) + (-1))), (3, .int (g + (pSeeps σ nC nW k i up))), (0, .ref (ad 0)), (1, .int (nI k)), (2, .int up)]) hx hb dX4_flows_86 hl (k := 4) rfl rfl (by decide) rfl (fun ls hl => ?_)
        refine lv_goto (tgt := 11) hx hb dX4_flows_89 (by decide) ?_
        have hl := (lv_sub (l' := [(0, .ref (ad 0)), (1, .int (nI k)), (2, .int up), (3, .int (g + (pSeeps σ nC nW k i up))), (4, .int (nI i + (-1)))]) hl [2, 3, 4, 1, 0] rfl)
        subst c_29
        exact ih _ (by omega) _ (i_am1 _) hz _ _ _ hH hl

set_option maxHeartbeats 4000000 in
set_option maxRecDepth 100000 in
theorem c_X4_flows (l : Launch) (σ : mS) (k : Nat) (hk : k < 8) (up : Int32) {nC : Nat} (h10 : σ.1 10 = nI nC) (hC : nC ≤ 8) {nW : Nat → Nat} (h5 : ∀ c, c < 8 → σ.2 5 c = nI (nW c)) (hW : ∀ c, c < 8 → nW c ≤ 20) : mm_Ci l yX4_flows cX4_flows 6 (some .int) 5 [.int (nI k), .int up] σ (fun r u => σ = u ∧ pFlows σ nC nW k up = r) := by
  refine mm_ofi (by decide) rfl (Nat.le_of_ble_eq_true rfl) ?_
  intro p e s m args below meth c G A ad ls X hH hl
  obtain ⟨hx, hb, hml, hT, hr, hlocks⟩ := id X
  have hl : lv_has ls 6 [(0, .ref (ad 0)), (1, .int (nI k)), (2, .int up)] := hl
  refine lv_iconst (v := 0) hx hb dX4_flows_0 (by decide) ?_
  refine lv_istore_n (lv' := [(3, .int 0), (0, .ref (ad 0)), (1, .int (nI k)), (2, .int up)]) hx hb dX4_flows_1 rfl hl (by decide) rfl (fun ls hl => ?_)
  refine lv_aload_n hx hb dX4_flows_2 rfl (lv_at hl 1 rfl) ?_
  refine lv_iload_n hx hb dX4_flows_3 rfl (lv_at hl 2 rfl) ?_
  refine mm_cVi (n := 1) (c_X4_runs l σ k (by omega) (nW := nW) h5 hW) hx hb hml hT hH (lw_V q963 q965 qs20 q39 q966) (by decide +kernel) ⟨Nat.le_of_ble_eq_true rfl, Nat.le_of_ble_eq_true rfl⟩ rfl hl.1 rfl (Nat.le_of_ble_eq_true rfl) dX4_flows_4 ⟨Nat.le_refl _, Nat.le_refl _⟩ (fun r_4 u_4 H locs hp_4 hH => ?_)
  obtain ⟨rfl, rfl⟩ := hp_4
  refine lv_iconst (v := 1) hx hb dX4_flows_7 (by decide) ?_
  refine lv_isub hx hb dX4_flows_8 ?_
  refine lv_istore (lv' := [(4, .int ((nI (pRuns (σ.2 15) (20 * k) (nW k))) - 1)), (3, .int 0), (0, .ref (ad 0)), (1, .int (nI k)), (2, .int up)]) hx hb dX4_flows_9 hl (by decide) rfl (fun ls hl => ?_)
  have hWk := hW k hk
  have hR := pRuns_le (σ.2 15) (nW k) (20 * k)
  refine lp_X4_flows σ k hk up h10 hC h5 hW X ?_ (pRuns (σ.2 15) (20 * k) (nW k)) 0 (by omega) _ rfl rfl _ _ _ hH (lv_sub hl [2, 3, 4, 1, 0] rfl)
  intro z hz H locs ls hH hl
  subst hz
  refine lv_iload_n hx hb dX4_flows_92 rfl (lv_at hl 0 rfl) ?_
  exact mm_ri hx hb hr hlocks hT hH rfl dX4_flows_93 (⟨rfl, rfl⟩)
