/-! THE SYSTEM'S WORLD. Its state is laid out like the model's (same slots), with the long arrays beside it; 37: the place of Wrong.
codes: 0 DesertChannels, 1 Reader, 2 Wrong, 3 words, 4 channels, 5 shares, 6 weight, 7 the law's out; 19 piece 20 length 21 law 22 draft 23 tape 31 took 32 due 33 loss 35 best;
40 + c Channel, 50 + c its wells, 60 + (20 c + i) Well, 220 + k Share -/
abbrev xS : Type := mS × (Nat → Nat → Int64)
def xC (σ : xS) : Nat := (σ.1.1 10).toNatClampNeg
def xN (σ : xS) : Nat := (σ.1.1 17).toNatClampNeg
def xW (σ : xS) (c : Nat) : Nat := (σ.1.2 5 c).toNatClampNeg
def xx_len (k : Nat) : Nat := match k with
  | 19 => 4 | 20 => 4 | 21 => 4 | 22 => 4 | 23 => 400 | 31 => 9 | 32 => 9 | 33 => 9 | 35 => 512
  | _ => 0
def xx_ct (k : Nat) : Nat := match k with
  | 23 => 1
  | _ => 0
def xx_fs1 (ad : Nat → Nat) (F : Nat → Int32) : List Value := [.ref (ad 1), .ref (ad 4), .ref (ad 5), .ref (ad 21), .ref (ad 22), .ref (ad 31), .ref (ad 32), .ref (ad 33), .ref (ad 35), .ref (ad 20), .ref (ad 19), .ref (ad 6), .int (F 10), .int (F 11), .int (F 17), .int (F 1), .int (F 2), .int (F 3), .int (F 4), .int (F 34), .int (F 28)]
def xx_fs2 (ad : Nat → Nat) (F : Nat → Int32) : List Value := [.ref (ad 23), .ref (ad 3), .ref (ad 2), .int (F 24), .int (F 26), .int (F 25)]
def xx_fs3 (F : Nat → Int32) : List Value := [.null, .null, .null, .null, .null, .int 0, .int (F 37)]
def xx_fs5 (ad : Nat → Nat) (σ : mS) (c : Nat) : List Value := [.ref (ad (50 + c)), .int (σ.2 5 c), .int (σ.2 7 c), .int (σ.2 8 c), .int (σ.2 9 c)]
def xx_fs6 (σ : mS) (j : Nat) : List Value := [.int (σ.2 12 j), .int (σ.2 13 j), .int (σ.2 14 j), .int (σ.2 15 j)]
def xx_fs7 (ad : Nat → Nat) (σ : mS) (k : Nat) : List Value := [.ref (ad (40 + (σ.2 16 (7 * k)).toNatClampNeg)), .int (σ.2 16 (7 * k)), .int (σ.2 16 (7 * k + 1)), .int (σ.2 16 (7 * k + 2)), .int (σ.2 16 (7 * k + 3)), .int (σ.2 16 (7 * k + 4)), .int (σ.2 16 (7 * k + 5)), .int (σ.2 16 (7 * k + 6))]
abbrev xx_rf (f : Nat → Option Nat) : (Nat → Int32) ⊕ (Nat → Int64) ⊕ (Nat → UInt32) ⊕ (Nat → UInt64) ⊕ (Nat → Option Nat) := .inr (.inr (.inr (.inr f)))
def xx_w (G : gw_G) (ad wk : Nat → Nat) (σ : xS) : gw_W := fun i =>
  if i = 0 then some (.inr (1, xx_fs1 ad σ.1.1))
  else if i = 1 then some (.inr (2, xx_fs2 ad σ.1.1))
  else if i = 2 then some (.inr (3, xx_fs3 σ.1.1))
  else if i = 3 then some (.inl (G.2 7, 6, xx_rf (fun k => if k < 6 then some (wk k) else none)))
  else if i = 4 then some (.inl (G.2 4, 8, xx_rf (fun k => if k < xC σ then some (ad (40 + k)) else none)))
  else if i = 5 then some (.inl (G.2 6, 60, xx_rf (fun k => if k < xN σ then some (ad (220 + k)) else none)))
  else if i = 6 then some (.inl (G.2 3, 31, .inr (.inl (σ.2 0))))
  else if i = 7 then some (.inl (G.2 3, 1, .inr (.inl (σ.2 1))))
  else if i < 40 then (if xx_len i = 0 then none else some (.inl (G.2 (xx_ct i), xx_len i, .inl (σ.1.2 i))))
  else if i < 50 then (if i - 40 < xC σ then some (.inr (4, xx_fs5 ad σ.1 (i - 40))) else none)
  else if i < 60 then (if i - 50 < xC σ then some (.inl (G.2 5, 20, xx_rf (fun k => if k < xW σ (i - 50) then some (ad (60 + (20 * (i - 50) + k))) else none))) else none)
  else if i < 220 then (if (i - 60) / 20 < xC σ ∧ (i - 60) % 20 < xW σ ((i - 60) / 20) then some (.inr (5, xx_fs6 σ.1 (i - 60))) else none)
  else if i < 280 then (if i - 220 < xN σ then some (.inr (6, xx_fs7 ad σ.1 (i - 220))) else none)
  else none
def xs_st (σ : xS) (k : Nat) (v : Int32) : xS := (mm_st σ.1 k v, σ.2)
def xs_ar (σ : xS) (k n : Nat) (v : Int32) : xS := (mm_ar σ.1 k n v, σ.2)
def xs_lg (σ : xS) (k n : Nat) (v : Int64) : xS := (σ.1, va_up σ.2 k (vp_updL (σ.2 k) n v))
/-- the shape of a state: how many channels, wells, shares there are -/
def xk (σ : xS) (nC nS : Nat) (nW : Nat → Nat) : Prop := (σ.1.1 10 = nI nC ∧ nC ≤ 8) ∧ (σ.1.1 17 = nI nS ∧ nS ≤ 60) ∧ (∀ c, c < 8 → σ.1.2 5 c = nI (nW c) ∧ nW c ≤ 20) ∧ ∀ k, k < nS → ∃ q, q < nC ∧ σ.1.2 16 (7 * k) = nI q
section XW
variable {G : gw_G} {ad wk : Nat → Nat} {σ : xS} {nC nS : Nat} {nW : Nat → Nat}
theorem xk.C (h : xk σ nC nS nW) : xC σ = nC := by
  unfold xC
  rw [h.1.1, nI_clamp (by have := h.1.2; omega)]
theorem xk.N (h : xk σ nC nS nW) : xN σ = nS := by
  unfold xN
  rw [h.2.1.1, nI_clamp (by have := h.2.1.2; omega)]
theorem xk.W (h : xk σ nC nS nW) {c : Nat} (hc : c < 8) : xW σ c = nW c := by
  unfold xW
  rw [(h.2.2.1 c hc).1, nI_clamp (by have := (h.2.2.1 c hc).2; omega)]
theorem xx_0 : xx_w G ad wk σ 0 = some (.inr (1, xx_fs1 ad σ.1.1)) := rfl
theorem xx_1 : xx_w G ad wk σ 1 = some (.inr (2, xx_fs2 ad σ.1.1)) := rfl
theorem xx_2 : xx_w G ad wk σ 2 = some (.inr (3, xx_fs3 σ.1.1)) := rfl
theorem xx_3 : xx_w G ad wk σ 3 = some (.inl (G.2 7, 6, xx_rf (fun k => if k < 6 then some (wk k) else none))) := rfl
theorem xx_4 : xx_w G ad wk σ 4 = some (.inl (G.2 4, 8, xx_rf (fun k => if k < xC σ then some (ad (40 + k)) else none))) := rfl
theorem xx_5 : xx_w G ad wk σ 5 = some (.inl (G.2 6, 60, xx_rf (fun k => if k < xN σ then some (ad (220 + k)) else none))) := rfl
theorem xx_6 : xx_w G ad wk σ 6 = some (.inl (G.2 3, 31, .inr (.inl (σ.2 0)))) := rfl
theorem xx_7 : xx_w G ad wk σ 7 = some (.inl (G.2 3, 1, .inr (.inl (σ.2 1)))) := rfl
theorem xx_arr {k : Nat} (hk : xx_len k ≠ 0) (h8 : 7 < k ∧ k < 40) : xx_w G ad wk σ k = some (.inl (G.2 (xx_ct k), xx_len k, .inl (σ.1.2 k))) := by
  unfold xx_w
  rw [if_neg (by omega), if_neg (by omega), if_neg (by omega), if_neg (by omega), if_neg (by omega), if_neg (by omega), if_neg (by omega), if_neg (by omega), if_pos h8.2, if_neg hk]
theorem xx_chan0 {c : Nat} (hc : c < 10) : xx_w G ad wk σ (40 + c) = if c < xC σ then some (.inr (4, xx_fs5 ad σ.1 c)) else none := by
  unfold xx_w
  rw [if_neg (by omega), if_neg (by omega), if_neg (by omega), if_neg (by omega), if_neg (by omega), if_neg (by omega), if_neg (by omega), if_neg (by omega), if_neg (by omega), if_pos (by omega), show 40 + c - 40 = c by omega]
theorem xx_wells0 {c : Nat} (hc : c < 10) : xx_w G ad wk σ (50 + c) = if c < xC σ then some (.inl (G.2 5, 20, xx_rf (fun k => if k < xW σ c then some (ad (60 + (20 * c + k))) else none))) else none := by
  unfold xx_w
  rw [if_neg (by omega), if_neg (by omega), if_neg (by omega), if_neg (by omega), if_neg (by omega), if_neg (by omega), if_neg (by omega), if_neg (by omega), if_neg (by omega), if_neg (by omega), if_pos (by omega), show 50 + c - 50 = c by omega]
theorem xx_well0 {j : Nat} (hj : j < 160) : xx_w G ad wk σ (60 + j) = if j / 20 < xC σ ∧ j % 20 < xW σ (j / 20) then some (.inr (5, xx_fs6 σ.1 j)) else none := by
  unfold xx_w
  rw [if_neg (by omega), if_neg (by omega), if_neg (by omega), if_neg (by omega), if_neg (by omega), if_neg (by omega), if_neg (by omega), if_neg (by omega), if_neg (by omega), if_neg (by omega), if_neg (by omega), if_pos (by omega), show 60 + j - 60 = j by omega]
theorem xx_share0 {k : Nat} (hk : k < 60) : xx_w G ad wk σ (220 + k) = if k < xN σ then some (.inr (6, xx_fs7 ad σ.1 k)) else none := by
  unfold xx_w
  rw [if_neg (by omega), if_neg (by omega), if_neg (by omega), if_neg (by omega), if_neg (by omega), if_neg (by omega), if_neg (by omega), if_neg (by omega), if_neg (by omega), if_neg (by omega), if_neg (by omega), if_neg (by omega), if_pos (by omega), show 220 + k - 220 = k by omega]
theorem xx_none {i : Nat} (h : 280 ≤ i ∨ (7 < i ∧ i < 40 ∧ xx_len i = 0)) : xx_w G ad wk σ i = none := by
  unfold xx_w
  rcases h with h | ⟨h1, h2, h3⟩
  · rw [if_neg (by omega), if_neg (by omega), if_neg (by omega), if_neg (by omega), if_neg (by omega), if_neg (by omega), if_neg (by omega), if_neg (by omega), if_neg (by omega), if_neg (by omega), if_neg (by omega), if_neg (by omega), if_neg (by omega)]
  · rw [if_neg (by omega), if_neg (by omega), if_neg (by omega), if_neg (by omega), if_neg (by omega), if_neg (by omega), if_neg (by omega), if_neg (by omega), if_pos h2, if_pos h3]
theorem xx_chan (h : xk σ nC nS nW) {c : Nat} (hc : c < nC) : xx_w G ad wk σ (40 + c) = some (.inr (4, xx_fs5 ad σ.1 c)) := by
  rw [xx_chan0 (by have := h.1.2; omega), h.C, if_pos hc]
theorem xx_wells (h : xk σ nC nS nW) {c : Nat} (hc : c < nC) : xx_w G ad wk σ (50 + c) = some (.inl (G.2 5, 20, xx_rf (fun k => if k < xW σ c then some (ad (60 + (20 * c + k))) else none))) := by
  rw [xx_wells0 (by have := h.1.2; omega), h.C, if_pos hc]
theorem xx_well (h : xk σ nC nS nW) {c i : Nat} (hc : c < nC) (hi : i < nW c) : xx_w G ad wk σ (60 + (20 * c + i)) = some (.inr (5, xx_fs6 σ.1 (20 * c + i))) := by
  have h8 := h.1.2
  have h20 := (h.2.2.1 c (by omega)).2
  rw [xx_well0 (by omega), show (20 * c + i) / 20 = c by omega, show (20 * c + i) % 20 = i by omega, h.C, h.W (by omega), if_pos ⟨hc, hi⟩]
theorem xx_share (h : xk σ nC nS nW) {k : Nat} (hk : k < nS) : xx_w G ad wk σ (220 + k) = some (.inr (6, xx_fs7 ad σ.1 k)) := by
  rw [xx_share0 (by have := h.2.1.2; omega), h.N, if_pos hk]
theorem xx_chr (h : xk σ nC nS nW) {c : Nat} (hc : c < nC) : (fun k => if k < xC σ then some (ad (40 + k)) else none) c = some (ad (40 + c)) := by
  show (if c < xC σ then some (ad (40 + c)) else none) = _
  rw [h.C, if_pos hc]
theorem xx_shr (h : xk σ nC nS nW) {k : Nat} (hk : k < nS) : (fun k => if k < xN σ then some (ad (220 + k)) else none) k = some (ad (220 + k)) := by
  show (if k < xN σ then some (ad (220 + k)) else none) = _
  rw [h.N, if_pos hk]
theorem xx_wer (h : xk σ nC nS nW) {c i : Nat} (hc : c < nC) (hi : i < nW c) : (fun k => if k < xW σ c then some (ad (60 + (20 * c + k))) else none) i = some (ad (60 + (20 * c + i))) := by
  show (if i < xW σ c then some (ad (60 + (20 * c + i))) else none) = _
  rw [h.W (by have := h.1.2; omega), if_pos hi]
theorem xx_sch (h : xk σ nC nS nW) {k q : Nat} (hq : σ.1.2 16 (7 * k) = nI q) (hqc : q < nC) : (xx_fs7 ad σ.1 k)[0]? = some (.ref (ad (40 + q))) := by
  show some (Value.ref (ad (40 + (σ.1.2 16 (7 * k)).toNatClampNeg))) = _
  rw [hq, nI_clamp (by have := h.1.2; omega)]
/-- two states give the same cell at i -/
theorem xx_cg {τ : xS} (i : Nat) (e10 : σ.1.1 10 = τ.1.1 10) (e17 : σ.1.1 17 = τ.1.1 17) (h1 : i = 0 → xx_fs1 ad σ.1.1 = xx_fs1 ad τ.1.1) (h2 : i = 1 → xx_fs2 ad σ.1.1 = xx_fs2 ad τ.1.1) (h3 : i = 2 → xx_fs3 σ.1.1 = xx_fs3 τ.1.1) (hL : i = 6 → σ.2 0 = τ.2 0) (hL2 : i = 7 → σ.2 1 = τ.2 1) (hA : 7 < i → i < 40 → xx_len i ≠ 0 → σ.1.2 i = τ.1.2 i) (h5 : σ.1.2 5 = τ.1.2 5)
    (hch : ∀ c, c < 10 → i = 40 + c → xx_fs5 ad σ.1 c = xx_fs5 ad τ.1 c) (hwe : ∀ j, j < 160 → i = 60 + j → xx_fs6 σ.1 j = xx_fs6 τ.1 j) (hsh : ∀ k, k < 60 → i = 220 + k → xx_fs7 ad σ.1 k = xx_fs7 ad τ.1 k) : xx_w G ad wk σ i = xx_w G ad wk τ i := by
  have hC : xC σ = xC τ := by unfold xC; rw [e10]
  have hN : xN σ = xN τ := by unfold xN; rw [e17]
  have hW : ∀ c, xW σ c = xW τ c := fun c => by unfold xW; rw [h5]
  rcases Nat.lt_or_ge i 8 with g | g
  · rcases (show i = 0 ∨ i = 1 ∨ i = 2 ∨ i = 3 ∨ i = 4 ∨ i = 5 ∨ i = 6 ∨ i = 7 by omega) with rfl | rfl | rfl | rfl | rfl | rfl | rfl | rfl
    · rw [xx_0, xx_0, h1 rfl]
    · rw [xx_1, xx_1, h2 rfl]
    · rw [xx_2, xx_2, h3 rfl]
    · rw [xx_3, xx_3]
    · rw [xx_4, xx_4, hC]
    · rw [xx_5, xx_5, hN]
    · rw [xx_6, xx_6, hL rfl]
    · rw [xx_7, xx_7, hL2 rfl]
  rcases Nat.lt_or_ge i 40 with g2 | g2
  · by_cases hk : xx_len i = 0
    · rw [xx_none (Or.inr ⟨by omega, g2, hk⟩), xx_none (Or.inr ⟨by omega, g2, hk⟩)]
    · rw [xx_arr hk ⟨by omega, g2⟩, xx_arr hk ⟨by omega, g2⟩, hA (by omega) g2 hk]
  rcases Nat.lt_or_ge i 50 with g3 | g3
  · obtain ⟨c, rfl⟩ : ∃ c, i = 40 + c := ⟨i - 40, by omega⟩
    rw [xx_chan0 (by omega), xx_chan0 (by omega), hC, hch c (by omega) rfl]
  rcases Nat.lt_or_ge i 60 with g4 | g4
  · obtain ⟨c, rfl⟩ : ∃ c, i = 50 + c := ⟨i - 50, by omega⟩
    rw [xx_wells0 (by omega), xx_wells0 (by omega), hC, hW]
  rcases Nat.lt_or_ge i 220 with g5 | g5
  · obtain ⟨j, rfl⟩ : ∃ j, i = 60 + j := ⟨i - 60, by omega⟩
    rw [xx_well0 (by omega), xx_well0 (by omega), hC, hW, hwe j (by omega) rfl]
  rcases Nat.lt_or_ge i 280 with g6 | g6
  · obtain ⟨k, rfl⟩ : ∃ k, i = 220 + k := ⟨i - 220, by omega⟩
    rw [xx_share0 (by omega), xx_share0 (by omega), hN, hsh k (by omega) rfl]
  · rw [xx_none (Or.inl g6), xx_none (Or.inl g6)]
/-- other addresses where the cells are the same -/
theorem xx_ad {ad' : Nat → Nat} (h : ∀ i x, xx_w G ad wk σ i = some x → ad' i = ad i) (hs : ∀ k, k < xN σ → k < 60 → (σ.1.2 16 (7 * k)).toNatClampNeg < xC σ) (hC : xC σ ≤ 8) (hN : xN σ ≤ 60) (hW : ∀ c, c < 8 → xW σ c ≤ 20) : xx_w G ad' wk σ = xx_w G ad wk σ := by
  have hA : ∀ k, xx_len k ≠ 0 → (7 < k ∧ k < 40) → ad' k = ad k := fun k h1 h2 => h k _ (xx_arr h1 h2)
  have e0 := h 0 _ xx_0
  have e1 := h 1 _ xx_1
  have e2 := h 2 _ xx_2
  have e3 := h 3 _ xx_3
  have e4 := h 4 _ xx_4
  have e5 := h 5 _ xx_5
  have e6 := h 6 _ xx_6
  have ech : ∀ c, c < xC σ → ad' (40 + c) = ad (40 + c) := fun c hc => h (40 + c) _ (by rw [xx_chan0 (by omega), if_pos hc])
  have ews : ∀ c, c < xC σ → ad' (50 + c) = ad (50 + c) := fun c hc => h (50 + c) _ (by rw [xx_wells0 (by omega), if_pos hc])
  have ewe : ∀ c i, c < xC σ → i < xW σ c → ad' (60 + (20 * c + i)) = ad (60 + (20 * c + i)) := fun c i hc hi => by
    have h20 := hW c (by omega)
    exact h (60 + (20 * c + i)) _ (by rw [xx_well0 (by omega), show (20 * c + i) / 20 = c by omega, show (20 * c + i) % 20 = i by omega, if_pos ⟨hc, hi⟩])
  have esh : ∀ k, k < xN σ → ad' (220 + k) = ad (220 + k) := fun k hk => h (220 + k) _ (by rw [xx_share0 (by omega), if_pos hk])
  funext i
  rcases Nat.lt_or_ge i 8 with g | g
  · rcases (show i = 0 ∨ i = 1 ∨ i = 2 ∨ i = 3 ∨ i = 4 ∨ i = 5 ∨ i = 6 ∨ i = 7 by omega) with rfl | rfl | rfl | rfl | rfl | rfl | rfl | rfl
    · rw [xx_0, xx_0]
      unfold xx_fs1
      rw [e1, e4, e5, e6, hA 21 (by decide) (by decide), hA 22 (by decide) (by decide), hA 31 (by decide) (by decide), hA 32 (by decide) (by decide), hA 33 (by decide) (by decide), hA 35 (by decide) (by decide), hA 20 (by decide) (by decide), hA 19 (by decide) (by decide)]
    · rw [xx_1, xx_1]
      unfold xx_fs2
      rw [e2, e3, hA 23 (by decide) (by decide)]
    · rfl
    · rfl
    · rw [xx_4, xx_4]
      congr 4
      refine congrArg xx_rf (funext fun k => ?_)
      by_cases hk : k < xC σ
      · rw [if_pos hk, if_pos hk, ech k hk]
      · rw [if_neg hk, if_neg hk]
    · rw [xx_5, xx_5]
      congr 4
      refine congrArg xx_rf (funext fun k => ?_)
      by_cases hk : k < xN σ
      · rw [if_pos hk, if_pos hk, esh k hk]
      · rw [if_neg hk, if_neg hk]
    · rfl
    · rfl
  rcases Nat.lt_or_ge i 40 with g2 | g2
  · by_cases hk : xx_len i = 0
    · rw [xx_none (Or.inr ⟨by omega, g2, hk⟩), xx_none (Or.inr ⟨by omega, g2, hk⟩)]
    · rw [xx_arr hk ⟨by omega, g2⟩, xx_arr hk ⟨by omega, g2⟩]
  rcases Nat.lt_or_ge i 50 with g3 | g3
  · obtain ⟨c, rfl⟩ : ∃ c, i = 40 + c := ⟨i - 40, by omega⟩
    rw [xx_chan0 (by omega), xx_chan0 (by omega)]
    by_cases hc : c < xC σ
    · rw [if_pos hc, if_pos hc]
      unfold xx_fs5
      rw [ews c hc]
    · rw [if_neg hc, if_neg hc]
  rcases Nat.lt_or_ge i 60 with g4 | g4
  · obtain ⟨c, rfl⟩ : ∃ c, i = 50 + c := ⟨i - 50, by omega⟩
    rw [xx_wells0 (by omega), xx_wells0 (by omega)]
    by_cases hc : c < xC σ
    · rw [if_pos hc, if_pos hc]
      congr 4
      refine congrArg xx_rf (funext fun k => ?_)
      by_cases hk : k < xW σ c
      · rw [if_pos hk, if_pos hk, ewe c k hc hk]
      · rw [if_neg hk, if_neg hk]
    · rw [if_neg hc, if_neg hc]
  rcases Nat.lt_or_ge i 220 with g5 | g5
  · obtain ⟨j, rfl⟩ : ∃ j, i = 60 + j := ⟨i - 60, by omega⟩
    rw [xx_well0 (by omega), xx_well0 (by omega)]
  rcases Nat.lt_or_ge i 280 with g6 | g6
  · obtain ⟨k, rfl⟩ : ∃ k, i = 220 + k := ⟨i - 220, by omega⟩
    rw [xx_share0 (by omega), xx_share0 (by omega)]
    by_cases hk : k < xN σ
    · rw [if_pos hk, if_pos hk]
      unfold xx_fs7
      rw [ech _ (hs k hk (by omega))]
    · rw [if_neg hk, if_neg hk]
  · rw [xx_none (Or.inl g6), xx_none (Or.inl g6)]
end XW
theorem xk.adr {G : gw_G} {ad ad' wk : Nat → Nat} {σ : xS} {nC nS : Nat} {nW : Nat → Nat} (hk : xk σ nC nS nW) (h : ∀ i x, xx_w G ad wk σ i = some x → ad' i = ad i) : xx_w G ad' wk σ = xx_w G ad wk σ :=
  xx_ad h (fun k h1 _ => by
    rw [hk.N] at h1
    obtain ⟨q, hq, e⟩ := hk.2.2.2 k h1
    rw [e, nI_clamp (by have := hk.1.2; omega), hk.C]
    exact hq) (by rw [hk.C]; exact hk.1.2) (by rw [hk.N]; exact hk.2.1.2) (fun c hc => by rw [hk.W hc]; exact (hk.2.2.1 c hc).2)
