/-! the system's world grows: a share, a channel, a well -/
theorem xs_ar_s (σ : xS) (k n : Nat) (v : Int32) : (xs_ar σ k n v).1.2 k n = v := mm_ar_s _ _ _ _
theorem xs_ar_n {σ : xS} {k n j : Nat} {v : Int32} (h : j ≠ n) : (xs_ar σ k n v).1.2 k j = σ.1.2 k j := mm_ar_n h
theorem xs_ar_o {σ : xS} {k k2 n : Nat} {v : Int32} (h : k2 ≠ k) : (xs_ar σ k n v).1.2 k2 = σ.1.2 k2 := mm_ar_o h
section XG
variable {G : gw_G} {ad ad' wk : Nat → Nat} {σ τ : xS} {nC nS : Nat} {nW : Nat → Nat}
theorem xx_cg2 (i : Nat) (e10 : i = 4 ∨ (40 ≤ i ∧ i < 220) → xC σ = xC τ) (e17 : i = 5 ∨ 220 ≤ i → xN σ = xN τ) (h1 : i = 0 → xx_fs1 ad σ.1.1 = xx_fs1 ad τ.1.1) (h2 : i = 1 → xx_fs2 ad σ.1.1 = xx_fs2 ad τ.1.1) (h3 : i = 2 → xx_fs3 σ.1.1 = xx_fs3 τ.1.1) (hL : σ.2 = τ.2) (hA : 7 < i → i < 40 → xx_len i ≠ 0 → σ.1.2 i = τ.1.2 i) (hW : ∀ c, ((i = 50 + c ∧ i < 60) ∨ (60 ≤ i ∧ i < 220 ∧ (i - 60) / 20 = c)) → xW σ c = xW τ c)
    (hch : ∀ c, c < 10 → i = 40 + c → xx_fs5 ad σ.1 c = xx_fs5 ad τ.1 c) (hwe : ∀ j, j < 160 → i = 60 + j → xx_fs6 σ.1 j = xx_fs6 τ.1 j) (hsh : ∀ k, k < 60 → i = 220 + k → xx_fs7 ad σ.1 k = xx_fs7 ad τ.1 k) : xx_w G ad wk σ i = xx_w G ad wk τ i := by
  rcases Nat.lt_or_ge i 8 with g | g
  · rcases (show i = 0 ∨ i = 1 ∨ i = 2 ∨ i = 3 ∨ i = 4 ∨ i = 5 ∨ i = 6 ∨ i = 7 by omega) with rfl | rfl | rfl | rfl | rfl | rfl | rfl | rfl
    · rw [xx_0, xx_0, h1 rfl]
    · rw [xx_1, xx_1, h2 rfl]
    · rw [xx_2, xx_2, h3 rfl]
    · rw [xx_3, xx_3]
    · rw [xx_4, xx_4, e10 (Or.inl rfl)]
    · rw [xx_5, xx_5, e17 (Or.inl rfl)]
    · rw [xx_6, xx_6, hL]
    · rw [xx_7, xx_7, hL]
  rcases Nat.lt_or_ge i 40 with g2 | g2
  · by_cases hk : xx_len i = 0
    · rw [xx_none (Or.inr ⟨by omega, g2, hk⟩), xx_none (Or.inr ⟨by omega, g2, hk⟩)]
    · rw [xx_arr hk ⟨by omega, g2⟩, xx_arr hk ⟨by omega, g2⟩, hA (by omega) g2 hk]
  rcases Nat.lt_or_ge i 50 with g3 | g3
  · obtain ⟨c, rfl⟩ : ∃ c, i = 40 + c := ⟨i - 40, by omega⟩
    rw [xx_chan0 (by omega), xx_chan0 (by omega), e10 (Or.inr (by omega)), hch c (by omega) rfl]
  rcases Nat.lt_or_ge i 60 with g4 | g4
  · obtain ⟨c, rfl⟩ : ∃ c, i = 50 + c := ⟨i - 50, by omega⟩
    rw [xx_wells0 (by omega), xx_wells0 (by omega), e10 (Or.inr (by omega)), hW c (Or.inl ⟨rfl, g4⟩)]
  rcases Nat.lt_or_ge i 220 with g5 | g5
  · obtain ⟨j, rfl⟩ : ∃ j, i = 60 + j := ⟨i - 60, by omega⟩
    rw [xx_well0 (by omega), xx_well0 (by omega), e10 (Or.inr (by omega)), hW (j / 20) (Or.inr (by refine ⟨by omega, by omega, ?_⟩; rw [show 60 + j - 60 = j by omega])), hwe j (by omega) rfl]
  rcases Nat.lt_or_ge i 280 with g6 | g6
  · obtain ⟨k, rfl⟩ : ∃ k, i = 220 + k := ⟨i - 220, by omega⟩
    rw [xx_share0 (by omega), xx_share0 (by omega), e17 (Or.inr (by omega)), hsh k (by omega) rfl]
  · rw [xx_none (Or.inl g6), xx_none (Or.inl g6)]
theorem xx_free_share (hk : xk σ nC nS nW) (h : nS < 60) : xx_w G ad wk σ (220 + nS) = none := by rw [xx_share0 h, hk.N, if_neg (Nat.lt_irrefl _)]
theorem xx_free_chan (hk : xk σ nC nS nW) (h : nC < 8) : xx_w G ad wk σ (40 + nC) = none := by rw [xx_chan0 (by omega), hk.C, if_neg (Nat.lt_irrefl _)]
theorem xx_free_wells (hk : xk σ nC nS nW) (h : nC < 8) : xx_w G ad wk σ (50 + nC) = none := by rw [xx_wells0 (by omega), hk.C, if_neg (Nat.lt_irrefl _)]
theorem xx_free_well (hk : xk σ nC nS nW) {k : Nat} (hkk : k < nC) (h : nW k < 20) : xx_w G ad wk σ (60 + (20 * k + nW k)) = none := by
  have h8 := hk.1.2
  rw [xx_well0 (by omega), show (20 * k + nW k) / 20 = k by omega, show (20 * k + nW k) % 20 = nW k by omega, hk.W (by omega), if_neg (fun h => Nat.lt_irrefl _ h.2)]
/-- a new share -/
def xAdd (σ : xS) (n q : Nat) (f t o : Int32) : xS := xs_st (xs_ar (xs_ar (xs_ar (xs_ar (xs_ar (xs_ar (xs_ar σ 16 (7 * n) (nI q)) 16 (7 * n + 1) f) 16 (7 * n + 2) t) 16 (7 * n + 3) o) 16 (7 * n + 4) (-1)) 16 (7 * n + 5) 0) 16 (7 * n + 6) 0) 17 (nI (n + 1))
theorem xAdd_o (σ : xS) (n q : Nat) (f t o : Int32) {k : Nat} (h : k ≠ 16) : (xAdd σ n q f t o).1.2 k = σ.1.2 k := by
  show (xs_ar _ 16 _ _).1.2 k = _
  rw [xs_ar_o h, xs_ar_o h, xs_ar_o h, xs_ar_o h, xs_ar_o h, xs_ar_o h, xs_ar_o h]
theorem xAdd_at (σ : xS) (n q : Nat) (f t o : Int32) {j : Nat} (h : j < 7 * n ∨ 7 * n + 6 < j) : (xAdd σ n q f t o).1.2 16 j = σ.1.2 16 j := by
  show (xs_ar _ 16 _ _).1.2 16 j = _
  rw [xs_ar_n (by omega), xs_ar_n (by omega), xs_ar_n (by omega), xs_ar_n (by omega), xs_ar_n (by omega), xs_ar_n (by omega), xs_ar_n (by omega)]
theorem xAdd_0 (σ : xS) (n q : Nat) (f t o : Int32) : (xAdd σ n q f t o).1.2 16 (7 * n) = nI q := by
  show (xs_ar _ 16 _ _).1.2 16 _ = _
  rw [xs_ar_n (by omega), xs_ar_n (by omega), xs_ar_n (by omega), xs_ar_n (by omega), xs_ar_n (by omega), xs_ar_n (by omega), xs_ar_s]
theorem xAdd_1 (σ : xS) (n q : Nat) (f t o : Int32) : (xAdd σ n q f t o).1.2 16 (7 * n + 1) = f := by
  show (xs_ar _ 16 _ _).1.2 16 _ = _
  rw [xs_ar_n (by omega), xs_ar_n (by omega), xs_ar_n (by omega), xs_ar_n (by omega), xs_ar_n (by omega), xs_ar_s]
theorem xAdd_2 (σ : xS) (n q : Nat) (f t o : Int32) : (xAdd σ n q f t o).1.2 16 (7 * n + 2) = t := by
  show (xs_ar _ 16 _ _).1.2 16 _ = _
  rw [xs_ar_n (by omega), xs_ar_n (by omega), xs_ar_n (by omega), xs_ar_n (by omega), xs_ar_s]
theorem xAdd_3 (σ : xS) (n q : Nat) (f t o : Int32) : (xAdd σ n q f t o).1.2 16 (7 * n + 3) = o := by
  show (xs_ar _ 16 _ _).1.2 16 _ = _
  rw [xs_ar_n (by omega), xs_ar_n (by omega), xs_ar_n (by omega), xs_ar_s]
theorem xAdd_4 (σ : xS) (n q : Nat) (f t o : Int32) : (xAdd σ n q f t o).1.2 16 (7 * n + 4) = -1 := by
  show (xs_ar _ 16 _ _).1.2 16 _ = _
  rw [xs_ar_n (by omega), xs_ar_n (by omega), xs_ar_s]
theorem xAdd_5 (σ : xS) (n q : Nat) (f t o : Int32) : (xAdd σ n q f t o).1.2 16 (7 * n + 5) = 0 := by
  show (xs_ar _ 16 _ _).1.2 16 _ = _
  rw [xs_ar_n (by omega), xs_ar_s]
theorem xAdd_6 (σ : xS) (n q : Nat) (f t o : Int32) : (xAdd σ n q f t o).1.2 16 (7 * n + 6) = 0 := by
  show (xs_ar _ 16 _ _).1.2 16 _ = _
  rw [xs_ar_s]
theorem xk.add (hk : xk σ nC nS nW) (hS : nS < 60) {q : Nat} (hq : q < nC) (f t o : Int32) : xk (xAdd σ nS q f t o) nC (nS + 1) nW := by
  refine ⟨⟨hk.1.1, hk.1.2⟩, ⟨rfl, by omega⟩, fun c hc => ?_, fun k hkS => ?_⟩
  · rw [xAdd_o _ _ _ _ _ _ (by decide)]
    exact hk.2.2.1 c hc
  · by_cases e : k = nS
    · subst e
      exact ⟨q, hq, xAdd_0 _ _ _ _ _ _⟩
    · obtain ⟨z, hz, h⟩ := hk.2.2.2 k (by omega)
      exact ⟨z, hz, by rw [xAdd_at _ _ _ _ _ _ (by omega)]; exact h⟩
theorem xx_fs1_ad (F : Nat → Int32) (h : ∀ j, j < 36 → ad' j = ad j) : xx_fs1 ad' F = xx_fs1 ad F := by
  unfold xx_fs1
  rw [h 1 (by decide), h 4 (by decide), h 5 (by decide), h 21 (by decide), h 22 (by decide), h 31 (by decide), h 32 (by decide), h 33 (by decide), h 35 (by decide), h 20 (by decide), h 19 (by decide), h 6 (by decide)]
theorem xx_add (hk : xk σ nC nS nW) (hS : nS < 60) (hext : ∀ j, j ≠ 220 + nS → ad' j = ad j) {q : Nat} (hq : q < nC) (f t o : Int32) :
    va_up (va_up (va_up (xx_w G ad wk σ) (220 + nS) (some (.inr (6, [.ref (ad (40 + q)), .int (nI q), .int f, .int t, .int o, .int (-1), .int 0, .int 0])))) 5 (some (.inl (G.2 6, 60, xx_rf (va_up (fun k => if k < xN σ then some (ad (220 + k)) else none) nS (some (ad' (220 + nS)))))))) 0 (some (.inr (1, (xx_fs1 ad σ.1.1).set 14 (.int (nI (nS + 1)))))) = xx_w G ad' wk (xAdd σ nS q f t o) := by
  have h8 := hk.1.2
  have hk' := hk.add hS hq f t o
  have hAd : xx_w G ad wk σ = xx_w G ad' wk σ := (hk.adr (fun i x hx => hext i (by rintro rfl; rw [xx_free_share hk hS] at hx; cases hx))).symm
  funext i
  by_cases h0 : i = 0
  · subst h0
    rw [xx_as, xx_0, xx_fs1_ad (ad := ad) (ad' := ad') _ (fun j hj => hext j (by omega))]
    rfl
  rw [xx_at h0]
  by_cases h5 : i = 5
  · subst h5
    rw [xx_as, xx_5]
    refine congrArg (fun z => some (Sum.inl (G.2 6, 60, xx_rf z))) (funext fun k => ?_)
    rw [hk'.N, hk.N]
    by_cases e : k = nS
    · subst e
      simp only [va_up, if_true]
      rw [if_pos (Nat.lt_succ_self _)]
    · simp only [va_up, if_neg e]
      by_cases g : k < nS
      · rw [if_pos g, if_pos (by omega), hext (220 + k) (by omega)]
      · rw [if_neg g, if_neg (by omega)]
  rw [xx_at h5]
  by_cases hs : i = 220 + nS
  · subst hs
    rw [xx_as, xx_share hk' (Nat.lt_succ_self _)]
    unfold xx_fs7
    rw [xAdd_0, xAdd_1, xAdd_2, xAdd_3, xAdd_4, xAdd_5, xAdd_6, nI_clamp (by omega), hext (40 + q) (by omega)]
  rw [xx_at hs, hAd]
  rcases Nat.lt_or_ge i 220 with g | g
  · exact xx_cg2 i (fun _ => rfl) (fun h => by omega) (fun e => absurd e h0) (fun _ => rfl) (fun _ => rfl) rfl (fun _ _ h3 => (xAdd_o _ _ _ _ _ _ (by rintro rfl; simp [xx_len] at h3)).symm) (fun c _ => by unfold xW; rw [xAdd_o _ _ _ _ _ _ (by decide)])
      (fun c _ _ => by unfold xx_fs5; rw [xAdd_o _ _ _ _ _ _ (by decide), xAdd_o _ _ _ _ _ _ (by decide), xAdd_o _ _ _ _ _ _ (by decide), xAdd_o _ _ _ _ _ _ (by decide)]) (fun j _ _ => by unfold xx_fs6; rw [xAdd_o _ _ _ _ _ _ (by decide), xAdd_o _ _ _ _ _ _ (by decide), xAdd_o _ _ _ _ _ _ (by decide), xAdd_o _ _ _ _ _ _ (by decide)]) (fun k _ e => by omega)
  · rcases Nat.lt_or_ge i 280 with g6 | g6
    · obtain ⟨k, rfl⟩ : ∃ k, i = 220 + k := ⟨i - 220, by omega⟩
      rw [xx_share0 (by omega), xx_share0 (by omega), hk.N, hk'.N]
      by_cases e : k < nS
      · rw [if_pos e, if_pos (by omega)]
        unfold xx_fs7
        rw [xAdd_at _ _ _ _ _ _ (by omega), xAdd_at _ _ _ _ _ _ (by omega), xAdd_at _ _ _ _ _ _ (by omega), xAdd_at _ _ _ _ _ _ (by omega), xAdd_at _ _ _ _ _ _ (by omega), xAdd_at _ _ _ _ _ _ (by omega), xAdd_at _ _ _ _ _ _ (by omega)]
      · rw [if_neg e, if_neg (by omega)]
    · rw [xx_none (Or.inl g6), xx_none (Or.inl g6)]
/-- a new channel -/
def xNew (σ : xS) (n : Nat) : xS := xs_st (xs_ar (xs_ar (xs_ar (xs_ar σ 5 n 0) 7 n 0) 8 n (-1)) 9 n 0) 10 (nI (n + 1))
def xNewW (nW : Nat → Nat) (n c : Nat) : Nat := if c = n then 0 else nW c
theorem xNew_o (σ : xS) (n : Nat) {k : Nat} (h5 : k ≠ 5) (h7 : k ≠ 7) (h8 : k ≠ 8) (h9 : k ≠ 9) : (xNew σ n).1.2 k = σ.1.2 k := by
  show (xs_ar _ 9 _ _).1.2 k = _
  rw [xs_ar_o h9, xs_ar_o h8, xs_ar_o h7, xs_ar_o h5]
theorem xNew_n (σ : xS) (n k : Nat) {j : Nat} (h : j ≠ n) : (xNew σ n).1.2 k j = σ.1.2 k j := by
  show (xs_ar (xs_ar (xs_ar (xs_ar σ 5 n 0) 7 n 0) 8 n (-1)) 9 n 0).1.2 k j = _
  have key : ∀ (ρ : xS) (z : Nat) (v : Int32), (xs_ar ρ z n v).1.2 k j = ρ.1.2 k j := by
    intro ρ z v
    by_cases e : k = z
    · subst e
      exact xs_ar_n h
    · rw [xs_ar_o e]
  rw [key, key, key, key]
theorem xNew_s (σ : xS) (n : Nat) : (xNew σ n).1.2 5 n = 0 ∧ (xNew σ n).1.2 7 n = 0 ∧ (xNew σ n).1.2 8 n = -1 ∧ (xNew σ n).1.2 9 n = 0 := by
  refine ⟨?_, ?_, ?_, ?_⟩
  · show (xs_ar (xs_ar (xs_ar (xs_ar σ 5 n 0) 7 n 0) 8 n (-1)) 9 n 0).1.2 5 n = _
    rw [xs_ar_o (by decide), xs_ar_o (by decide), xs_ar_o (by decide), xs_ar_s]
  · show (xs_ar (xs_ar (xs_ar (xs_ar σ 5 n 0) 7 n 0) 8 n (-1)) 9 n 0).1.2 7 n = _
    rw [xs_ar_o (by decide), xs_ar_o (by decide), xs_ar_s]
  · show (xs_ar (xs_ar (xs_ar (xs_ar σ 5 n 0) 7 n 0) 8 n (-1)) 9 n 0).1.2 8 n = _
    rw [xs_ar_o (by decide), xs_ar_s]
  · show (xs_ar (xs_ar (xs_ar (xs_ar σ 5 n 0) 7 n 0) 8 n (-1)) 9 n 0).1.2 9 n = _
    rw [xs_ar_s]
theorem xk.new (hk : xk σ nC nS nW) (hC : nC < 8) : xk (xNew σ nC) (nC + 1) nS (xNewW nW nC) := by
  refine ⟨⟨rfl, by omega⟩, hk.2.1, fun c hc => ?_, fun k hkS => ?_⟩
  · by_cases e : c = nC
    · subst e
      rw [(xNew_s σ c).1, xNewW, if_pos rfl]
      exact ⟨rfl, by omega⟩
    · rw [xNew_n _ _ _ e, xNewW, if_neg e]
      exact hk.2.2.1 c hc
  · obtain ⟨z, hz, h⟩ := hk.2.2.2 k hkS
    exact ⟨z, by omega, by rw [xNew_o _ _ (by decide) (by decide) (by decide) (by decide)]; exact h⟩
theorem xx_newch (hk : xk σ nC nS nW) (hC : nC < 8) (hext : ∀ j, j ≠ 40 + nC → j ≠ 50 + nC → ad' j = ad j) :
    va_up (va_up (va_up (va_up (xx_w G ad wk σ) (50 + nC) (some (.inl (G.2 5, 20, xx_rf (fun _ => none))))) (40 + nC) (some (.inr (4, [.ref (ad' (50 + nC)), .int 0, .int 0, .int (-1), .int 0])))) 4 (some (.inl (G.2 4, 8, xx_rf (va_up (fun k => if k < xC σ then some (ad (40 + k)) else none) nC (some (ad' (40 + nC)))))))) 0 (some (.inr (1, (xx_fs1 ad σ.1.1).set 12 (.int (nI (nC + 1)))))) = xx_w G ad' wk (xNew σ nC) := by
  have hk' := hk.new hC
  have hAd : xx_w G ad wk σ = xx_w G ad' wk σ := (hk.adr (fun i x hx => hext i (by rintro rfl; rw [xx_free_chan hk hC] at hx; cases hx) (by rintro rfl; rw [xx_free_wells hk hC] at hx; cases hx))).symm
  funext i
  by_cases h0 : i = 0
  · subst h0
    rw [xx_as, xx_0, xx_fs1_ad (ad := ad) (ad' := ad') _ (fun j hj => hext j (by omega) (by omega))]
    rfl
  rw [xx_at h0]
  by_cases h4 : i = 4
  · subst h4
    rw [xx_as, xx_4]
    refine congrArg (fun z => some (Sum.inl (G.2 4, 8, xx_rf z))) (funext fun k => ?_)
    rw [hk'.C, hk.C]
    by_cases e : k = nC
    · subst e
      simp only [va_up, if_true]
      rw [if_pos (Nat.lt_succ_self _)]
    · simp only [va_up, if_neg e]
      by_cases g : k < nC
      · rw [if_pos g, if_pos (by omega), hext (40 + k) (by omega) (by omega)]
      · rw [if_neg g, if_neg (by omega)]
  rw [xx_at h4]
  by_cases hc : i = 40 + nC
  · subst hc
    rw [xx_as, xx_chan hk' (Nat.lt_succ_self _)]
    unfold xx_fs5
    rw [(xNew_s σ nC).1, (xNew_s σ nC).2.1, (xNew_s σ nC).2.2.1, (xNew_s σ nC).2.2.2]
  rw [xx_at hc]
  by_cases hw : i = 50 + nC
  · subst hw
    rw [xx_as, xx_wells hk' (Nat.lt_succ_self _)]
    refine congrArg (fun z => some (Sum.inl (G.2 5, 20, xx_rf z))) (funext fun k => ?_)
    rw [hk'.W (by omega), xNewW, if_pos rfl, if_neg (Nat.not_lt_zero _)]
  rw [xx_at hw, hAd]
  rcases Nat.lt_or_ge i 40 with g | g
  · exact xx_cg2 i (fun h => by omega) (fun _ => rfl) (fun e => absurd e h0) (fun _ => rfl) (fun _ => rfl) rfl (fun _ _ h3 => (xNew_o _ _ (by rintro rfl; simp [xx_len] at h3) (by rintro rfl; simp [xx_len] at h3) (by rintro rfl; simp [xx_len] at h3) (by rintro rfl; simp [xx_len] at h3)).symm) (fun c h => by omega) (fun c _ e => by omega) (fun j _ e => by omega) (fun k _ e => by omega)
  rcases Nat.lt_or_ge i 50 with g3 | g3
  · obtain ⟨c, rfl⟩ : ∃ c, i = 40 + c := ⟨i - 40, by omega⟩
    rw [xx_chan0 (by omega), xx_chan0 (by omega), hk.C, hk'.C]
    by_cases e : c < nC
    · rw [if_pos e, if_pos (by omega)]
      unfold xx_fs5
      rw [xNew_n _ _ _ (by omega), xNew_n _ _ _ (by omega), xNew_n _ _ _ (by omega), xNew_n _ _ _ (by omega)]
    · rw [if_neg e, if_neg (by omega)]
  rcases Nat.lt_or_ge i 60 with g4 | g4
  · obtain ⟨c, rfl⟩ : ∃ c, i = 50 + c := ⟨i - 50, by omega⟩
    rw [xx_wells0 (by omega), xx_wells0 (by omega), hk.C, hk'.C]
    by_cases e : c < nC
    · rw [if_pos e, if_pos (by omega), hk.W (by omega), hk'.W (by omega), xNewW, if_neg (by omega)]
    · rw [if_neg e, if_neg (by omega)]
  rcases Nat.lt_or_ge i 220 with g5 | g5
  · obtain ⟨j, rfl⟩ : ∃ j, i = 60 + j := ⟨i - 60, by omega⟩
    rw [xx_well0 (by omega), xx_well0 (by omega), hk.C, hk'.C]
    have e6 : xx_fs6 (xNew σ nC).1 j = xx_fs6 σ.1 j := by
      unfold xx_fs6
      rw [xNew_o _ _ (by decide) (by decide) (by decide) (by decide), xNew_o _ _ (by decide) (by decide) (by decide) (by decide), xNew_o _ _ (by decide) (by decide) (by decide) (by decide), xNew_o _ _ (by decide) (by decide) (by decide) (by decide)]
    rw [e6]
    by_cases e : j / 20 < nC
    · rw [hk.W (by omega), hk'.W (by omega), show xNewW nW nC (j / 20) = nW (j / 20) by rw [xNewW, if_neg (by omega)]]
      by_cases g9 : j % 20 < nW (j / 20)
      · rw [if_pos ⟨e, g9⟩, if_pos ⟨by omega, g9⟩]
      · rw [if_neg (fun h => g9 h.2), if_neg (fun h => g9 h.2)]
    · rw [if_neg (fun h => e h.1)]
      by_cases e2 : j / 20 = nC
      · rw [hk'.W (by omega), show xNewW nW nC (j / 20) = 0 by rw [xNewW, if_pos e2], if_neg (fun h => Nat.not_lt_zero _ h.2)]
      · rw [if_neg (fun h => by omega)]
  · exact xx_cg2 i (fun h => by omega) (fun _ => rfl) (fun e => absurd e h0) (fun _ => rfl) (fun _ => rfl) rfl (fun _ _ h3 => by omega) (fun c h => by omega) (fun c _ e => by omega) (fun j _ e => by omega) (fun k _ e => by
      unfold xx_fs7
      rw [xNew_o _ _ (by decide) (by decide) (by decide) (by decide)])
/-- a new well -/
def xNewE (σ : xS) (k n : Nat) (x y f : Int32) : xS := xs_ar (xs_ar (xs_ar (xs_ar (xs_ar σ 12 (20 * k + n) x) 13 (20 * k + n) y) 14 (20 * k + n) f) 15 (20 * k + n) 0) 5 k (nI (n + 1))
def xNewEW (nW : Nat → Nat) (k c : Nat) : Nat := if c = k then nW k + 1 else nW c
theorem xNewE_o (σ : xS) (k n : Nat) (x y f : Int32) {j : Nat} (h : j ≠ 5) (h1 : j ≠ 12) (h2 : j ≠ 13) (h3 : j ≠ 14) (h4 : j ≠ 15) : (xNewE σ k n x y f).1.2 j = σ.1.2 j := by
  show (xs_ar _ 5 _ _).1.2 j = _
  rw [xs_ar_o h, xs_ar_o h4, xs_ar_o h3, xs_ar_o h2, xs_ar_o h1]
theorem xNewE_5 (σ : xS) (k n : Nat) (x y f : Int32) (c : Nat) : (xNewE σ k n x y f).1.2 5 c = if c = k then nI (n + 1) else σ.1.2 5 c := by
  show (xs_ar _ 5 _ _).1.2 5 c = _
  by_cases e : c = k
  · subst e
    rw [xs_ar_s, if_pos rfl]
  · rw [xs_ar_n e, if_neg e, xs_ar_o (by decide), xs_ar_o (by decide), xs_ar_o (by decide), xs_ar_o (by decide)]
theorem xNewE_w (σ : xS) (k n : Nat) (x y f : Int32) (j : Nat) : xx_fs6 (xNewE σ k n x y f).1 j = if j = 20 * k + n then [.int x, .int y, .int f, .int 0] else xx_fs6 σ.1 j := by
  unfold xx_fs6
  unfold xNewE
  rw [xs_ar_o (by decide), xs_ar_o (by decide), xs_ar_o (by decide), xs_ar_o (by decide)]
  rw [xs_ar_o (k := 5) (k2 := 13) (by decide), xs_ar_o (k := 15) (k2 := 13) (by decide), xs_ar_o (k := 14) (k2 := 13) (by decide)]
  rw [xs_ar_o (k := 5) (k2 := 14) (by decide), xs_ar_o (k := 15) (k2 := 14) (by decide), xs_ar_o (k := 5) (k2 := 15) (by decide)]
  by_cases e : j = 20 * k + n
  · subst e
    rw [if_pos rfl, xs_ar_s, xs_ar_s, xs_ar_s, xs_ar_s]
  · rw [if_neg e, xs_ar_n e, xs_ar_n e, xs_ar_n e, xs_ar_n e]
    rw [xs_ar_o (by decide), xs_ar_o (k := 13) (k2 := 14) (by decide), xs_ar_o (k := 12) (k2 := 14) (by decide), xs_ar_o (k := 14) (k2 := 15) (by decide), xs_ar_o (k := 13) (k2 := 15) (by decide), xs_ar_o (k := 12) (k2 := 15) (by decide)]
theorem xk.newE (hk : xk σ nC nS nW) {k : Nat} (hkk : k < nC) (h : nW k < 20) (x y f : Int32) : xk (xNewE σ k (nW k) x y f) nC nS (xNewEW nW k) := by
  refine ⟨hk.1, hk.2.1, fun c hc => ?_, fun q hq => ?_⟩
  · rw [xNewE_5, xNewEW]
    by_cases e : c = k
    · rw [if_pos e, if_pos e]
      exact ⟨rfl, by omega⟩
    · rw [if_neg e, if_neg e]
      exact hk.2.2.1 c hc
  · rw [xNewE_o _ _ _ _ _ _ (by decide) (by decide) (by decide) (by decide) (by decide)]
    exact hk.2.2.2 q hq
theorem xx_newwe (hk : xk σ nC nS nW) {k : Nat} (hkk : k < nC) (h : nW k < 20) (hext : ∀ j, j ≠ 60 + (20 * k + nW k) → ad' j = ad j) (x y f : Int32) :
    va_up (va_up (va_up (xx_w G ad wk σ) (60 + (20 * k + nW k)) (some (.inr (5, [.int x, .int y, .int f, .int 0])))) (50 + k) (some (.inl (G.2 5, 20, xx_rf (va_up (fun z => if z < xW σ k then some (ad (60 + (20 * k + z))) else none) (nW k) (some (ad' (60 + (20 * k + nW k))))))))) (40 + k) (some (.inr (4, (xx_fs5 ad σ.1 k).set 1 (.int (nI (nW k + 1)))))) = xx_w G ad' wk (xNewE σ k (nW k) x y f) := by
  have h8 := hk.1.2
  have hk' := hk.newE hkk h x y f
  have hAd : xx_w G ad wk σ = xx_w G ad' wk σ := (hk.adr (fun i x hx => hext i (by rintro rfl; rw [xx_free_well hk hkk h] at hx; cases hx))).symm
  funext i
  by_cases hc : i = 40 + k
  · subst hc
    rw [xx_as, xx_chan hk' hkk]
    unfold xx_fs5
    rw [xNewE_5, if_pos rfl, xNewE_o _ _ _ _ _ _ (by decide) (by decide) (by decide) (by decide) (by decide), xNewE_o _ _ _ _ _ _ (by decide) (by decide) (by decide) (by decide) (by decide), xNewE_o _ _ _ _ _ _ (by decide) (by decide) (by decide) (by decide) (by decide), hext (50 + k) (by omega)]
    rfl
  rw [xx_at hc]
  by_cases hw : i = 50 + k
  · subst hw
    rw [xx_as, xx_wells hk' hkk]
    refine congrArg (fun z => some (Sum.inl (G.2 5, 20, xx_rf z))) (funext fun z => ?_)
    rw [hk'.W (by omega), hk.W (by omega), xNewEW, if_pos rfl]
    by_cases e : z = nW k
    · subst e
      simp only [va_up, if_true]
      rw [if_pos (Nat.lt_succ_self _)]
    · simp only [va_up, if_neg e]
      by_cases g : z < nW k
      · rw [if_pos g, if_pos (by omega), hext _ (by omega)]
      · rw [if_neg g, if_neg (by omega)]
  rw [xx_at hw]
  by_cases he : i = 60 + (20 * k + nW k)
  · subst he
    rw [xx_as, xx_well hk' hkk (show nW k < xNewEW nW k k by rw [xNewEW, if_pos rfl]; omega), xNewE_w, if_pos rfl]
  rw [xx_at he, hAd]
  rcases Nat.lt_or_ge i 60 with g | g
  · refine xx_cg2 i (fun _ => rfl) (fun _ => rfl) (fun _ => rfl) (fun _ => rfl) (fun _ => rfl) rfl (fun _ _ h3 => ?_) (fun c h => ?_) (fun c _ e => ?_) (fun j _ e => by omega) (fun k _ e => by omega)
    · have := xx_lenK h3
      exact (xNewE_o _ _ _ _ _ _ (by omega) (by omega) (by omega) (by omega) (by omega)).symm
    · unfold xW
      rw [xNewE_5, if_neg (by omega)]
    · unfold xx_fs5
      rw [xNewE_5, if_neg (by omega), xNewE_o _ _ _ _ _ _ (by decide) (by decide) (by decide) (by decide) (by decide), xNewE_o _ _ _ _ _ _ (by decide) (by decide) (by decide) (by decide) (by decide), xNewE_o _ _ _ _ _ _ (by decide) (by decide) (by decide) (by decide) (by decide)]
  rcases Nat.lt_or_ge i 220 with g5 | g5
  · obtain ⟨j, rfl⟩ : ∃ j, i = 60 + j := ⟨i - 60, by omega⟩
    rw [xx_well0 (by omega), xx_well0 (by omega), hk.C, hk'.C, show xx_fs6 (xNewE σ k (nW k) x y f).1 j = xx_fs6 σ.1 j by rw [xNewE_w, if_neg (by omega)]]
    by_cases e : j / 20 < nC
    · rw [hk.W (by omega), hk'.W (by omega)]
      by_cases ek : j / 20 = k
      · rw [show xNewEW nW k (j / 20) = nW k + 1 by rw [xNewEW, if_pos ek], ek]
        by_cases g9 : j % 20 < nW k
        · rw [if_pos ⟨hkk, g9⟩, if_pos ⟨hkk, Nat.lt_succ_of_lt g9⟩]
        · rw [if_neg (fun h => g9 h.2), if_neg (fun h => by have := h.2; omega)]
      · rw [show xNewEW nW k (j / 20) = nW (j / 20) by rw [xNewEW, if_neg ek]]
    · rw [if_neg (fun h => e h.1), if_neg (fun h => e h.1)]
  · exact xx_cg2 i (fun _ => rfl) (fun _ => rfl) (fun e => by omega) (fun _ => rfl) (fun _ => rfl) rfl (fun _ _ h3 => by omega) (fun c h => by omega) (fun c _ e => by omega) (fun j _ e => by omega) (fun k _ e => by
      unfold xx_fs7
      rw [xNewE_o _ _ _ _ _ _ (by decide) (by decide) (by decide) (by decide) (by decide)])
end XG
