/-! the system's world: what a store does to it -/
section XU
variable {G : gw_G} {ad wk : Nat → Nat} {σ : xS} {nC nS : Nat} {nW : Nat → Nat}
theorem xx_at {w : gw_W} {i j : Nat} {x : Option va_E} (h : j ≠ i) : va_up w i x j = w j := by simp only [va_up, if_neg h]
theorem xx_as {w : gw_W} {i : Nat} {x : Option va_E} : va_up w i x i = x := by simp only [va_up, if_true]
theorem xk.st (h : xk σ nC nS nW) {j : Nat} (v : Int32) (h1 : 10 ≠ j) (h2 : 17 ≠ j) : xk (xs_st σ j v) nC nS nW :=
  ⟨⟨by show va_up σ.1.1 j v 10 = _; simp only [va_up, if_neg h1]; exact h.1.1, h.1.2⟩, ⟨by show va_up σ.1.1 j v 17 = _; simp only [va_up, if_neg h2]; exact h.2.1.1, h.2.1.2⟩, h.2.2.1, h.2.2.2⟩
theorem xk.ar (h : xk σ nC nS nW) {k n : Nat} (v : Int32) (h1 : 5 ≠ k) (h2 : 16 ≠ k) : xk (xs_ar σ k n v) nC nS nW :=
  ⟨h.1, h.2.1, fun c hc => by show (mm_ar σ.1 k n v).2 5 c = _ ∧ _; rw [mm_ar_o h1]; exact h.2.2.1 c hc, fun q hq => by show ∃ z, z < nC ∧ (mm_ar σ.1 k n v).2 16 (7 * q) = nI z; rw [mm_ar_o h2]; exact h.2.2.2 q hq⟩
theorem xk.sh (h : xk σ nC nS nW) {n o : Nat} (v : Int32) (ho : 1 ≤ o ∧ o ≤ 6) : xk (xs_ar σ 16 (7 * n + o) v) nC nS nW :=
  ⟨h.1, h.2.1, fun c hc => by show (mm_ar σ.1 16 (7 * n + o) v).2 5 c = _ ∧ _; rw [mm_ar_o (by decide)]; exact h.2.2.1 c hc, fun q hq => by show ∃ z, z < nC ∧ (mm_ar σ.1 16 (7 * n + o) v).2 16 (7 * q) = nI z; rw [mm_ar_n (by omega)]; exact h.2.2.2 q hq⟩
theorem xk.lg (h : xk σ nC nS nW) {k n : Nat} (v : Int64) : xk (xs_lg σ k n v) nC nS nW := h
theorem xx_up1 {k j : Nat} (h : (k, j) ∈ ([(13, 11), (15, 1), (16, 2), (17, 3), (18, 4), (19, 34), (20, 28)] : List (Nat × Nat))) (v : Int32) : va_up (xx_w G ad wk σ) 0 (some (.inr (1, (xx_fs1 ad σ.1.1).set k (.int v)))) = xx_w G ad wk (xs_st σ j v) := by
  simp only [List.mem_cons, List.not_mem_nil, or_false, Prod.mk.injEq] at h
  funext i
  rcases h with ⟨rfl, rfl⟩ | ⟨rfl, rfl⟩ | ⟨rfl, rfl⟩ | ⟨rfl, rfl⟩ | ⟨rfl, rfl⟩ | ⟨rfl, rfl⟩ | ⟨rfl, rfl⟩ <;>
  · by_cases hi : i = 0
    · subst hi
      rw [xx_as]
      rfl
    · rw [xx_at hi]
      exact xx_cg i rfl rfl (fun e => absurd e hi) (fun _ => rfl) (fun _ => rfl) (fun _ => rfl) (fun _ => rfl) (fun _ _ _ => rfl) rfl (fun _ _ _ => rfl) (fun _ _ _ => rfl) (fun _ _ _ => rfl)
theorem xx_up2 {k j : Nat} (h : (k, j) ∈ ([(3, 24), (4, 26), (5, 25)] : List (Nat × Nat))) (v : Int32) : va_up (xx_w G ad wk σ) 1 (some (.inr (2, (xx_fs2 ad σ.1.1).set k (.int v)))) = xx_w G ad wk (xs_st σ j v) := by
  simp only [List.mem_cons, List.not_mem_nil, or_false, Prod.mk.injEq] at h
  funext i
  rcases h with ⟨rfl, rfl⟩ | ⟨rfl, rfl⟩ | ⟨rfl, rfl⟩ <;>
  · by_cases hi : i = 1
    · subst hi
      rw [xx_as]
      rfl
    · rw [xx_at hi]
      exact xx_cg i rfl rfl (fun _ => rfl) (fun e => absurd e hi) (fun _ => rfl) (fun _ => rfl) (fun _ => rfl) (fun _ _ _ => rfl) rfl (fun _ _ _ => rfl) (fun _ _ _ => rfl) (fun _ _ _ => rfl)
theorem xx_up3 (v : Int32) : va_up (xx_w G ad wk σ) 2 (some (.inr (3, (xx_fs3 σ.1.1).set 6 (.int v)))) = xx_w G ad wk (xs_st σ 37 v) := by
  funext i
  by_cases hi : i = 2
  · subst hi
    rw [xx_as]
    rfl
  · rw [xx_at hi]
    exact xx_cg i rfl rfl (fun _ => rfl) (fun _ => rfl) (fun e => absurd e hi) (fun _ => rfl) (fun _ => rfl) (fun _ _ _ => rfl) rfl (fun _ _ _ => rfl) (fun _ _ _ => rfl) (fun _ _ _ => rfl)
theorem xx_up5 (hk : xk σ nC nS nW) {c : Nat} (hc : c < nC) {k j : Nat} (h : (k, j) ∈ ([(2, 7), (3, 8), (4, 9)] : List (Nat × Nat))) (v : Int32) : va_up (xx_w G ad wk σ) (40 + c) (some (.inr (4, (xx_fs5 ad σ.1 c).set k (.int v)))) = xx_w G ad wk (xs_ar σ j c v) := by
  simp only [List.mem_cons, List.not_mem_nil, or_false, Prod.mk.injEq] at h
  funext i
  have h8 := hk.1.2
  rcases h with ⟨rfl, rfl⟩ | ⟨rfl, rfl⟩ | ⟨rfl, rfl⟩ <;>
  · by_cases hi : i = 40 + c
    · subst hi
      rw [xx_as, xx_chan (hk.ar v (by decide) (by decide)) hc]
      simp [xx_fs5, xs_ar, mm_ar, va_up, upd]
    · rw [xx_at hi]
      exact xx_cg i rfl rfl (fun _ => rfl) (fun _ => rfl) (fun _ => rfl) (fun _ => rfl) (fun _ => rfl) (fun h1 h2 h3 => (mm_ar_o (by rintro rfl; simp [xx_len] at h3)).symm) rfl (fun d _ e => by
        have hd : d ≠ c := by rintro rfl; exact hi e
        simp [xx_fs5, xs_ar, mm_ar, va_up, upd, hd]) (fun _ _ _ => rfl) (fun _ _ _ => rfl)
theorem xx_up6 (hk : xk σ nC nS nW) {c q : Nat} (hc : c < nC) (hq : q < nW c) (v : Int32) : va_up (xx_w G ad wk σ) (60 + (20 * c + q)) (some (.inr (5, (xx_fs6 σ.1 (20 * c + q)).set 3 (.int v)))) = xx_w G ad wk (xs_ar σ 15 (20 * c + q) v) := by
  funext i
  have h8 := hk.1.2
  have h20 := (hk.2.2.1 c (by omega)).2
  by_cases hi : i = 60 + (20 * c + q)
  · subst hi
    rw [xx_as, xx_well (hk.ar v (by decide) (by decide)) hc hq]
    simp [xx_fs6, xs_ar, mm_ar, va_up, upd]
  · rw [xx_at hi]
    exact xx_cg i rfl rfl (fun _ => rfl) (fun _ => rfl) (fun _ => rfl) (fun _ => rfl) (fun _ => rfl) (fun h1 h2 h3 => (mm_ar_o (by rintro rfl; simp [xx_len] at h3)).symm) rfl (fun _ _ _ => rfl) (fun d _ e => by
      have hd : d ≠ 20 * c + q := by rintro rfl; exact hi e
      simp [xx_fs6, xs_ar, mm_ar, va_up, upd, hd]) (fun _ _ _ => rfl)
theorem xx_up7 (hk : xk σ nC nS nW) {q : Nat} (hq : q < nS) {k o : Nat} (h : (k, o) ∈ ([(2, 1), (3, 2), (4, 3), (5, 4), (6, 5), (7, 6)] : List (Nat × Nat))) (v : Int32) : va_up (xx_w G ad wk σ) (220 + q) (some (.inr (6, (xx_fs7 ad σ.1 q).set k (.int v)))) = xx_w G ad wk (xs_ar σ 16 (7 * q + o) v) := by
  simp only [List.mem_cons, List.not_mem_nil, or_false, Prod.mk.injEq] at h
  funext i
  have h8 := hk.2.1.2
  rcases h with ⟨rfl, rfl⟩ | ⟨rfl, rfl⟩ | ⟨rfl, rfl⟩ | ⟨rfl, rfl⟩ | ⟨rfl, rfl⟩ | ⟨rfl, rfl⟩ <;>
  · by_cases hi : i = 220 + q
    · subst hi
      rw [xx_as, xx_share (hk.sh v (by decide)) hq]
      simp [xx_fs7, xs_ar, mm_ar, va_up, upd]
    · rw [xx_at hi]
      exact xx_cg i rfl rfl (fun _ => rfl) (fun _ => rfl) (fun _ => rfl) (fun _ => rfl) (fun _ => rfl) (fun h1 h2 h3 => (mm_ar_o (by rintro rfl; simp [xx_len] at h3)).symm) rfl (fun _ _ _ => rfl) (fun _ _ _ => rfl) (fun d _ e => by
        have hd : d ≠ q := by rintro rfl; exact hi e
        unfold xx_fs7
        simp only [xs_ar]
        rw [mm_ar_n (by omega), mm_ar_n (by omega), mm_ar_n (by omega), mm_ar_n (by omega), mm_ar_n (by omega), mm_ar_n (by omega), mm_ar_n (by omega)])
theorem xx_lenK {k : Nat} (hk : xx_len k ≠ 0) : k = 19 ∨ k = 20 ∨ k = 21 ∨ k = 22 ∨ k = 23 ∨ k = 31 ∨ k = 32 ∨ k = 33 ∨ k = 35 := by
  unfold xx_len at hk
  split at hk <;> first | omega | exact absurd rfl hk
theorem xx_upA {k : Nat} (hk : xx_len k ≠ 0) (n : Nat) (v : Int32) : va_up (xx_w G ad wk σ) k (some (.inl (G.2 (xx_ct k), xx_len k, .inl (upd (σ.1.2 k) n v)))) = xx_w G ad wk (xs_ar σ k n v) := by
  have hK := xx_lenK hk
  funext i
  by_cases hi : i = k
  · subst hi
    rw [xx_as, xx_arr hk (by omega)]
    simp [xs_ar, mm_ar, va_up]
  · rw [xx_at hi]
    have hne : ∀ j, j ≠ k → (xs_ar σ k n v).1.2 j = σ.1.2 j := fun j hj => mm_ar_o hj
    refine xx_cg i rfl rfl (fun _ => rfl) (fun _ => rfl) (fun _ => rfl) (fun _ => rfl) (fun _ => rfl) (fun h1 h2 h3 => (hne i hi).symm) (hne 5 (by omega)).symm (fun d _ _ => ?_) (fun d _ _ => ?_) (fun d _ _ => ?_)
    · unfold xx_fs5
      rw [hne 5 (by omega), hne 7 (by omega), hne 8 (by omega), hne 9 (by omega)]
    · unfold xx_fs6
      rw [hne 12 (by omega), hne 13 (by omega), hne 14 (by omega), hne 15 (by omega)]
    · unfold xx_fs7
      rw [hne 16 (by omega)]
theorem xx_upL {k : Nat} (hk : k < 2) (L n : Nat) (hL : L = if k = 0 then 31 else 1) (v : Int64) : va_up (xx_w G ad wk σ) (6 + k) (some (.inl (G.2 3, L, .inr (.inl (vp_updL (σ.2 k) n v))))) = xx_w G ad wk (xs_lg σ k n v) := by
  funext i
  rcases (show k = 0 ∨ k = 1 by omega) with rfl | rfl <;>
  · subst hL
    by_cases hi : i = 6 + 0 ∨ i = 6 + 1
    · rcases hi with rfl | rfl <;> simp [va_up, xx_w, xs_lg]
    · rw [xx_at (by omega)]
      exact xx_cg i rfl rfl (fun _ => rfl) (fun _ => rfl) (fun _ => rfl) (fun e => by omega) (fun e => by omega) (fun _ _ _ => rfl) rfl (fun _ _ _ => rfl) (fun _ _ _ => rfl) (fun _ _ _ => rfl)
end XU
