section OP2
variable {cn : Nat} {P : rP} {σ : xS} {μ : mS} {f : Int32 → Int64}
theorem Rel.cgX {σ' : xS} (h : Rel cn P σ μ) (e1 : ∀ j, j ∈ ([1, 2, 3, 4, 10, 11, 17, 24, 28, 34] : List Nat) → σ'.1.1 j = σ.1.1 j) (e2 : ∀ j, j ∈ ([5, 7, 8, 9, 12, 13, 14, 15, 16, 21, 23, 31, 32, 33] : List Nat) → σ'.1.2 j = σ.1.2 j) : Rel cn P σ' μ := by
  have a5 := e2 5 (by simp); have a7 := e2 7 (by simp); have a8 := e2 8 (by simp); have a9 := e2 9 (by simp); have a12 := e2 12 (by simp); have a13 := e2 13 (by simp); have a14 := e2 14 (by simp); have a15 := e2 15 (by simp); have a16 := e2 16 (by simp); have a21 := e2 21 (by simp); have a23 := e2 23 (by simp)
  refine ⟨⟨⟨(e1 10 (by simp)).trans h.k.1.1, h.k.1.2⟩, ⟨(e1 17 (by simp)).trans h.k.2.1.1, h.k.2.1.2⟩, by rw [a5]; exact h.k.2.2.1, by rw [a16]; exact h.k.2.2.2⟩, fun j hj => (e1 j hj).trans (h.sc j hj), fun j hj => (e2 j (by simp only [List.mem_cons, List.not_mem_nil, or_false] at hj ⊢; omega)).trans (h.ar j hj), ?_, ?_, h.fr, ?_, ?_, ?_, ?_, ?_, ?_, ?_, ?_, ?_, ?_, ?_, ?_, ?_, ?_, by rw [a21]; exact h.lw⟩
  · rw [e1 11 (by simp), a8]; exact h.dc
  · rw [a8, a9, a7]; exact h.dg
  · rw [a8]; exact h.inj
  · rw [a12, a13, a14]; exact h.wl
  · rw [a15]; exact h.w0
  · rw [e1 1 (by simp), e1 2 (by simp)]; exact h.gr
  · rw [e1 3 (by simp)]; exact h.yr
  · rw [e1 4 (by simp)]; exact h.nw
  · rw [a16, a8]; exact h.sh
  · rw [a16]; exact h.s4
  · rw [a16]; exact h.sl
  · rw [a8]; exact h.ct
  · rw [e1 34 (by simp)]; exact h.fl
  · rw [e1 24 (by simp)]; exact h.tp
  · rw [a23]; exact h.bt
  · rw [a21]; exact h.sy
theorem Rel.cgM {μ' : mS} (h : Rel cn P σ μ) (e1 : ∀ j, j ∈ ([1, 2, 3, 4, 10, 11, 17, 24, 28, 34] : List Nat) → μ'.1 j = μ.1 j) (e2 : ∀ j, j ∈ ([5, 6, 7, 8, 9, 12, 13, 14, 15, 16, 21, 23, 31, 32, 33] : List Nat) → μ'.2 j = μ.2 j) : Rel cn P σ μ' := by
  have a6 := e2 6 (by simp); have a8 := e2 8 (by simp); have a16 := e2 16 (by simp); have a21 := e2 21 (by simp)
  refine ⟨h.k, fun j hj => (h.sc j hj).trans (e1 j hj).symm, fun j hj => (h.ar j hj).trans (e2 j (by simp only [List.mem_cons, List.not_mem_nil, or_false] at hj ⊢; omega)).symm, h.dc, ?_, ?_, h.inj, h.wl, h.w0, h.gr, h.yr, h.nw, h.sh, ?_, ?_, h.ct, h.fl, h.tp, h.bt, ?_, h.lw⟩
  · rw [a6, a8]; exact h.dg
  · rw [a6, e2 7 (by simp), e2 9 (by simp)]; exact h.fr
  · rw [a16]; exact h.s4
  · rw [a16]; exact h.sl
  · rw [a21]; exact h.sy
theorem lets_eq (h : Rel cn P σ μ) (hcn : cn ≤ 64) : ∀ n, n ≤ P.nS → xLets σ.1 n = pLets μ n
  | 0, _ => rfl
  | n + 1, hn => by
    rw [xLets, pLets, lets_eq h hcn n (by omega)]
    by_cases e : μ.1 4 < μ.2 16 (7 * n + 6)
    · rw [if_pos e, if_pos ((h.let hcn (by omega)).mpr e)]
    · rw [if_neg e, if_neg (fun z => e ((h.let hcn (by omega)).mp z))]
theorem wat_eq (h : Rel cn P σ μ) (hcn : cn ≤ 64) : ∀ n, n ≤ P.nC → xWat σ.1 P.nC P.nW n = pWat μ P.nC P.nW n
  | 0, _ => rfl
  | n + 1, hn => by
    rw [xWat, pWat, wat_eq h hcn n (by omega), h.flows hcn (by omega) (h.use8 n)]
    by_cases e : μ.2 6 n = 0
    · rw [if_pos e, if_pos ((h.un (by omega)).1.mpr e)]
    · rw [if_neg e, if_neg (fun z => e ((h.un (by omega)).1.mp z))]
theorem o_count (h : Rel cn P σ μ) (hcn : cn < 64) (x : Int32) : xCount σ.1 P.nC P.nS P.nW x = pCount μ P.nC P.nS P.nW x := by
  unfold xCount pCount
  rw [lets_eq h (by omega) _ (Nat.le_refl _), wat_eq h (by omega) _ (Nat.le_refl _), h.sc 10 (by simp), h.sc 11 (by simp), h.sc 3 (by simp), h.sc 4 (by simp), h.sc 17 (by simp), h.sc 34 (by simp)]

theorem o_end (h : Rel cn P σ μ) (hcn : cn < 64) (n : Int32) {r_ : Option Value} {u_ : xS} {b_ : Int32} {v_ : mS} (hx : (fun r u => ((0 ≤ n ∧ n ≤ σ.1.1 24) ∧ xs_st σ 24 n = u ∧ some (.int 1) = r) ∨ (¬ (0 ≤ n ∧ n ≤ σ.1.1 24) ∧ σ = u ∧ some (.int 0) = r)) r_ u_) (hm : (fun r u => ((0 ≤ n ∧ n ≤ μ.1 24) ∧ mm_st (mm_st μ 0 0) 24 n = u ∧ 1 = r) ∨ (¬ (0 ≤ n ∧ n ≤ μ.1 24) ∧ mm_st μ 0 0 = u ∧ 0 = r)) b_ v_) : AgD cn r_ u_ b_ v_ := by
  have e24 := h.sc 24 (by simp)
  rcases hx with ⟨hc, rfl, rfl⟩ | ⟨hc, rfl, rfl⟩ <;> rcases hm with ⟨hd, rfl, rfl⟩ | ⟨hd, rfl, rfl⟩
  · obtain ⟨j, hj, e1⟩ := nI_of (x := n) (Int32.not_lt.mpr hc.1)
    have hle := hc.2
    rw [h.tp.1, e1, nI_leI hj (by have := h.tp.2; omega)] at hle
    refine ⟨rfl, (mkP P.nC P.nS P.nF (j) P.yr P.nw P.nW P.ch P.fr P.to P.ow P.tn P.od P.yd), ?_⟩
    refine Rel.up ⟨h.k, fun i hj2 => ?_, h.ar, h.dc, h.dg, h.fr, h.inj, h.wl, h.w0, h.gr, h.yr, h.nw, h.sh, h.s4, h.sl, h.ct, h.fl, ⟨e1, Nat.le_trans hle h.tp.2⟩, h.bt, h.sy, h.lw⟩
    simp only [List.mem_cons, List.not_mem_nil, or_false] at hj2
    rcases hj2 with rfl | rfl | rfl | rfl | rfl | rfl | rfl | rfl | rfl | rfl
    · exact h.sc 1 (by simp)
    · exact h.sc 2 (by simp)
    · exact h.sc 3 (by simp)
    · exact h.sc 4 (by simp)
    · exact h.sc 10 (by simp)
    · exact h.sc 11 (by simp)
    · exact h.sc 17 (by simp)
    · rfl
    · exact h.sc 28 (by simp)
    · exact h.sc 34 (by simp)
  · rw [e24] at hc; exact absurd hc hd
  · rw [← e24] at hd; exact absurd hd hc
  · exact ⟨rfl, P, (h.m0 0).up⟩
theorem o_field (h : Rel cn P σ μ) (hcn : cn < 64) (a b z : Int32) {r_ : Option Value} {u_ : xS} {b_ : Int32} {v_ : mS} (hx : wOut (fun r u => ((1 ≤ a ∧ a ≤ 1000) ∧ (0 ≤ b ∧ b ≤ 10000) ∧ (0 ≤ z ∧ z ≤ 100)) ∧ ((P.nF < 9 ∧ xs_st (xs_ar (xs_ar (xs_ar σ 31 P.nF a) 32 P.nF b) 33 P.nF z) 34 (nI (P.nF + 1)) = u ∧ some (.int (nI (P.nF + 1))) = r) ∨ (P.nF = 9 ∧ σ = u ∧ some (.int (-1)) = r))) (fun k u => k = 3 ∧ ¬ ((1 ≤ a ∧ a ≤ 1000) ∧ (0 ≤ b ∧ b ≤ 10000) ∧ (0 ≤ z ∧ z ≤ 100)) ∧ σ = u) (fun z => if z = 3 then 1 else 0) (fun v => v.toInt64) r_ u_) (hm : (fun r u => (((1 ≤ a ∧ a ≤ 1000) ∧ (0 ≤ b ∧ b ≤ 10000) ∧ (0 ≤ z ∧ z ≤ 100)) ∧ P.nF < 9 ∧ mm_st (mm_ar (mm_ar (mm_ar (mm_st μ 0 0) 31 P.nF a) 32 P.nF b) 33 P.nF z) 34 (nI (P.nF + 1)) = u ∧ nI (P.nF + 1) = r) ∨ (((1 ≤ a ∧ a ≤ 1000) ∧ (0 ≤ b ∧ b ≤ 10000) ∧ (0 ≤ z ∧ z ≤ 100)) ∧ P.nF = 9 ∧ mm_st μ 0 0 = u ∧ (-1) = r) ∨ (¬ ((1 ≤ a ∧ a ≤ 1000) ∧ (0 ≤ b ∧ b ≤ 10000) ∧ (0 ≤ z ∧ z ≤ 100)) ∧ mm_st (mm_st μ 0 0) 0 1 = u ∧ 0 = r)) b_ v_) : Ag cn fL r_ u_ b_ v_ := by
  rcases hx with ⟨v1, u0, ⟨hc, hx⟩, rfl, rfl⟩ | ⟨c, ⟨rfl, hc, rfl⟩, rfl⟩
  · rcases hm with ⟨hd, hn, rfl, rfl⟩ | ⟨hd, hn, rfl, rfl⟩ | ⟨hd, rfl, rfl⟩
    · rcases hx with ⟨-, rfl, e1⟩ | ⟨e9, -, -⟩
      · cases e1
        refine agr_ok (P' := (mkP P.nC P.nS (P.nF + 1) P.nT P.yr P.nw P.nW P.ch P.fr P.to P.ow P.tn P.od P.yd)) ?_ (mm_st_eq μ 0 0)
        refine Rel.up ⟨h.k, fun j hj => ?_, fun j hj => ?_, h.dc, h.dg, h.fr, h.inj, h.wl, h.w0, h.gr, h.yr, h.nw, h.sh, h.s4, h.sl, h.ct, ⟨rfl, by show P.nF + 1 ≤ 9; omega⟩, h.tp, h.bt, h.sy, h.lw⟩
        · simp only [List.mem_cons, List.not_mem_nil, or_false] at hj
          rcases hj with rfl | rfl | rfl | rfl | rfl | rfl | rfl | rfl | rfl | rfl
          · exact h.sc 1 (by simp)
          · exact h.sc 2 (by simp)
          · exact h.sc 3 (by simp)
          · exact h.sc 4 (by simp)
          · exact h.sc 10 (by simp)
          · exact h.sc 11 (by simp)
          · exact h.sc 17 (by simp)
          · exact h.sc 24 (by simp)
          · exact h.sc 28 (by simp)
          · rfl
        · simp only [List.mem_cons, List.not_mem_nil, or_false] at hj
          rcases hj with rfl | rfl | rfl | rfl | rfl | rfl | rfl | rfl | rfl | rfl | rfl
          · exact h.ar 5 (by simp)
          · exact h.ar 7 (by simp)
          · exact h.ar 9 (by simp)
          · exact h.ar 12 (by simp)
          · exact h.ar 13 (by simp)
          · exact h.ar 14 (by simp)
          · exact h.ar 15 (by simp)
          · exact h.ar 23 (by simp)
          · show upd (σ.1.2 31) P.nF a = upd (μ.2 31) P.nF a
            rw [h.ar 31 (by simp)]
          · show upd (σ.1.2 32) P.nF b = upd (μ.2 32) P.nF b
            rw [h.ar 32 (by simp)]
          · show upd (σ.1.2 33) P.nF z = upd (μ.2 33) P.nF z
            rw [h.ar 33 (by simp)]
      · omega
    · rcases hx with ⟨hlt, -⟩ | ⟨-, rfl, e1⟩
      · omega
      · cases e1
        exact agr_id h
    · exact absurd hc hd
  · rcases hm with ⟨hd, -⟩ | ⟨hd, -⟩ | ⟨hd, rfl, rfl⟩
    · exact absurd hd hc
    · exact absurd hd hc
    · exact agr_th h 1 (by decide)
theorem o_least (h : Rel cn P σ μ) (hcn : cn < 64) {r_ : Option Value} {u_ : xS} {b_ : Int32} {v_ : mS} (hx : (fun r u => xSame u (xs_st σ 34 0) 35 ∧ some (.int (pLst (σ.1.2 31) (σ.1.2 32) (σ.1.2 33) P.nF (2 ^ P.nF - 1) (2 ^ P.nF - 1))) = r) r_ u_) (hm : (fun r u => (∃ τ, pSame τ (mm_st μ 0 0) 35 ∧ mm_st τ 34 0 = u) ∧ pLst (μ.2 31) (μ.2 32) (μ.2 33) P.nF (2 ^ P.nF - 1) (2 ^ P.nF - 1) = r) b_ v_) : AgD cn r_ u_ b_ v_ := by
  obtain ⟨hu, rfl⟩ := hx
  obtain ⟨⟨τ, hτ, rfl⟩, rfl⟩ := hm
  refine ⟨by rw [h.ar 31 (by simp), h.ar 32 (by simp), h.ar 33 (by simp)], (mkP P.nC P.nS (0) P.nT P.yr P.nw P.nW P.ch P.fr P.to P.ow P.tn P.od P.yd), ?_⟩
  have hb : Rel cn (mkP P.nC P.nS (0) P.nT P.yr P.nw P.nW P.ch P.fr P.to P.ow P.tn P.od P.yd) (xs_st σ 34 0) (mm_st (mm_st μ 0 0) 34 0) := by
    refine ⟨h.k, fun j hj => ?_, h.ar, h.dc, h.dg, h.fr, h.inj, h.wl, h.w0, h.gr, h.yr, h.nw, h.sh, h.s4, h.sl, h.ct, ⟨rfl, Nat.zero_le _⟩, h.tp, h.bt, h.sy, h.lw⟩
    simp only [List.mem_cons, List.not_mem_nil, or_false] at hj
    rcases hj with rfl | rfl | rfl | rfl | rfl | rfl | rfl | rfl | rfl | rfl
    · exact h.sc 1 (by simp)
    · exact h.sc 2 (by simp)
    · exact h.sc 3 (by simp)
    · exact h.sc 4 (by simp)
    · exact h.sc 10 (by simp)
    · exact h.sc 11 (by simp)
    · exact h.sc 17 (by simp)
    · exact h.sc 24 (by simp)
    · exact h.sc 28 (by simp)
    · rfl
  refine Rel.up (Rel.cgX (Rel.cgM hb (fun j hj => ?_) (fun j hj => ?_)) (fun j hj => congrFun hu.1.1 j) (fun j hj => hu.1.2 j (by rintro rfl; simp at hj)))
  · show va_up τ.1 34 0 j = va_up (mm_st μ 0 0).1 34 0 j
    rw [hτ.1]
  · exact hτ.2 j (by rintro rfl; simp at hj)
theorem o_let (h : Rel cn P σ μ) (hcn : cn < 64) (v o f t : Int32) {r_ : Option Value} {u_ : xS} {v_ : mS} (hx : wOutV (fun r u => none = r ∧ ∃ k, k < P.nS ∧ nI k = v ∧ ¬ (¬ σ.1.2 16 (7 * k + 4) = -1 ∧ σ.1.1 4 < σ.1.2 16 (7 * k + 6)) ∧ ((0 ≤ o ∧ o ≤ 30) ∧ ¬ o = σ.1.2 16 (7 * k + 3) ∧ σ.1.1 4 ≤ f ∧ f < t ∧ t ≤ 100000000) ∧ xs_ar (xs_ar (xs_ar σ 16 (7 * k + 4) o) 16 (7 * k + 5) f) 16 (7 * k + 6) t = u) (fun q u => σ = u ∧ ((q = 1 ∧ (¬ ∃ k, k < P.nS ∧ nI k = v)) ∨ ∃ k, k < P.nS ∧ nI k = v ∧ ((q = 2 ∧ (¬ σ.1.2 16 (7 * k + 4) = -1 ∧ σ.1.1 4 < σ.1.2 16 (7 * k + 6))) ∨ (q = 3 ∧ ¬ (¬ σ.1.2 16 (7 * k + 4) = -1 ∧ σ.1.1 4 < σ.1.2 16 (7 * k + 6)) ∧ ¬ ((0 ≤ o ∧ o ≤ 30) ∧ ¬ o = σ.1.2 16 (7 * k + 3) ∧ σ.1.1 4 ≤ f ∧ f < t ∧ t ≤ 100000000))))) (fun z => if z = 1 then 1 else if z = 2 then 2 else if z = 3 then 3 else 0) r_ u_) (hm : (fun u => ((¬ ∃ k, k < P.nS ∧ nI k = v) ∧ mm_st (mm_st μ 0 0) 0 1 = u) ∨ ∃ k, k < P.nS ∧ nI k = v ∧ ((μ.1 4 < μ.2 16 (7 * k + 6) ∧ mm_st (mm_st μ 0 0) 0 2 = u) ∨ (¬ μ.1 4 < μ.2 16 (7 * k + 6) ∧ ((¬ ((0 ≤ o ∧ o ≤ 30) ∧ ¬ o = μ.2 16 (7 * k + 3) ∧ μ.1 4 ≤ f ∧ f < t ∧ t ≤ 100000000) ∧ mm_st (mm_st μ 0 0) 0 3 = u) ∨ (((0 ≤ o ∧ o ≤ 30) ∧ ¬ o = μ.2 16 (7 * k + 3) ∧ μ.1 4 ≤ f ∧ f < t ∧ t ≤ 100000000) ∧ mm_ar (mm_ar (mm_ar (mm_st μ 0 0) 16 (7 * k + 4) o) 16 (7 * k + 5) f) 16 (7 * k + 6) t = u))))) v_) : AgV cn r_ u_ v_ := by
  have h60 := h.k.2.1.2
  rcases hx with ⟨⟨-, k, hk, ek, hl, hc, rfl⟩, rfl⟩ | ⟨c, ⟨rfl, hT⟩, rfl⟩ <;> rcases hm with ⟨hn, rfl⟩ | ⟨j, hj, ej, hm⟩
  · exact absurd ⟨k, hk, ek⟩ hn
  · obtain rfl := nI_w (by omega) hk hj ek ej
    rcases hm with ⟨hl2, rfl⟩ | ⟨-, hm⟩
    · exact absurd ((h.let (by omega) hk).mpr hl2) hl
    · rcases hm with ⟨hd, rfl⟩ | ⟨-, rfl⟩
      · refine absurd ?_ hd
        rw [← h.s4 k hk 3 (by decide), ← h.sc 4 (by simp)]
        exact hc
      · have ho : ¬ o = -1 := by
          intro z
          rw [z] at hc
          exact absurd hc.1.1 (by decide)
        refine ⟨⟨0, rfl, mm_st_eq μ 0 0⟩, P, ?_⟩
        refine Rel.up ⟨(((h.k.sh (n := k) (o := 4) o (by decide)).sh (n := k) (o := 5) f (by decide)).sh (n := k) (o := 6) t (by decide)), (h.m0 0).sc, fun i hi => ?_, h.dc, h.dg, h.fr, h.inj, h.wl, h.w0, h.gr, h.yr, h.nw, fun i hi => ?_, fun i hi z hz => ?_, fun i hi => ?_, h.ct, h.fl, h.tp, h.bt, h.sy, h.lw⟩
        · simp only [List.mem_cons, List.not_mem_nil, or_false] at hi
          rcases hi with rfl | rfl | rfl | rfl | rfl | rfl | rfl | rfl | rfl | rfl | rfl
          all_goals exact h.ar _ (by simp)
        · show (xs_ar (xs_ar (xs_ar σ 16 (7 * k + 4) o) 16 (7 * k + 5) f) 16 (7 * k + 6) t).1.2 16 _ = _ ∧ _
          rw [xs_ar_n (by omega), xs_ar_n (by omega), xs_ar_n (by omega), xs_ar_n (by omega), xs_ar_n (by omega), xs_ar_n (by omega), xs_ar_n (by omega), xs_ar_n (by omega), xs_ar_n (by omega), xs_ar_n (by omega), xs_ar_n (by omega), xs_ar_n (by omega)]
          exact h.sh i hi
        · rw [xs_ar_n (by omega), xs_ar_n (by omega), xs_ar_n (by omega), mm_ar_n (by omega), mm_ar_n (by omega), mm_ar_n (by omega)]
          exact h.s4 i hi z hz
        · by_cases e : i = k
          · subst e
            refine Or.inr ⟨?_, ?_, ?_, ?_⟩
            · rw [xs_ar_n (by omega), xs_ar_n (by omega), xs_ar_s]; exact ho
            · rw [xs_ar_n (by omega), xs_ar_n (by omega), xs_ar_s, mm_ar_n (by omega), mm_ar_n (by omega), mm_ar_s]
            · rw [xs_ar_n (by omega), xs_ar_s, mm_ar_n (by omega), mm_ar_s]
            · rw [xs_ar_s, mm_ar_s]
          · rw [xs_ar_n (by omega), xs_ar_n (by omega), xs_ar_n (by omega), xs_ar_n (by omega), xs_ar_n (by omega), xs_ar_n (by omega), xs_ar_n (by omega), xs_ar_n (by omega), xs_ar_n (by omega), mm_ar_n (by omega), mm_ar_n (by omega), mm_ar_n (by omega), mm_ar_n (by omega), mm_ar_n (by omega), mm_ar_n (by omega), mm_ar_n (by omega), mm_ar_n (by omega), mm_ar_n (by omega)]
            exact h.sl i hi
  · rcases hT with ⟨rfl, -⟩ | ⟨k, hk, ek, -⟩
    · exact agr_thV h 1
    · exact absurd ⟨k, hk, ek⟩ hn
  · rcases hT with ⟨rfl, hno⟩ | ⟨k, hk, ek, hT⟩
    · exact absurd ⟨j, hj, ej⟩ hno
    · obtain rfl := nI_w (by omega) hk hj ek ej
      rcases hT with ⟨rfl, hl⟩ | ⟨rfl, hl, hc⟩ <;> rcases hm with ⟨hl2, rfl⟩ | ⟨hl2, hm⟩
      · exact agr_thV h 2
      · exact absurd ((h.let (by omega) hk).mp hl) hl2
      · exact absurd ((h.let (by omega) hk).mpr hl2) hl
      · rcases hm with ⟨-, rfl⟩ | ⟨hd, rfl⟩
        · exact agr_thV h 3
        · refine absurd ?_ hc
          rw [h.s4 k hk 3 (by decide), h.sc 4 (by simp)]
          exact hd
end OP2
