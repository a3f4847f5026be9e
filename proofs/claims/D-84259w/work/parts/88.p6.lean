section OP6
variable {cn : Nat} {P : rP} {σ : xS} {μ : mS} {f : Int32 → Int64}
theorem cnt_0 {ch : Nat → Nat} (fr to : Nat → Nat) (c z : Nat) : ∀ n, (∀ j, j < n → ch j ≠ c) → cnt ch fr to c z n = 0
  | 0, _ => rfl
  | n + 1, h => by rw [cnt_s, cnt_0 fr to c z n (fun j hj => h j (by omega)), ind, if_neg (fun w => h n (by omega) w.1)]
theorem nIm1 {n : Nat} (h : n < 2 ^ 31) : ¬ nI n = -1 := by
  intro z
  have := congrArg Int32.toInt z
  rw [nI_toInt h] at this
  change ((n : Nat) : Int) = -1 at this
  omega
theorem Rel.digR {σ' : xS} {μ' : mS} (h : Rel cn P σ μ) {k T w : Nat} (hk : k < P.nC) (hu : σ.1.2 8 k = -1) (hT : 0 < T ∧ T ≤ 21600) (hS : P.nS < 60) (hs : Sh σ' μ' P.nC (upN P.tn k T) (P.nS + 1) (upN P.ch P.nS k) (upN P.fr P.nS 0) (upN P.to P.nS T) (upN P.ow P.nS w))
    (e1 : ∀ j, j ∈ ([1, 2, 3, 4, 10, 11, 17, 24, 28, 34] : List Nat) → j ≠ 11 → j ≠ 17 → σ'.1.1 j = σ.1.1 j) (e2 : ∀ j, j ∈ ([5, 7, 8, 9, 12, 13, 14, 15, 16, 21, 23, 31, 32, 33] : List Nat) → j ≠ 7 → j ≠ 8 → j ≠ 9 → j ≠ 16 → σ'.1.2 j = σ.1.2 j) (e11 : σ'.1.1 11 = nI (dC (σ.1.2 8) P.nC + 1)) (a8 : σ'.1.2 8 = upd (σ.1.2 8) k (nI (dC (σ.1.2 8) P.nC))) (a7 : σ'.1.2 7 = upd (σ.1.2 7) k (nI P.yr)) (a9 : σ'.1.2 9 = upd (σ.1.2 9) k (nI T))
    (m1 : ∀ j, j ∈ ([1, 2, 3, 4, 10, 11, 17, 24, 28, 34] : List Nat) → j ≠ 11 → j ≠ 17 → μ'.1 j = μ.1 j) (m2 : ∀ j, j ∈ ([5, 6, 7, 8, 9, 12, 13, 14, 15, 16, 21, 23, 31, 32, 33] : List Nat) → j ≠ 6 → j ≠ 7 → j ≠ 8 → j ≠ 9 → j ≠ 16 → μ'.2 j = μ.2 j) (m11 : μ'.1 11 = nI (dC (σ.1.2 8) P.nC + 1)) (b6 : μ'.2 6 = upd (μ.2 6) k 1) (b8 : μ'.2 8 = upd (μ.2 8) k (nI (dC (σ.1.2 8) P.nC))) (b7 : μ'.2 7 = upd (μ.2 7) k (nI P.yr)) (b9 : μ'.2 9 = upd (μ.2 9) k (nI T)) : Rel cn (mkP P.nC (P.nS + 1) P.nF P.nT P.yr P.nw P.nW (upN P.ch P.nS k) (upN P.fr P.nS 0) (upN P.to P.nS T) (upN P.ow P.nS w) (upN P.tn k T) (upN P.od k (dC (σ.1.2 8) P.nC)) (upN P.yd k P.yr)) σ' μ' := by
  have h8 := h.k.1.2
  have hD := dC_le (σ.1.2 8) P.nC
  have nD : ¬ nI (dC (σ.1.2 8) P.nC) = -1 := nIm1 (by omega)
  have hup : dC (σ'.1.2 8) P.nC = dC (σ.1.2 8) P.nC + 1 := by
    rw [a8]
    exact dC_up hu (by rw [pk_us]; exact nD) (fun j hj => pk_un hj) _ hk
  have a5 := e2 5 (by simp) (by decide) (by decide) (by decide) (by decide); have a12 := e2 12 (by simp) (by decide) (by decide) (by decide) (by decide); have a13 := e2 13 (by simp) (by decide) (by decide) (by decide) (by decide); have a14 := e2 14 (by simp) (by decide) (by decide) (by decide) (by decide); have a15 := e2 15 (by simp) (by decide) (by decide) (by decide) (by decide); have a21 := e2 21 (by simp) (by decide) (by decide) (by decide) (by decide); have a23 := e2 23 (by simp) (by decide) (by decide) (by decide) (by decide)
  have b21 := m2 21 (by simp) (by decide) (by decide) (by decide) (by decide) (by decide)
  have hck : ∀ i, i < P.nS → P.ch i ≠ k := fun i hi z => (h.sh i hi).2.2.2.2.2.1 (by rw [z]; exact hu)
  refine ⟨⟨⟨(e1 10 (by simp) (by decide) (by decide)).trans h.k.1.1, h.k.1.2⟩, ⟨hs.2.1, hs.1⟩, by rw [a5]; exact h.k.2.2.1, fun i hi => ⟨_, (hs.2.2.2 i hi).1.2.2.2.2.1, (hs.2.2.2 i hi).1.1⟩⟩, fun j hj => ?_, fun j hj => ?_, ?_, fun c hc => ?_, fun c hc1 hc2 => ?_, fun c d hc hd hne heq => ?_, ?_, ?_, ?_, ?_, ?_, fun i hi => (hs.2.2.2 i hi).1, fun i hi => (hs.2.2.2 i hi).2.1, fun i hi => (hs.2.2.2 i hi).2.2, fun c hc hne z => ?_, ?_, ?_, ?_, ?_, by rw [a21]; exact h.lw⟩
  · by_cases e : j = 11
    · subst e
      rw [e11, m11]
    · by_cases e' : j = 17
      · subst e'
        rw [hs.2.1, hs.2.2.1]
      · rw [e1 j hj e e', m1 j hj e e']
        exact h.sc j hj
  · by_cases e7 : j = 7
    · subst e7
      rw [a7, b7, h.ar 7 (by simp)]
    · by_cases e9 : j = 9
      · subst e9
        rw [a9, b9, h.ar 9 (by simp)]
      · rw [e2 j (by simp only [List.mem_cons, List.not_mem_nil, or_false] at hj ⊢; omega) e7 (by rintro rfl; simp at hj) e9 (by rintro rfl; simp at hj), m2 j (by simp only [List.mem_cons, List.not_mem_nil, or_false] at hj ⊢; omega) (by rintro rfl; simp at hj) e7 (by rintro rfl; simp at hj) e9 (by rintro rfl; simp at hj)]
        exact h.ar j hj
  · show σ'.1.1 11 = nI (dC (σ'.1.2 8) P.nC)
    rw [hup, e11]
  · change c < P.nC at hc
    show (σ'.1.2 8 c = -1 ∧ μ'.2 6 c = 0) ∨ (σ'.1.2 8 c = nI (upN P.od k (dC (σ.1.2 8) P.nC) c) ∧ upN P.od k (dC (σ.1.2 8) P.nC) c < dC (σ'.1.2 8) P.nC ∧ μ'.2 8 c = nI (upN P.od k (dC (σ.1.2 8) P.nC) c) ∧ μ'.2 6 c = 1 ∧ σ'.1.2 9 c = nI (upN P.tn k T c) ∧ 0 < upN P.tn k T c ∧ upN P.tn k T c ≤ 21600 ∧ σ'.1.2 7 c = nI (upN P.yd k P.yr c) ∧ upN P.yd k P.yr c ≤ P.yr)
    rw [hup, a8, a9, a7, b6, b8]
    by_cases e : c = k
    · subst e
      rw [pk_us, pk_us, pk_us, pk_us, pk_us, upN_s, upN_s, upN_s]
      exact Or.inr ⟨rfl, by omega, rfl, rfl, rfl, hT.1, hT.2, rfl, Nat.le_refl _⟩
    · rw [pk_un e, pk_un e, pk_un e, pk_un e, pk_un e, upN_n e, upN_n e, upN_n e]
      rcases h.dg c hc with g | g
      · exact Or.inl g
      · exact Or.inr ⟨g.1, by have := g.2.1; omega, g.2.2⟩
  · obtain ⟨g1, g2, g3, g4⟩ := h.fr c hc1 hc2
    have e : c ≠ k := by change P.nC ≤ c at hc1; omega
    rw [b6, b7, b9, pk_un e, pk_un e, pk_un e]
    exact ⟨g1, g2, g3, g4⟩
  · change c < P.nC at hc
    change d < P.nC at hd
    rw [a8] at hne heq
    have key : ∀ x, x < P.nC → x ≠ k → ¬ σ.1.2 8 x = nI (dC (σ.1.2 8) P.nC) := by
      intro x hx _ z
      rcases h.dg x hx with g | g
      · exact nD (z.symm.trans g.1)
      · have := (nI_eq (by have := g.2.1; omega) (by omega)).mp (g.1.symm.trans z)
        have := g.2.1
        omega
    by_cases ec : c = k
    · by_cases ed : d = k
      · rw [ec, ed]
      · subst ec
        rw [pk_us, pk_un ed] at heq
        exact absurd heq.symm (key d hd ed)
    · rw [pk_un ec] at hne heq
      by_cases ed : d = k
      · subst ed
        rw [pk_us] at heq
        exact absurd heq (key c hc ec)
      · rw [pk_un ed] at heq
        exact h.inj c d hc hd hne heq
  · rw [a12, a13, a14]; exact h.wl
  · rw [a15]; exact h.w0
  · rw [e1 1 (by simp) (by decide) (by decide), e1 2 (by simp) (by decide) (by decide)]; exact h.gr
  · rw [e1 3 (by simp) (by decide) (by decide)]; exact h.yr
  · rw [e1 4 (by simp) (by decide) (by decide)]; exact h.nw
  · change c < P.nC at hc
    show cnt (upN P.ch P.nS k) (upN P.fr P.nS 0) (upN P.to P.nS T) c z (P.nS + 1) = if z < upN P.tn k T c then 1 else 0
    rw [cnt_add]
    rw [a8] at hne
    by_cases e : c = k
    · subst e
      rw [cnt_0 _ _ _ _ _ hck, upN_s, Nat.zero_add, ind]
      by_cases g : z < T
      · rw [if_pos ⟨rfl, Nat.zero_le _, g⟩, if_pos g]
      · rw [if_neg (fun w => g w.2.2), if_neg g]
    · rw [pk_un e] at hne
      have i0 : ind k 0 T c z = 0 := if_neg (fun w => e w.1.symm)
      rw [h.ct c hc hne z, upN_n e, i0, Nat.add_zero]
  · rw [e1 34 (by simp) (by decide) (by decide)]; exact h.fl
  · rw [e1 24 (by simp) (by decide) (by decide)]; exact h.tp
  · rw [a23]; exact h.bt
  · rw [a21, b21]; exact h.sy

theorem dig_ok (h : Rel cn P σ μ) {k q w : Nat} (hk : k < P.nC) (hu : σ.1.2 8 k = -1) (hq : 1 ≤ q ∧ q ≤ 15) (hw : w < 31) (hS : P.nS < 60) : Rel cn (mkP P.nC (P.nS + 1) P.nF P.nT P.yr P.nw P.nW (upN P.ch P.nS k) (upN P.fr P.nS 0) (upN P.to P.nS (1440 * q)) (upN P.ow P.nS w) (upN P.tn k (1440 * q)) (upN P.od k (dC (σ.1.2 8) P.nC)) (upN P.yd k P.yr)) (xAdd (xs_st (xs_ar (xs_ar (xs_ar σ 8 k (σ.1.1 11)) 7 k (σ.1.1 3)) 9 k (nI (1440 * q))) 11 (σ.1.1 11 + 1)) P.nS k 0 (nI (1440 * q)) (nI w)) (pDig (mm_st μ 0 0) (dC (σ.1.2 8) P.nC) P.nS k (nI w) q) := by
  have h8 := h.k.1.2
  have hD := dC_le (σ.1.2 8) P.nC
  have nD : ¬ nI (dC (σ.1.2 8) P.nC) = -1 := nIm1 (by omega)
  have hck : ∀ i, i < P.nS → P.ch i ≠ k := fun i hi z => (h.sh i hi).2.2.2.2.2.1 (by rw [z]; exact hu)
  have e8 : (xs_st (xs_ar (xs_ar (xs_ar σ 8 k (σ.1.1 11)) 7 k (σ.1.1 3)) 9 k (nI (1440 * q))) 11 (σ.1.1 11 + 1)).1.2 8 = upd (σ.1.2 8) k (nI (dC (σ.1.2 8) P.nC)) := by
    show upd (σ.1.2 8) k (σ.1.1 11) = _
    rw [h.dc]
  have S0 : Sh (xs_st (xs_ar (xs_ar (xs_ar σ 8 k (σ.1.1 11)) 7 k (σ.1.1 3)) 9 k (nI (1440 * q))) 11 (σ.1.1 11 + 1)) (mm_ar (mm_st (mm_ar (mm_ar (mm_ar (mm_st μ 0 0) 6 k 1) 7 k (μ.1 3)) 8 k (nI (dC (σ.1.2 8) P.nC))) 11 (nI (dC (σ.1.2 8) P.nC + 1))) 9 k (nI (1440 * q))) P.nC (upN P.tn k (1440 * q)) P.nS P.ch P.fr P.to P.ow := by
    refine ⟨h.k.2.1.2, h.k.2.1.1, h.m17, fun i hi => ⟨?_, h.s4 i hi, h.sl i hi⟩⟩
    obtain ⟨g1, g2, g3, g4, g5, g6, g7, g8, g9⟩ := h.sh i hi
    refine ⟨g1, g2, g3, g4, g5, ?_, g7, ?_, g9⟩
    · rw [e8, pk_un (hck i hi)]
      exact g6
    · rw [upN_n (hck i hi)]
      exact g8
  have S1 := S0.add (q := k) (a := 0) (b := 1440 * q) (o := w) hS hk (by rw [e8, pk_us]; exact nD) (by omega) (by rw [upN_s]; exact Nat.le_refl _) hw
  refine h.digR hk hu ⟨by omega, by omega⟩ hS S1 (fun j hj n11 n17 => ?_) (fun j hj n7 n8 n9 n16 => ?_) ?_ ?_ ?_ ?_ (fun j hj n11 n17 => ?_) (fun j hj n6 n7 n8 n9 n16 => ?_) ?_ ?_ ?_ ?_ ?_
  · rw [xAdd_s1 _ _ _ _ _ _ n17, xs_st_ne _ _ n11]
    rfl
  · rw [xAdd_o _ _ _ _ _ _ n16]
    show (xs_ar _ 9 _ _).1.2 j = _
    rw [xs_ar_o n9, xs_ar_o n7, xs_ar_o n8]
  · rw [xAdd_s1 _ _ _ _ _ _ (by decide), xs_st_eq, h.dc]
    exact nI_add _ 1
  · rw [xAdd_o _ _ _ _ _ _ (by decide)]
    exact e8
  · rw [xAdd_o _ _ _ _ _ _ (by decide)]
    show upd (σ.1.2 7) k (σ.1.1 3) = _
    rw [h.yr.1]
  · rw [xAdd_o _ _ _ _ _ _ (by decide)]
    rfl
  · unfold pDig
    rw [pAdds_s1 _ _ _ _ _ _ n17]
    show (mm_st _ 11 _).1 j = _
    rw [mm_st_ne _ _ n11]
    exact mm_st_ne μ 0 (by rintro rfl; simp at hj)
  · unfold pDig
    rw [pAdds_o _ _ _ _ _ _ n16, mm_ar_o n9]
    show (mm_ar _ 8 _ _).2 j = _
    rw [mm_ar_o n8, mm_ar_o n7, mm_ar_o n6]
    rfl
  · unfold pDig
    rw [pAdds_s1 _ _ _ _ _ _ (by decide)]
    rfl
  · unfold pDig
    rw [pAdds_o _ _ _ _ _ _ (by decide)]
    rfl
  · unfold pDig
    rw [pAdds_o _ _ _ _ _ _ (by decide)]
    rfl
  · unfold pDig
    rw [pAdds_o _ _ _ _ _ _ (by decide)]
    show upd (μ.2 7) k (μ.1 3) = _
    rw [← h.sc 3 (by simp), h.yr.1]
  · unfold pDig
    rw [pAdds_o _ _ _ _ _ _ (by decide)]
    rfl

theorem o_dig (h : Rel cn P σ μ) (hcn : cn < 64) (v o t : Int32) {r_ : Option Value} {u_ : xS} {b_ : Int32} {v_ : mS} (hx : wOut (fun r u => ∃ k, k < P.nC ∧ nI k = v ∧ σ.1.2 8 k = -1 ∧ ((0 ≤ o ∧ o ≤ 30) ∧ (1 ≤ t ∧ t ≤ 15)) ∧ ((xMay σ.1 P.nC P.nW k ∧ P.nS < 60 ∧ some (.int (nI P.nS)) = r ∧ xAdd (xs_st (xs_ar (xs_ar (xs_ar σ 8 k (σ.1.1 11)) 7 k (σ.1.1 3)) 9 k (t * 1440)) 11 (σ.1.1 11 + 1)) P.nS k 0 (t * 1440) o = u) ∨ (¬ (xMay σ.1 P.nC P.nW k ∧ P.nS < 60) ∧ some (.int (-1)) = r ∧ σ = u))) (fun q u => σ = u ∧ ((q = 1 ∧ (¬ ∃ k, k < P.nC ∧ nI k = v)) ∨ ∃ k, k < P.nC ∧ nI k = v ∧ ((q = 2 ∧ ¬ σ.1.2 8 k = -1) ∨ (σ.1.2 8 k = -1 ∧ q = 3 ∧ ¬ ((0 ≤ o ∧ o ≤ 30) ∧ (1 ≤ t ∧ t ≤ 15)))))) (fun z => if z = 1 then 1 else if z = 2 then 2 else if z = 3 then 3 else 0) (fun v => v.toInt64) r_ u_) (hm : (fun r u => ((¬ ∃ k, k < P.nC ∧ nI k = v) ∧ mm_st (mm_st μ 0 0) 0 1 = u ∧ 0 = r) ∨ ∃ k, k < P.nC ∧ nI k = v ∧ ((μ.2 6 k = 1 ∧ mm_st (mm_st μ 0 0) 0 2 = u ∧ 0 = r) ∨ (μ.2 6 k = 0 ∧ ((¬ ((0 ≤ o ∧ o ≤ 30) ∧ (1 ≤ t ∧ t ≤ 15)) ∧ mm_st (mm_st μ 0 0) 0 3 = u ∧ 0 = r) ∨ (((0 ≤ o ∧ o ≤ 30) ∧ (1 ≤ t ∧ t ≤ 15)) ∧ (¬ pMay μ P.nC P.nW k ∨ P.nS = 60) ∧ mm_st μ 0 0 = u ∧ (-1) = r) ∨ (((0 ≤ o ∧ o ≤ 30) ∧ (1 ≤ t ∧ t ≤ 15)) ∧ pMay μ P.nC P.nW k ∧ P.nS < 60 ∧ ∃ q, (1 ≤ q ∧ q ≤ 15) ∧ nI q = t ∧ pDig (mm_st μ 0 0) (dC (σ.1.2 8) P.nC) P.nS k o q = u ∧ nI P.nS = r))))) b_ v_) : Ag cn fL r_ u_ b_ v_ := by
  have h8 := h.k.1.2
  rcases hx with ⟨v1, u0, ⟨k, hk, ek, hu, hc, hx⟩, rfl, rfl⟩ | ⟨c, ⟨rfl, hT⟩, rfl⟩ <;> rcases hm with ⟨hn, rfl, rfl⟩ | ⟨j, hj, ej, hm⟩
  · exact absurd ⟨k, hk, ek⟩ hn
  · obtain rfl := nI_w (by omega) hk hj ek ej
    rcases hm with ⟨h6, rfl, rfl⟩ | ⟨h6, hm⟩
    · exact absurd hu ((h.un hk).2.mpr h6)
    · rcases hm with ⟨hd, rfl, rfl⟩ | ⟨hd, hno, rfl, rfl⟩ | ⟨hd, hmay, hS, q, hq, eq, rfl, rfl⟩
      · exact absurd hc hd
      · rcases hx with ⟨hm1, hS1, -, -⟩ | ⟨-, e1, rfl⟩
        · rcases hno with hno | hno
          · exact absurd ((h.may hk).mp hm1) hno
          · omega
        · cases e1
          exact agr_id h
      · rcases hx with ⟨-, -, e1, rfl⟩ | ⟨hno, -, -⟩
        · cases e1
          obtain ⟨w, wb, ew⟩ := nI_of2 (M := 30) (n := 30) rfl (Int32.not_lt.mpr hc.1.1) hc.1.2
          subst ew
          have et : t * 1440 = nI (1440 * q) := by
            rw [← eq, Nat.mul_comm]
            exact pk_mul q 1440
          rw [et]
          refine agr_ok (dig_ok h hk hu hq (by omega) hS).up ?_
          unfold pDig
          rw [pAdds_0]
          exact mm_st_eq μ 0 0
        · exact absurd ⟨(h.may hk).mpr hmay, hS⟩ hno
  · rcases hT with ⟨rfl, -⟩ | ⟨k, hk, ek, -⟩
    · exact agr_th h 1 (by decide)
    · exact absurd ⟨k, hk, ek⟩ hn
  · rcases hT with ⟨rfl, hno⟩ | ⟨k, hk, ek, hT⟩
    · exact absurd ⟨j, hj, ej⟩ hno
    · obtain rfl := nI_w (by omega) hk hj ek ej
      rcases hT with ⟨rfl, hd⟩ | ⟨hu, rfl, hc⟩ <;> rcases hm with ⟨h6, rfl, rfl⟩ | ⟨h6, hm⟩
      · exact agr_th h 2 (by decide)
      · exact absurd ((h.un hk).1.mpr h6) hd
      · exact absurd hu ((h.un hk).2.mpr h6)
      · rcases hm with ⟨hd, rfl, rfl⟩ | ⟨hd, -⟩ | ⟨hd, -⟩
        · exact agr_th h 3 (by decide)
        · exact absurd hd hc
        · exact absurd hd hc
end OP6
