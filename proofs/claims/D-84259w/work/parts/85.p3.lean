section OP3
variable {cn : Nat} {P : rP} {σ : xS} {μ : mS} {f : Int32 → Int64}
theorem upd_id {f : Nat → Int32} {k : Nat} {v : Int32} (h : f k = v) : upd f k v = f := by
  funext j
  by_cases e : j = k
  · subst e; rw [pk_us, h]
  · rw [pk_un e]
theorem Rel.hit (h : Rel cn P σ μ) (c : Nat) (x : Int32) {j : Nat} (hj : j < P.nS) : pHit σ.1 c x j ↔ pHit μ c x j := by
  have e0 : σ.1.2 16 (7 * j) = μ.2 16 (7 * j) := h.s4 j hj 0 (by decide)
  unfold pHit
  rw [e0, h.s4 j hj 1 (by decide), h.s4 j hj 2 (by decide)]
theorem Rel.hold (h : Rel cn P σ μ) {i : Nat} (hi : i < P.nS) {z : Int32} (hz : 0 ≤ z) : xHold σ.1 i z = pHold μ i z := by
  unfold xHold pHold
  rw [h.s4 i hi 3 (by decide)]
  rcases h.sl i hi with q | q
  · rw [if_neg (fun w => w.1 q.1), q.2.1, q.2.2, if_neg (fun w => absurd w.2 (Int32.not_lt.mpr hz))]
  · rw [← q.2.1, ← q.2.2.1, ← q.2.2.2]
    by_cases e : ¬ z < σ.1.2 16 (7 * i + 5) ∧ z < σ.1.2 16 (7 * i + 6)
    · rw [if_pos e, if_pos ⟨q.1, e⟩]
    · rw [if_neg e, if_neg (fun w => e w.2)]

theorem o_collapse (h : Rel cn P σ μ) (hcn : cn < 64) (v z x : Int32) {r_ : Option Value} {u_ : xS} {b_ : Int32} {v_ : mS} (hx : wOut (fun r u => ∃ k j, (k < P.nC ∧ j < P.nW k) ∧ nI k = v ∧ nI j = z ∧ ¬ σ.1.2 8 k = -1 ∧ xs_ar σ 15 (20 * k + j) x = u ∧ ((some (.int 1) = r ∧ ¬ σ.1.2 15 (20 * k + j) = x) ∨ (some (.int 0) = r ∧ σ.1.2 15 (20 * k + j) = x))) (fun q u => σ = u ∧ ((q = 1 ∧ (¬ ∃ k j, (k < P.nC ∧ j < P.nW k) ∧ nI k = v ∧ nI j = z)) ∨ ∃ k j, (k < P.nC ∧ j < P.nW k) ∧ nI k = v ∧ nI j = z ∧ q = 2 ∧ σ.1.2 8 k = -1)) (fun z => if z = 1 then 1 else if z = 2 then 2 else 0) (fun v => if v = 1 then 1 else 0) r_ u_) (hm : (fun r u => ((¬ ∃ k j, (k < P.nC ∧ j < P.nW k) ∧ nI k = v ∧ nI j = z) ∧ mm_st (mm_st μ 0 0) 0 1 = u ∧ 0 = r) ∨ ∃ k j, (k < P.nC ∧ j < P.nW k) ∧ nI k = v ∧ nI j = z ∧ ((μ.2 6 k = 0 ∧ mm_st (mm_st μ 0 0) 0 2 = u ∧ 0 = r) ∨ (μ.2 6 k = 1 ∧ mm_ar (mm_st μ 0 0) 15 (20 * k + j) x = u ∧ ((1 = r ∧ ¬ μ.2 15 (20 * k + j) = x) ∨ (0 = r ∧ μ.2 15 (20 * k + j) = x))))) b_ v_) : (b_ = 0 ∨ b_ = 1) ∧ Ag cn fB r_ u_ b_ v_ := by
  have h8 := h.k.1.2
  rcases hx with ⟨v1, u0, ⟨k, j, hkj, ek, ej, hu, rfl, e1⟩, rfl, rfl⟩ | ⟨c, ⟨rfl, hT⟩, rfl⟩ <;> rcases hm with ⟨hn, rfl, rfl⟩ | ⟨k2, j2, hkj2, ek2, ej2, hm⟩
  · exact absurd ⟨k, j, hkj, ek, ej⟩ hn
  · obtain rfl := nI_w (by omega) hkj.1 hkj2.1 ek ek2
    have hw := h.mW k (by omega)
    obtain rfl := nI_w (by omega) hkj.2 hkj2.2 ej ej2
    rcases hm with ⟨h6, rfl, rfl⟩ | ⟨h6, rfl, hb⟩
    · exact absurd ((h.un hkj.1).1.mpr h6) hu
    · have hR : Rel (cn + 1) P (xs_ar σ 15 (20 * k + j) x) (mm_ar (mm_st μ 0 0) 15 (20 * k + j) x) := by
        refine Rel.up ⟨h.k, (h.m0 0).sc, fun i hj => ?_, h.dc, h.dg, h.fr, h.inj, h.wl, fun c hc i hi1 hi2 => ?_, h.gr, h.yr, h.nw, h.sh, h.s4, h.sl, h.ct, h.fl, h.tp, h.bt, h.sy, h.lw⟩
        · simp only [List.mem_cons, List.not_mem_nil, or_false] at hj
          rcases hj with rfl | rfl | rfl | rfl | rfl | rfl | rfl | rfl | rfl | rfl | rfl
          · exact h.ar 5 (by simp)
          · exact h.ar 7 (by simp)
          · exact h.ar 9 (by simp)
          · exact h.ar 12 (by simp)
          · exact h.ar 13 (by simp)
          · exact h.ar 14 (by simp)
          · show upd (σ.1.2 15) _ x = upd (μ.2 15) _ x; rw [h.ar 15 (by simp)]
          · exact h.ar 23 (by simp)
          · exact h.ar 31 (by simp)
          · exact h.ar 32 (by simp)
          · exact h.ar 33 (by simp)
        · have hne : 20 * c + i ≠ 20 * k + j := by
            intro z
            obtain rfl : c = k := by omega
            change P.nW c ≤ i at hi1
            omega
          rw [xs_ar_n hne]
          exact h.w0 c hc i hi1 hi2
      rw [← h.ar 15 (by simp)] at hb
      rcases e1 with ⟨e1, m1⟩ | ⟨e1, m1⟩ <;> cases e1 <;> rcases hb with ⟨rfl, m2⟩ | ⟨rfl, m2⟩
      · exact ⟨Or.inr rfl, agr_ok hR (mm_st_eq μ 0 0)⟩
      · exact absurd m2 m1
      · exact absurd m1 m2
      · exact ⟨Or.inl rfl, agr_ok hR (mm_st_eq μ 0 0)⟩
  · rcases hT with ⟨rfl, -⟩ | ⟨k, j, hkj, ek, ej, rfl, hd⟩
    · exact ⟨Or.inl rfl, agr_th h 1 (by decide)⟩
    · exact absurd ⟨k, j, hkj, ek, ej⟩ hn
  · rcases hT with ⟨rfl, hno⟩ | ⟨k, j, hkj, ek, ej, rfl, hd⟩
    · exact absurd ⟨k2, j2, hkj2, ek2, ej2⟩ hno
    · obtain rfl := nI_w (by omega) hkj.1 hkj2.1 ek ek2
      rcases hm with ⟨h6, rfl, rfl⟩ | ⟨h6, rfl, hb⟩
      · exact ⟨Or.inl rfl, agr_th h 2 (by decide)⟩
      · exact absurd hd ((h.un hkj.1).2.mpr h6)
theorem o_channel (h : Rel cn P σ μ) (hcn : cn < 64) {r_ : Option Value} {u_ : xS} {b_ : Int32} {v_ : mS} (hx : wOut (fun v u => P.nC < 8 ∧ some (.int (nI P.nC)) = v ∧ xNew σ P.nC = u) (fun k u => k = 4 ∧ P.nC = 8 ∧ σ = u) (fun z => if z = 4 then 1 else 0) (fun v => v.toInt64) r_ u_) (hm : (fun r u => (P.nC < 8 ∧ mm_st (mm_st μ 0 0) 10 (nI (P.nC + 1)) = u ∧ nI P.nC = r) ∨ (P.nC = 8 ∧ mm_st (mm_st μ 0 0) 0 1 = u ∧ 0 = r)) b_ v_) : Ag cn fL r_ u_ b_ v_ := by
  have h8 := h.k.1.2
  rcases hx with ⟨v1, u0, ⟨hc, e1, rfl⟩, rfl, rfl⟩ | ⟨c, ⟨rfl, hc, rfl⟩, rfl⟩ <;> rcases hm with ⟨hd, rfl, rfl⟩ | ⟨hd, rfl, rfl⟩
  · cases e1
    obtain ⟨f6, fW, f7, f9⟩ := h.fr P.nC (Nat.le_refl _) hc
    have e8n : ∀ c, c ≠ P.nC → (xNew σ P.nC).1.2 8 c = σ.1.2 8 c := fun c hc => xNew_n _ _ _ hc
    have e8s : (xNew σ P.nC).1.2 8 P.nC = -1 := (xNew_s σ P.nC).2.2.1
    have hdC : dC ((xNew σ P.nC).1.2 8) (P.nC + 1) = dC (σ.1.2 8) P.nC := by rw [dC, if_pos e8s, Nat.add_zero]; exact dC_cg _ (fun j hj => e8n j (by omega))
    refine agr_ok (P' := (mkP (P.nC + 1) P.nS P.nF P.nT P.yr P.nw (xNewW P.nW P.nC) P.ch P.fr P.to P.ow P.tn P.od P.yd)) ?_ (mm_st_eq μ 0 0)
    refine Rel.up ⟨h.k.new hc, fun j hj => ?_, fun j hj => ?_, ?_, fun c hcl => ?_, fun c hc1 hc2 => ?_, fun c d hc1 hd1 hne heq => ?_, fun c hc1 i hi => ?_, fun c hc1 i hi1 hi2 => ?_, h.gr, h.yr, h.nw, fun i hi => ?_, h.s4, h.sl, fun c hc1 hne z => ?_, h.fl, h.tp, h.bt, h.sy, h.lw⟩
    · simp only [List.mem_cons, List.not_mem_nil, or_false] at hj
      rcases hj with rfl | rfl | rfl | rfl | rfl | rfl | rfl | rfl | rfl | rfl
      · exact h.sc 1 (by simp)
      · exact h.sc 2 (by simp)
      · exact h.sc 3 (by simp)
      · exact h.sc 4 (by simp)
      · rfl
      · exact h.sc 11 (by simp)
      · exact h.sc 17 (by simp)
      · exact h.sc 24 (by simp)
      · exact h.sc 28 (by simp)
      · exact h.sc 34 (by simp)
    · simp only [List.mem_cons, List.not_mem_nil, or_false] at hj
      rcases hj with rfl | rfl | rfl | rfl | rfl | rfl | rfl | rfl | rfl | rfl | rfl
      · show upd (σ.1.2 5) P.nC 0 = _; rw [upd_id (by rw [(h.k.2.2.1 P.nC hc).1, fW]; rfl)]; exact h.ar 5 (by simp)
      · show upd (σ.1.2 7) P.nC 0 = _; rw [upd_id (by rw [h.ar 7 (by simp)]; exact f7)]; exact h.ar 7 (by simp)
      · show upd (σ.1.2 9) P.nC 0 = _; rw [upd_id (by rw [h.ar 9 (by simp)]; exact f9)]; exact h.ar 9 (by simp)
      · exact h.ar 12 (by simp)
      · exact h.ar 13 (by simp)
      · exact h.ar 14 (by simp)
      · exact h.ar 15 (by simp)
      · exact h.ar 23 (by simp)
      · exact h.ar 31 (by simp)
      · exact h.ar 32 (by simp)
      · exact h.ar 33 (by simp)
    · show σ.1.1 11 = nI (dC ((xNew σ P.nC).1.2 8) (P.nC + 1))
      rw [hdC]
      exact h.dc
    · by_cases e : c = P.nC
      · subst e
        exact Or.inl ⟨e8s, f6⟩
      · change c < P.nC + 1 at hcl
        rcases h.dg c (by omega) with g | g
        · exact Or.inl ⟨(e8n c e).trans g.1, g.2⟩
        · refine Or.inr ⟨(e8n c e).trans g.1, ?_, g.2.2.1, g.2.2.2.1, (xNew_n _ _ _ e).trans g.2.2.2.2.1, g.2.2.2.2.2.1, g.2.2.2.2.2.2.1, (xNew_n _ _ _ e).trans g.2.2.2.2.2.2.2.1, g.2.2.2.2.2.2.2.2⟩
          show P.od c < dC ((xNew σ P.nC).1.2 8) (P.nC + 1)
          rw [hdC]
          exact g.2.1
    · change P.nC + 1 ≤ c at hc1
      obtain ⟨g1, g2, g3, g4⟩ := h.fr c (by omega) hc2
      exact ⟨g1, by show xNewW P.nW P.nC c = 0; rw [xNewW, if_neg (by omega)]; exact g2, g3, g4⟩
    · change c < P.nC + 1 at hc1
      change d < P.nC + 1 at hd1
      have ec : c ≠ P.nC := fun z => hne (by rw [z]; exact e8s)
      have ed : d ≠ P.nC := fun z => hne (by rw [heq, z]; exact e8s)
      exact h.inj c d (by omega) (by omega) (by rw [← e8n c ec]; exact hne) (by rw [← e8n c ec, ← e8n d ed]; exact heq)
    · change i < xNewW P.nW P.nC c at hi
      change c < P.nC + 1 at hc1
      by_cases e : c = P.nC
      · rw [e, xNewW, if_pos rfl] at hi
        omega
      · rw [xNewW, if_neg e] at hi
        exact h.wl c (by omega) i hi
    · change xNewW P.nW P.nC c ≤ i at hi1
      refine h.w0 c hc1 i ?_ hi2
      by_cases e : c = P.nC
      · subst e
        omega
      · rw [xNewW, if_neg e] at hi1
        exact hi1
    · obtain ⟨g1, g2, g3, g4, g5, g6, g7⟩ := h.sh i hi
      exact ⟨g1, g2, g3, g4, Nat.lt_succ_of_lt g5, fun z => g6 (by rw [← e8n _ (by omega)]; exact z), g7⟩
    · change c < P.nC + 1 at hc1
      have ec : c ≠ P.nC := fun z => hne (by rw [z]; exact e8s)
      exact h.ct c (by omega) (by rw [← e8n c ec]; exact hne) z
  · omega
  · omega
  · exact agr_th h 1 (by decide)
theorem o_well (h : Rel cn P σ μ) (hcn : cn < 64) (v x y f : Int32) {r_ : Option Value} {u_ : xS} {b_ : Int32} {v_ : mS} (hx : wOut (fun r w => ∃ k, k < P.nC ∧ nI k = v ∧ σ.1.2 8 k = -1 ∧ ((0 ≤ x ∧ x ≤ 100) ∧ (0 ≤ y ∧ y ≤ 100) ∧ (0 ≤ f ∧ f ≤ 1000) ∧ (P.nW k = 0 ∨ σ.1.2 14 (20 * k + (P.nW k - 1)) ≤ f)) ∧ P.nW k < 20 ∧ some (.int (nI (P.nW k))) = r ∧ xNewE σ k (P.nW k) x y f = w) (fun q u => σ = u ∧ ((q = 1 ∧ (¬ ∃ k, k < P.nC ∧ nI k = v)) ∨ ∃ k, k < P.nC ∧ nI k = v ∧ ((q = 2 ∧ ¬ σ.1.2 8 k = -1) ∨ (σ.1.2 8 k = -1 ∧ ((q = 3 ∧ ¬ ((0 ≤ x ∧ x ≤ 100) ∧ (0 ≤ y ∧ y ≤ 100) ∧ (0 ≤ f ∧ f ≤ 1000) ∧ (P.nW k = 0 ∨ σ.1.2 14 (20 * k + (P.nW k - 1)) ≤ f))) ∨ (((0 ≤ x ∧ x ≤ 100) ∧ (0 ≤ y ∧ y ≤ 100) ∧ (0 ≤ f ∧ f ≤ 1000) ∧ (P.nW k = 0 ∨ σ.1.2 14 (20 * k + (P.nW k - 1)) ≤ f)) ∧ q = 4 ∧ P.nW k = 20)))))) (fun z => if z = 1 then 1 else if z = 2 then 2 else if z = 3 then 3 else if z = 4 then 4 else 0) (fun v => v.toInt64) r_ u_) (hm : (fun r u => ((¬ ∃ k, k < P.nC ∧ nI k = v) ∧ mm_st (mm_st μ 0 0) 0 1 = u ∧ 0 = r) ∨ ∃ k, k < P.nC ∧ nI k = v ∧ ((μ.2 6 k = 1 ∧ mm_st (mm_st μ 0 0) 0 2 = u ∧ 0 = r) ∨ (μ.2 6 k = 0 ∧ ((¬ ((0 ≤ x ∧ x ≤ 100) ∧ (0 ≤ y ∧ y ≤ 100) ∧ (0 ≤ f ∧ f ≤ 1000) ∧ (P.nW k = 0 ∨ μ.2 14 (20 * k + P.nW k - 1) ≤ f)) ∧ mm_st (mm_st μ 0 0) 0 3 = u ∧ 0 = r) ∨ (((0 ≤ x ∧ x ≤ 100) ∧ (0 ≤ y ∧ y ≤ 100) ∧ (0 ≤ f ∧ f ≤ 1000) ∧ (P.nW k = 0 ∨ μ.2 14 (20 * k + P.nW k - 1) ≤ f)) ∧ P.nW k = 20 ∧ mm_st (mm_st μ 0 0) 0 4 = u ∧ 0 = r) ∨ (((0 ≤ x ∧ x ≤ 100) ∧ (0 ≤ y ∧ y ≤ 100) ∧ (0 ≤ f ∧ f ≤ 1000) ∧ (P.nW k = 0 ∨ μ.2 14 (20 * k + P.nW k - 1) ≤ f)) ∧ P.nW k < 20 ∧ mm_ar (mm_ar (mm_ar (mm_ar (mm_st μ 0 0) 12 (20 * k + P.nW k) x) 13 (20 * k + P.nW k) y) 14 (20 * k + P.nW k) f) 5 k (nI (P.nW k + 1)) = u ∧ nI (P.nW k) = r))))) b_ v_) : Ag cn fL r_ u_ b_ v_ := by
  have h8 := h.k.1.2
  have hfl : ∀ k, k < P.nC → (P.nW k = 0 ∨ σ.1.2 14 (20 * k + (P.nW k - 1)) ≤ f ↔ P.nW k = 0 ∨ μ.2 14 (20 * k + P.nW k - 1) ≤ f) := by
    intro k hk
    rw [h.ar 14 (by simp)]
    by_cases e : P.nW k = 0
    · exact ⟨fun _ => Or.inl e, fun _ => Or.inl e⟩
    · rw [show 20 * k + (P.nW k - 1) = 20 * k + P.nW k - 1 by omega]
  rcases hx with ⟨v1, u0, ⟨k, hk, ek, hu, hc, h20, e1, rfl⟩, rfl, rfl⟩ | ⟨c, ⟨rfl, hT⟩, rfl⟩ <;> rcases hm with ⟨hn, rfl, rfl⟩ | ⟨j, hj, ej, hm⟩
  · exact absurd ⟨k, hk, ek⟩ hn
  · obtain rfl := nI_w (by omega) hk hj ek ej
    rcases hm with ⟨h6, rfl, rfl⟩ | ⟨h6, hm⟩
    · exact absurd hu ((h.un hk).2.mpr h6)
    · rw [← hfl k hk] at hm
      rcases hm with ⟨hd, rfl, rfl⟩ | ⟨hd, hw, rfl, rfl⟩ | ⟨hd, hw, rfl, rfl⟩
      · exact absurd hc hd
      · omega
      · cases e1
        obtain ⟨xn, xb, ex⟩ := nI_of2 (M := 100) (n := 100) rfl (Int32.not_lt.mpr hc.1.1) hc.1.2
        obtain ⟨yn, yb, ey⟩ := nI_of2 (M := 100) (n := 100) rfl (Int32.not_lt.mpr hc.2.1.1) hc.2.1.2
        obtain ⟨fn, fb, ef⟩ := nI_of2 (M := 1000) (n := 1000) rfl (Int32.not_lt.mpr hc.2.2.1.1) hc.2.2.1.2
        have z15 := h.w0 k (by omega) (P.nW k) (Nat.le_refl _) h20
        refine agr_ok (P' := (mkP P.nC P.nS P.nF P.nT P.yr P.nw (xNewEW P.nW k) P.ch P.fr P.to P.ow P.tn P.od P.yd)) ?_ (mm_st_eq μ 0 0)
        refine Rel.up ⟨h.k.newE hk h20 x y f, (h.m0 0).sc, fun j hj => ?_, h.dc, h.dg, fun c hc1 hc2 => ?_, h.inj, fun c hc1 i hi => ?_, fun c hc1 i hi1 hi2 => ?_, h.gr, h.yr, h.nw, h.sh, h.s4, h.sl, h.ct, h.fl, h.tp, h.bt, h.sy, h.lw⟩
        · simp only [List.mem_cons, List.not_mem_nil, or_false] at hj
          rcases hj with rfl | rfl | rfl | rfl | rfl | rfl | rfl | rfl | rfl | rfl | rfl
          · show upd (σ.1.2 5) k _ = upd (μ.2 5) k _; rw [h.ar 5 (by simp)]
          · exact h.ar 7 (by simp)
          · exact h.ar 9 (by simp)
          · show upd (σ.1.2 12) _ x = upd (μ.2 12) _ x; rw [h.ar 12 (by simp)]
          · show upd (σ.1.2 13) _ y = upd (μ.2 13) _ y; rw [h.ar 13 (by simp)]
          · show upd (σ.1.2 14) _ f = upd (μ.2 14) _ f; rw [h.ar 14 (by simp)]
          · show upd (σ.1.2 15) _ 0 = μ.2 15; rw [upd_id z15, h.ar 15 (by simp)]
          · exact h.ar 23 (by simp)
          · exact h.ar 31 (by simp)
          · exact h.ar 32 (by simp)
          · exact h.ar 33 (by simp)
        · obtain ⟨g1, g2, g3, g4⟩ := h.fr c hc1 hc2
          exact ⟨g1, by show xNewEW P.nW k c = 0; rw [xNewEW, if_neg (by change P.nC ≤ c at hc1; omega)]; exact g2, g3, g4⟩
        · change i < xNewEW P.nW k c at hi
          show ∃ u v f', u < 101 ∧ v < 101 ∧ f' ≤ 1000 ∧ upd (σ.1.2 12) (20 * k + P.nW k) x (20 * c + i) = nI u ∧ upd (σ.1.2 13) (20 * k + P.nW k) y (20 * c + i) = nI v ∧ upd (σ.1.2 14) (20 * k + P.nW k) f (20 * c + i) = nI f'
          have hwc := h.mW c (by change c < P.nC at hc1; omega)
          by_cases e : 20 * c + i = 20 * k + P.nW k
          · rw [e, pk_us, pk_us, pk_us]
            exact ⟨xn, yn, fn, by omega, by omega, fb, ex, ey, ef⟩
          · rw [pk_un e, pk_un e, pk_un e]
            refine h.wl c hc1 i ?_
            rw [xNewEW] at hi
            by_cases e2 : c = k
            · rw [if_pos e2] at hi
              subst e2
              omega
            · rw [if_neg e2] at hi
              exact hi
        · show upd (σ.1.2 15) (20 * k + P.nW k) 0 (20 * c + i) = 0
          rw [upd_id z15]
          change xNewEW P.nW k c ≤ i at hi1
          refine h.w0 c hc1 i ?_ hi2
          rw [xNewEW] at hi1
          by_cases e2 : c = k
          · rw [if_pos e2] at hi1
            subst e2
            omega
          · rw [if_neg e2] at hi1
            exact hi1
  · rcases hT with ⟨rfl, -⟩ | ⟨k, hk, ek, -⟩
    · exact agr_th h 1 (by decide)
    · exact absurd ⟨k, hk, ek⟩ hn
  · rcases hT with ⟨rfl, hno⟩ | ⟨k, hk, ek, hT⟩
    · exact absurd ⟨j, hj, ej⟩ hno
    · obtain rfl := nI_w (by omega) hk hj ek ej
      rcases hT with ⟨rfl, hd⟩ | ⟨hu, hT⟩ <;> rcases hm with ⟨h6, rfl, rfl⟩ | ⟨h6, hm⟩
      · exact agr_th h 2 (by decide)
      · exact absurd ((h.un hk).1.mpr h6) hd
      · exact absurd hu ((h.un hk).2.mpr h6)
      · rw [← hfl k hk] at hm
        rcases hT with ⟨rfl, hc⟩ | ⟨hc, rfl, h20⟩ <;> rcases hm with ⟨hd, rfl, rfl⟩ | ⟨hd, hw, rfl, rfl⟩ | ⟨hd, hw, rfl, rfl⟩
        · exact agr_th h 3 (by decide)
        · exact absurd hd hc
        · exact absurd hd hc
        · exact absurd hc hd
        · exact agr_th h 4 (by decide)
        · omega
theorem o_holder (h : Rel cn P σ μ) (hcn : cn < 64) (v z : Int32) {r_ : Option Value} {u_ : xS} {b_ : Int32} {v_ : mS} (hx : wOut (fun r u => σ = u ∧ ∃ k, k < P.nC ∧ nI k = v ∧ 0 ≤ z ∧ ((σ.1.2 8 k = -1 ∧ some (.int (-1)) = r) ∨ (¬ σ.1.2 8 k = -1 ∧ ∃ i, i < P.nS ∧ pHit σ.1 k (pRem z (σ.1.2 9 k)) i ∧ (∀ j, j < i → ¬ pHit σ.1 k (pRem z (σ.1.2 9 k)) j) ∧ some (.int (xHold σ.1 i z)) = r))) (fun q u => σ = u ∧ ((q = 1 ∧ (¬ ∃ k, k < P.nC ∧ nI k = v)) ∨ ∃ k, k < P.nC ∧ nI k = v ∧ q = 3 ∧ ¬ 0 ≤ z)) (fun z => if z = 1 then 1 else if z = 3 then 2 else 0) (fun v => v.toInt64) r_ u_) (hm : (fun r u => ((¬ ∃ k, k < P.nC ∧ nI k = v) ∧ mm_st (mm_st μ 0 0) 0 1 = u ∧ 0 = r) ∨ ∃ k, k < P.nC ∧ nI k = v ∧ ((¬ 0 ≤ z ∧ mm_st (mm_st μ 0 0) 0 2 = u ∧ 0 = r) ∨ (0 ≤ z ∧ ((μ.2 6 k = 0 ∧ mm_st μ 0 0 = u ∧ (-1) = r) ∨ (μ.2 6 k = 1 ∧ mm_st μ 0 0 = u ∧ (((∀ j, j < P.nS → ¬ pHit μ k (pRem z (μ.2 9 k)) j) ∧ (-1) = r) ∨ ∃ i, i < P.nS ∧ pHit μ k (pRem z (μ.2 9 k)) i ∧ (∀ j, j < i → ¬ pHit μ k (pRem z (μ.2 9 k)) j) ∧ pHold μ i z = r)))))) b_ v_) : Ag cn fL r_ u_ b_ v_ := by
  have h8 := h.k.1.2
  rcases hx with ⟨v1, u0, ⟨rfl, k, hk, ek, hz, hx⟩, rfl, rfl⟩ | ⟨c, ⟨rfl, hT⟩, rfl⟩ <;> rcases hm with ⟨hn, rfl, rfl⟩ | ⟨j, hj, ej, hm⟩
  · exact absurd ⟨k, hk, ek⟩ hn
  · obtain rfl := nI_w (by omega) hk hj ek ej
    rcases hm with ⟨hz2, rfl, rfl⟩ | ⟨-, hm⟩
    · exact absurd hz hz2
    · rcases hx with ⟨hu, e1⟩ | ⟨hu, i, hi, hh, hf, e1⟩ <;> cases e1 <;> rcases hm with ⟨h6, rfl, rfl⟩ | ⟨h6, rfl, hm⟩
      · exact agr_id h
      · exact absurd hu ((h.un hk).2.mpr h6)
      · exact absurd ((h.un hk).1.mpr h6) hu
      · rw [← h.ar 9 (by simp)] at hm
        rcases hm with ⟨hno, rfl⟩ | ⟨i2, hi2, hh2, hf2, rfl⟩
        · exact absurd ((h.hit _ _ hi).mp hh) (hno i hi)
        · have e : i = i2 := by
            rcases Nat.lt_trichotomy i i2 with q | q | q
            · exact absurd ((h.hit _ _ hi).mp hh) (hf2 i q)
            · exact q
            · exact absurd ((h.hit _ _ hi2).mpr hh2) (hf i2 q)
          subst e
          rw [h.hold hi hz]
          exact agr_id h
  · rcases hT with ⟨rfl, -⟩ | ⟨k, hk, ek, -⟩
    · exact agr_th h 1 (by decide)
    · exact absurd ⟨k, hk, ek⟩ hn
  · rcases hT with ⟨rfl, hno⟩ | ⟨k, hk, ek, rfl, hz⟩
    · exact absurd ⟨j, hj, ej⟩ hno
    · rcases hm with ⟨hz2, rfl, rfl⟩ | ⟨hz2, hm⟩
      · exact agr_th h 2 (by decide)
      · exact absurd hz2 hz
theorem pFed_at (σ : mS) (t : Nat) (f : Nat → Int32) : ∀ n i, (pFed σ t f n).2 23 i = if t ≤ i ∧ i < t + n then f (i - t) else σ.2 23 i
  | 0, i => by rw [if_neg (by omega)]; rfl
  | n + 1, i => by
    rw [pFed]
    by_cases e : i = t + n
    · subst e
      rw [mm_ar_s, if_pos (by omega), show t + n - t = n by omega]
    · rw [mm_ar_n e, pFed_at σ t f n i]
      by_cases g : t ≤ i ∧ i < t + n
      · rw [if_pos g, if_pos (by omega)]
      · rw [if_neg g, if_neg (by omega)]
theorem pFed_oo (σ : mS) (t : Nat) (f : Nat → Int32) {k : Nat} (h : k ≠ 23) : ∀ n, (pFed σ t f n).2 k = σ.2 k
  | 0 => rfl
  | n + 1 => by rw [pFed, mm_ar_o h, pFed_oo σ t f h n]
theorem byt59 : ∀ n, n < 256 → ((Int8.ofNat n).toInt32 &&& 255 = 59 ↔ (Int8.ofNat n).toInt32 = 59) := by decide +kernel
theorem pByt59 (a : Int32) (j : Nat) : (pByt a j &&& 255 = 59 ↔ pByt a j = 59) := by
  unfold pByt
  generalize (a >>> (nI (24 - 8 * j) &&& 31)).toInt8 = b
  have e : Int8.ofNat b.toBitVec.toNat = b := by
    show Int8.ofBitVec (BitVec.ofNat 8 b.toBitVec.toNat) = b
    rw [BitVec.ofNat_toNat, BitVec.setWidth_eq]
    rfl
  have := byt59 b.toBitVec.toNat b.toBitVec.isLt
  rw [e] at this
  exact this

theorem xFed_oo (σ : xS) (t : Nat) (f : Nat → Int32) {k : Nat} (h : k ≠ 23) (n : Nat) : (xFed σ t f n).1.2 k = σ.1.2 k := by rw [xFed_1]; exact pFed_oo _ _ _ h n
theorem xFed_at (σ : xS) (t : Nat) (f : Nat → Int32) (n i : Nat) : (xFed σ t f n).1.2 23 i = if t ≤ i ∧ i < t + n then f (i - t) else σ.1.2 23 i := by rw [xFed_1]; exact pFed_at _ _ _ n i
theorem xFed_s1 (σ : xS) (t : Nat) (f : Nat → Int32) (n : Nat) : (xFed σ t f n).1.1 = σ.1.1 := by rw [xFed_1, pFed_1]
theorem mm29 (μ : mS) (a b c1 d e1 : Int32) : (mm_ar (mm_ar (mm_ar (mm_ar (mm_ar (mm_st μ 0 0) 29 0 a) 29 1 b) 29 2 c1) 29 3 d) 29 4 e1).2 29 0 = a ∧ (mm_ar (mm_ar (mm_ar (mm_ar (mm_ar (mm_st μ 0 0) 29 0 a) 29 1 b) 29 2 c1) 29 3 d) 29 4 e1).2 29 1 = b ∧ (mm_ar (mm_ar (mm_ar (mm_ar (mm_ar (mm_st μ 0 0) 29 0 a) 29 1 b) 29 2 c1) 29 3 d) 29 4 e1).2 29 2 = c1 ∧ (mm_ar (mm_ar (mm_ar (mm_ar (mm_ar (mm_st μ 0 0) 29 0 a) 29 1 b) 29 2 c1) 29 3 d) 29 4 e1).2 29 3 = d ∧ (mm_ar (mm_ar (mm_ar (mm_ar (mm_ar (mm_st μ 0 0) 29 0 a) 29 1 b) 29 2 c1) 29 3 d) 29 4 e1).2 29 4 = e1 := by
  refine ⟨?_, ?_, ?_, ?_, ?_⟩
  · rw [mm_ar_n (by decide), mm_ar_n (by decide), mm_ar_n (by decide), mm_ar_n (by decide), mm_ar_s]
  · rw [mm_ar_n (by decide), mm_ar_n (by decide), mm_ar_n (by decide), mm_ar_s]
  · rw [mm_ar_n (by decide), mm_ar_n (by decide), mm_ar_s]
  · rw [mm_ar_n (by decide), mm_ar_s]
  · rw [mm_ar_s]
theorem x5_at (σ : xS) (nT : Nat) (a b c1 d e1 : Int32) (i : Nat) : (xs_st (xFed (xs_st (xFed (xs_st (xFed (xs_st (xFed (xs_st (xFed σ (nT + 0) (fun j => pByt a j) 4) 24 (nI (nT + 0 + 4))) (nT + 4) (fun j => pByt b j) 4) 24 (nI (nT + 4 + 4))) (nT + 8) (fun j => pByt c1 j) 4) 24 (nI (nT + 8 + 4))) (nT + 12) (fun j => pByt d j) 4) 24 (nI (nT + 12 + 4))) (nT + 16) (fun j => pByt e1 j) 4) 24 (nI (nT + 16 + 4))).1.2 23 i = if nT + 16 ≤ i ∧ i < nT + 16 + 4 then pByt e1 (i - (nT + 16)) else if nT + 12 ≤ i ∧ i < nT + 12 + 4 then pByt d (i - (nT + 12)) else if nT + 8 ≤ i ∧ i < nT + 8 + 4 then pByt c1 (i - (nT + 8)) else if nT + 4 ≤ i ∧ i < nT + 4 + 4 then pByt b (i - (nT + 4)) else if nT + 0 ≤ i ∧ i < nT + 0 + 4 then pByt a (i - (nT + 0)) else σ.1.2 23 i := by
  show (xFed _ _ _ 4).1.2 23 i = _
  rw [xFed_at]
  show (if _ then _ else (xFed _ _ _ 4).1.2 23 i) = _
  rw [xFed_at]
  show (if _ then _ else if _ then _ else (xFed _ _ _ 4).1.2 23 i) = _
  rw [xFed_at]
  show (if _ then _ else if _ then _ else if _ then _ else (xFed _ _ _ 4).1.2 23 i) = _
  rw [xFed_at]
  show (if _ then _ else if _ then _ else if _ then _ else if _ then _ else (xFed _ _ _ 4).1.2 23 i) = _
  rw [xFed_at]
  rfl
theorem x5_o (σ : xS) (nT : Nat) (a b c1 d e1 : Int32) {k : Nat} (h : k ≠ 23) : (xs_st (xFed (xs_st (xFed (xs_st (xFed (xs_st (xFed (xs_st (xFed σ (nT + 0) (fun j => pByt a j) 4) 24 (nI (nT + 0 + 4))) (nT + 4) (fun j => pByt b j) 4) 24 (nI (nT + 4 + 4))) (nT + 8) (fun j => pByt c1 j) 4) 24 (nI (nT + 8 + 4))) (nT + 12) (fun j => pByt d j) 4) 24 (nI (nT + 12 + 4))) (nT + 16) (fun j => pByt e1 j) 4) 24 (nI (nT + 16 + 4))).1.2 k = σ.1.2 k := by
  show (xFed _ _ _ 4).1.2 k = _
  rw [xFed_oo _ _ _ h]
  show (xFed _ _ _ 4).1.2 k = _
  rw [xFed_oo _ _ _ h]
  show (xFed _ _ _ 4).1.2 k = _
  rw [xFed_oo _ _ _ h]
  show (xFed _ _ _ 4).1.2 k = _
  rw [xFed_oo _ _ _ h]
  show (xFed _ _ _ 4).1.2 k = _
  rw [xFed_oo _ _ _ h]
theorem x5_s (σ : xS) (nT : Nat) (a b c1 d e1 : Int32) {k : Nat} (h : k ≠ 24) : (xs_st (xFed (xs_st (xFed (xs_st (xFed (xs_st (xFed (xs_st (xFed σ (nT + 0) (fun j => pByt a j) 4) 24 (nI (nT + 0 + 4))) (nT + 4) (fun j => pByt b j) 4) 24 (nI (nT + 4 + 4))) (nT + 8) (fun j => pByt c1 j) 4) 24 (nI (nT + 8 + 4))) (nT + 12) (fun j => pByt d j) 4) 24 (nI (nT + 12 + 4))) (nT + 16) (fun j => pByt e1 j) 4) 24 (nI (nT + 16 + 4))).1.1 k = σ.1.1 k := by
  rw [xs_st_ne _ _ h, xFed_s1, xs_st_ne _ _ h, xFed_s1, xs_st_ne _ _ h, xFed_s1, xs_st_ne _ _ h, xFed_s1, xs_st_ne _ _ h, xFed_s1]
theorem m5_at (μ : mS) (nT : Nat) (a b c1 d e1 : Int32) (i : Nat) : (pFed (mm_ar (mm_ar (mm_ar (mm_ar (mm_ar (mm_st μ 0 0) 29 0 a) 29 1 b) 29 2 c1) 29 3 d) 29 4 e1) nT (fun j => pByt ((mm_ar (mm_ar (mm_ar (mm_ar (mm_ar (mm_st μ 0 0) 29 0 a) 29 1 b) 29 2 c1) 29 3 d) 29 4 e1).2 29 (j / 4)) (j % 4)) 20).2 23 i = if nT + 16 ≤ i ∧ i < nT + 16 + 4 then pByt e1 (i - (nT + 16)) else if nT + 12 ≤ i ∧ i < nT + 12 + 4 then pByt d (i - (nT + 12)) else if nT + 8 ≤ i ∧ i < nT + 8 + 4 then pByt c1 (i - (nT + 8)) else if nT + 4 ≤ i ∧ i < nT + 4 + 4 then pByt b (i - (nT + 4)) else if nT + 0 ≤ i ∧ i < nT + 0 + 4 then pByt a (i - (nT + 0)) else μ.2 23 i := by
  obtain ⟨g0, g1, g2, g3, g4⟩ := mm29 μ a b c1 d e1
  rw [pFed_at]
  have key : ∀ q, q < 5 → nT + 4 * q ≤ i → i < nT + 4 * q + 4 → (i - nT) / 4 = q ∧ (i - nT) % 4 = i - (nT + 4 * q) := fun q _ h1 h2 => by omega
  by_cases h4 : nT + 16 ≤ i ∧ i < nT + 16 + 4
  · rw [if_pos h4, if_pos (by omega), (key 4 (by decide) (by omega) (by omega)).1, (key 4 (by decide) (by omega) (by omega)).2, g4]
  rw [if_neg h4]
  by_cases h3 : nT + 12 ≤ i ∧ i < nT + 12 + 4
  · rw [if_pos h3, if_pos (by omega), (key 3 (by decide) (by omega) (by omega)).1, (key 3 (by decide) (by omega) (by omega)).2, g3]
  rw [if_neg h3]
  by_cases h2 : nT + 8 ≤ i ∧ i < nT + 8 + 4
  · rw [if_pos h2, if_pos (by omega), (key 2 (by decide) (by omega) (by omega)).1, (key 2 (by decide) (by omega) (by omega)).2, g2]
  rw [if_neg h2]
  by_cases h1 : nT + 4 ≤ i ∧ i < nT + 4 + 4
  · rw [if_pos h1, if_pos (by omega), (key 1 (by decide) (by omega) (by omega)).1, (key 1 (by decide) (by omega) (by omega)).2, g1]
  rw [if_neg h1]
  by_cases h0 : nT + 0 ≤ i ∧ i < nT + 0 + 4
  · rw [if_pos h0, if_pos (by omega), (key 0 (by decide) (by omega) (by omega)).1, (key 0 (by decide) (by omega) (by omega)).2, g0]
  rw [if_neg h0, if_neg (by omega), mm_ar_o (by decide), mm_ar_o (by decide), mm_ar_o (by decide), mm_ar_o (by decide), mm_ar_o (by decide)]
  rfl
theorem m5_o (μ : mS) (nT : Nat) (a b c1 d e1 : Int32) (g : Nat → Int32) {k : Nat} (h : k ≠ 23) (h2 : k ≠ 29) : (pFed (mm_ar (mm_ar (mm_ar (mm_ar (mm_ar (mm_st μ 0 0) 29 0 a) 29 1 b) 29 2 c1) 29 3 d) 29 4 e1) nT g 20).2 k = μ.2 k := by
  rw [pFed_oo _ _ _ h, mm_ar_o h2, mm_ar_o h2, mm_ar_o h2, mm_ar_o h2, mm_ar_o h2]
  rfl

theorem Rel.tape {σ' : xS} {μ' : mS} (h : Rel cn P σ μ) (g : Nat → Int32) (hg : ∀ j, (g j &&& 255 = 59 ↔ g j = 59)) {n : Nat} (hn : n ≤ 400) (e1 : ∀ j, j ∈ ([1, 2, 3, 4, 10, 11, 17, 24, 28, 34] : List Nat) → j ≠ 24 → σ'.1.1 j = σ.1.1 j) (e2 : ∀ j, j ∈ ([5, 7, 8, 9, 12, 13, 14, 15, 16, 21, 23, 31, 32, 33] : List Nat) → j ≠ 23 → σ'.1.2 j = σ.1.2 j) (e24 : σ'.1.1 24 = nI n) (e23 : σ'.1.2 23 = g)
    (m1 : ∀ j, j ∈ ([1, 2, 3, 4, 10, 11, 17, 24, 28, 34] : List Nat) → j ≠ 24 → μ'.1 j = μ.1 j) (m2 : ∀ j, j ∈ ([5, 6, 7, 8, 9, 12, 13, 14, 15, 16, 21, 23, 31, 32, 33] : List Nat) → j ≠ 23 → μ'.2 j = μ.2 j) (m24 : μ'.1 24 = nI n) (m23 : μ'.2 23 = g) : Rel cn (mkP P.nC P.nS P.nF (n) P.yr P.nw P.nW P.ch P.fr P.to P.ow P.tn P.od P.yd) σ' μ' := by
  have a5 := e2 5 (by simp) (by decide); have a7 := e2 7 (by simp) (by decide); have a8 := e2 8 (by simp) (by decide); have a9 := e2 9 (by simp) (by decide); have a12 := e2 12 (by simp) (by decide); have a13 := e2 13 (by simp) (by decide); have a14 := e2 14 (by simp) (by decide); have a15 := e2 15 (by simp) (by decide); have a16 := e2 16 (by simp) (by decide); have a21 := e2 21 (by simp) (by decide)
  have b6 := m2 6 (by simp) (by decide); have b7 := m2 7 (by simp) (by decide); have b8 := m2 8 (by simp) (by decide); have b9 := m2 9 (by simp) (by decide); have b16 := m2 16 (by simp) (by decide); have b21 := m2 21 (by simp) (by decide)
  refine ⟨⟨⟨(e1 10 (by simp) (by decide)).trans h.k.1.1, h.k.1.2⟩, ⟨(e1 17 (by simp) (by decide)).trans h.k.2.1.1, h.k.2.1.2⟩, by rw [a5]; exact h.k.2.2.1, by rw [a16]; exact h.k.2.2.2⟩, fun j hj => ?_, fun j hj => ?_, ?_, ?_, ?_, ?_, ?_, ?_, ?_, ?_, ?_, ?_, ?_, ?_, ?_, ?_, ⟨e24, hn⟩, ?_, ?_, by rw [a21]; exact h.lw⟩
  · by_cases e : j = 24
    · subst e
      rw [e24, m24]
    · rw [e1 j hj e, m1 j hj e]
      exact h.sc j hj
  · by_cases e : j = 23
    · subst e
      rw [e23, m23]
    · rw [e2 j (by simp only [List.mem_cons, List.not_mem_nil, or_false] at hj ⊢; omega) e, m2 j (by simp only [List.mem_cons, List.not_mem_nil, or_false] at hj ⊢; omega) e]
      exact h.ar j hj
  · rw [e1 11 (by simp) (by decide), a8]; exact h.dc
  · rw [a8, a9, a7, b6, b8]; exact h.dg
  · rw [b6, b7, b9]; exact h.fr
  · rw [a8]; exact h.inj
  · rw [a12, a13, a14]; exact h.wl
  · rw [a15]; exact h.w0
  · rw [e1 1 (by simp) (by decide), e1 2 (by simp) (by decide)]; exact h.gr
  · rw [e1 3 (by simp) (by decide)]; exact h.yr
  · rw [e1 4 (by simp) (by decide)]; exact h.nw
  · rw [a16, a8]; exact h.sh
  · rw [a16, b16]; exact h.s4
  · rw [a16, b16]; exact h.sl
  · rw [a8]; exact h.ct
  · rw [e1 34 (by simp) (by decide)]; exact h.fl
  · rw [e23]; exact hg
  · rw [a21, b21]; exact h.sy

theorem o_feed (h : Rel cn P σ μ) (hcn : cn < 64) (a b c1 d e1 : Int32) {r_ : Option Value} {u_ : xS} {b_ : Int32} {v_ : mS} (hx : (fun r u => (P.nT + 20 ≤ 400 ∧ xs_st (xFed (xs_st (xFed (xs_st (xFed (xs_st (xFed (xs_st (xFed σ (P.nT + 0) (fun j => pByt a j) 4) 24 (nI (P.nT + 0 + 4))) (P.nT + 4) (fun j => pByt b j) 4) 24 (nI (P.nT + 4 + 4))) (P.nT + 8) (fun j => pByt c1 j) 4) 24 (nI (P.nT + 8 + 4))) (P.nT + 12) (fun j => pByt d j) 4) 24 (nI (P.nT + 12 + 4))) (P.nT + 16) (fun j => pByt e1 j) 4) 24 (nI (P.nT + 16 + 4)) = u ∧ some (.int (nI (P.nT + 20))) = r) ∨ (400 < P.nT + 20 ∧ σ = u ∧ some (.int (-1)) = r)) r_ u_) (hm : (fun r u => (P.nT + 20 ≤ 400 ∧ mm_st (pFed (mm_ar (mm_ar (mm_ar (mm_ar (mm_ar (mm_st μ 0 0) 29 0 a) 29 1 b) 29 2 c1) 29 3 d) 29 4 e1) P.nT (fun j => pByt ((mm_ar (mm_ar (mm_ar (mm_ar (mm_ar (mm_st μ 0 0) 29 0 a) 29 1 b) 29 2 c1) 29 3 d) 29 4 e1).2 29 (j / 4)) (j % 4)) 20) 24 (nI (P.nT + 20)) = u ∧ nI (P.nT + 20) = r) ∨ (400 < P.nT + 20 ∧ mm_st μ 0 0 = u ∧ (-1) = r)) b_ v_) : AgD cn r_ u_ b_ v_ := by
  rcases hx with ⟨hle, rfl, rfl⟩ | ⟨hgt, rfl, rfl⟩ <;> rcases hm with ⟨hle2, rfl, rfl⟩ | ⟨hgt2, rfl, rfl⟩
  · refine ⟨rfl, _, Rel.up (Rel.tape h _ (fun j => ?_) (n := P.nT + 20) (by omega) (fun j _ e => x5_s _ _ _ _ _ _ _ e) (fun j _ e => x5_o _ _ _ _ _ _ _ e) (xs_st_eq _ _ _) rfl (fun j hj e => ?_) (fun j hj e => m5_o _ _ _ _ _ _ _ _ e (by rintro rfl; simp at hj)) (mm_st_eq _ _ _) (funext fun i => ?_))⟩
    · rw [x5_at]
      split
      · exact pByt59 _ _
      split
      · exact pByt59 _ _
      split
      · exact pByt59 _ _
      split
      · exact pByt59 _ _
      split
      · exact pByt59 _ _
      exact h.bt j
    · rw [mm_st_ne _ _ e, pFed_1]
      exact mm_st_ne μ 0 (by rintro rfl; simp at hj)
    · rw [x5_at, h.ar 23 (by simp)]
      exact m5_at _ _ _ _ _ _ _ _
  · omega
  · omega
  · exact ⟨rfl, P, (h.m0 0).up⟩
end OP3
