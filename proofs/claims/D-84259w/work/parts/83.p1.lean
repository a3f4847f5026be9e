/-! op by op -/
def Ag (cn : Nat) (f : Int32 → Int64) (r : Option Value) (u : xS) (b : Int32) (v : mS) : Prop := (∃ k : Int32, some (.int k) = r ∧ v.1 0 = k ∧ (k = 0 → u.2 1 0 = f b)) ∧ ∃ P, Rel (cn + 1) P u v
def AgV (cn : Nat) (r : Option Value) (u : xS) (v : mS) : Prop := (∃ k : Int32, some (.int k) = r ∧ v.1 0 = k) ∧ ∃ P, Rel (cn + 1) P u v
def AgD (cn : Nat) (r : Option Value) (u : xS) (b : Int32) (v : mS) : Prop := some (.int b) = r ∧ ∃ P, Rel (cn + 1) P u v
abbrev fL (v : Int32) : Int64 := v.toInt64
abbrev fB (v : Int32) : Int64 := if v = 1 then 1 else 0
section OP
variable {cn : Nat} {P : rP} {σ : xS} {μ : mS} {f : Int32 → Int64}
theorem lg10 (σ : xS) (x : Int64) : (xs_lg σ 1 0 x).2 1 0 = x := by
  show va_up σ.2 1 (vp_updL (σ.2 1) 0 x) 1 0 = x
  simp only [va_up, if_true, vp_updL]
/-- both went well -/
theorem agr_ok {P' : rP} {u0 : xS} {v : mS} {b : Int32} (h : Rel (cn + 1) P' u0 v) (h0 : v.1 0 = 0) : Ag cn f (some (.int 0)) (xs_lg u0 1 0 (f b)) b v := ⟨⟨0, rfl, h0, fun _ => lg10 _ _⟩, P', h.x1 rfl⟩
/-- nothing changed -/
theorem agr_id (h : Rel cn P σ μ) {b : Int32} : Ag cn f (some (.int 0)) (xs_lg σ 1 0 (f b)) b (mm_st μ 0 0) := agr_ok (h.m0 0).up (mm_st_eq _ _ _)
/-- both threw -/
theorem agr_th (h : Rel cn P σ μ) (c : Nat) (hc : 0 < c ∧ c < 9) {b : Int32} : Ag cn f (some (.int (nI c))) σ b (mm_st (mm_st μ 0 0) 0 (nI c)) := ⟨⟨nI c, rfl, mm_st_eq _ _ _, fun z => absurd z (nI_ne0 hc.1 (by omega))⟩, P, ((h.m0 0).m0 _).up⟩
theorem agr_thV (h : Rel cn P σ μ) (c : Nat) : AgV cn (some (.int (nI c))) σ (mm_st (mm_st μ 0 0) 0 (nI c)) := ⟨⟨nI c, rfl, mm_st_eq _ _ _⟩, P, ((h.m0 0).m0 _).up⟩
theorem nI_w {j k n : Nat} {v : Int32} (hn : n ≤ 100) (hj : j < n) (hk : k < n) (e1 : nI j = v) (e2 : nI k = v) : j = k := (nI_eq (by omega) (by omega)).mp (e1.trans e2.symm)

theorem o_ground (h : Rel cn P σ μ) (hcn : cn < 64) (hg z : Int32) {r_ : Option Value} {u_ : xS} {v_ : mS} (hx : wOutV (fun v u => none = v ∧ ((0 ≤ hg ∧ hg ≤ 2000) ∧ (0 ≤ z ∧ z ≤ 20)) ∧ xs_st (xs_st σ 1 hg) 2 z = u) (fun k u => k = 3 ∧ ¬ ((0 ≤ hg ∧ hg ≤ 2000) ∧ (0 ≤ z ∧ z ≤ 20)) ∧ σ = u) (fun z => if z = 3 then 1 else 0) r_ u_) (hm : (fun u => (((0 ≤ hg ∧ hg ≤ 2000) ∧ (0 ≤ z ∧ z ≤ 20)) ∧ mm_st (mm_st (mm_st μ 0 0) 1 hg) 2 z = u) ∨ (¬ ((0 ≤ hg ∧ hg ≤ 2000) ∧ (0 ≤ z ∧ z ≤ 20)) ∧ mm_st (mm_st μ 0 0) 0 1 = u)) v_) : AgV cn r_ u_ v_ := by
  rcases hx with ⟨⟨-, hc, rfl⟩, rfl⟩ | ⟨k, ⟨rfl, hc, rfl⟩, rfl⟩ <;> rcases hm with ⟨hd, rfl⟩ | ⟨hd, rfl⟩
  · obtain ⟨h1, h1b, e1⟩ := nI_of2 (M := 2000) (n := 2000) rfl (Int32.not_lt.mpr hc.1.1) hc.1.2
    obtain ⟨z1, z1b, e2⟩ := nI_of2 (M := 20) (n := 20) rfl (Int32.not_lt.mpr hc.2.1) hc.2.2
    have h2 := h.m0 0
    refine ⟨⟨0, rfl, mm_st_eq μ 0 0⟩, P, ?_⟩
    refine Rel.up ⟨h.k, fun j hj => ?_, h.ar, h.dc, h.dg, h.fr, h.inj, h.wl, h.w0, ⟨h1, z1, h1b, z1b, e1, e2⟩, h.yr, h.nw, h.sh, h.s4, h.sl, h.ct, h.fl, h.tp, h.bt, h.sy, h.lw⟩
    simp only [List.mem_cons, List.not_mem_nil, or_false] at hj
    rcases hj with rfl | rfl | rfl | rfl | rfl | rfl | rfl | rfl | rfl | rfl
    · rfl
    · rfl
    all_goals exact h.sc _ (by simp)
  · exact absurd hc hd
  · exact absurd hd hc
  · exact agr_thV h 1
theorem o_years (h : Rel cn P σ μ) (hcn : cn < 64) (n : Int32) {r_ : Option Value} {u_ : xS} {b_ : Int32} {v_ : mS} (hx : wOut (fun v u => some (.int (σ.1.1 3 + n)) = v ∧ (0 ≤ n ∧ n ≤ 100) ∧ xs_st σ 3 (σ.1.1 3 + n) = u) (fun k u => k = 3 ∧ ¬ (0 ≤ n ∧ n ≤ 100) ∧ σ = u) (fun z => if z = 3 then 1 else 0) (fun v => v.toInt64) r_ u_) (hm : (fun r u => ((0 ≤ n ∧ n ≤ 100) ∧ mm_st (mm_st μ 0 0) 3 (μ.1 3 + n) = u ∧ μ.1 3 + n = r) ∨ (¬ (0 ≤ n ∧ n ≤ 100) ∧ mm_st (mm_st μ 0 0) 0 1 = u ∧ 0 = r)) b_ v_) : Ag cn fL r_ u_ b_ v_ := by
  rcases hx with ⟨v1, u0, ⟨e1, hc, rfl⟩, rfl, rfl⟩ | ⟨k, ⟨rfl, hc, rfl⟩, rfl⟩ <;> rcases hm with ⟨hd, rfl, rfl⟩ | ⟨hd, rfl, rfl⟩
  · cases e1
    obtain ⟨j, jb, ej⟩ := nI_of2 (M := 100) (n := 100) rfl (Int32.not_lt.mpr hc.1) hc.2
    have e3 := h.sc 3 (by simp)
    rw [e3]
    refine agr_ok (P' := (mkP P.nC P.nS P.nF P.nT (P.yr + j) P.nw P.nW P.ch P.fr P.to P.ow P.tn P.od P.yd)) ?_ (mm_st_eq μ 0 0)
    rw [← e3]
    refine ⟨h.k, fun i hi => ?_, h.ar, h.dc, fun c hc => ?_, h.fr, h.inj, h.wl, h.w0, h.gr, ⟨by show σ.1.1 3 + n = nI (P.yr + j); rw [h.yr.1, ej, nI_add], by have h1 := h.yr.2; show P.yr + j ≤ 100 * (cn + 1); omega⟩, ⟨h.nw.1, by have h1 := h.nw.2; show P.nw ≤ 100000 * (cn + 1); omega⟩, h.sh, h.s4, h.sl, h.ct, h.fl, h.tp, h.bt, h.sy, h.lw⟩
    · simp only [List.mem_cons, List.not_mem_nil, or_false] at hi
      rcases hi with rfl | rfl | rfl | rfl | rfl | rfl | rfl | rfl | rfl | rfl
      · exact h.sc 1 (by simp)
      · exact h.sc 2 (by simp)
      · rfl
      · exact h.sc 4 (by simp)
      · exact h.sc 10 (by simp)
      · exact h.sc 11 (by simp)
      · exact h.sc 17 (by simp)
      · exact h.sc 24 (by simp)
      · exact h.sc 28 (by simp)
      · exact h.sc 34 (by simp)
    · rcases h.dg c hc with g | g
      · exact Or.inl g
      · exact Or.inr ⟨g.1, g.2.1, g.2.2.1, g.2.2.2.1, g.2.2.2.2.1, g.2.2.2.2.2.1, g.2.2.2.2.2.2.1, g.2.2.2.2.2.2.2.1, Nat.le_trans g.2.2.2.2.2.2.2.2 (Nat.le_add_right _ _)⟩
  · exact absurd hc hd
  · exact absurd hd hc
  · exact agr_th h 1 (by decide)
theorem o_minutes (h : Rel cn P σ μ) (hcn : cn < 64) (n : Int32) {r_ : Option Value} {u_ : xS} {b_ : Int32} {v_ : mS} (hx : wOut (fun v u => some (.int (σ.1.1 4 + n)) = v ∧ (0 ≤ n ∧ n ≤ 100000) ∧ xs_st σ 4 (σ.1.1 4 + n) = u) (fun k u => k = 3 ∧ ¬ (0 ≤ n ∧ n ≤ 100000) ∧ σ = u) (fun z => if z = 3 then 1 else 0) (fun v => v.toInt64) r_ u_) (hm : (fun r u => ((0 ≤ n ∧ n ≤ 100000) ∧ mm_st (mm_st μ 0 0) 4 (μ.1 4 + n) = u ∧ μ.1 4 + n = r) ∨ (¬ (0 ≤ n ∧ n ≤ 100000) ∧ mm_st (mm_st μ 0 0) 0 1 = u ∧ 0 = r)) b_ v_) : Ag cn fL r_ u_ b_ v_ := by
  rcases hx with ⟨v1, u0, ⟨e1, hc, rfl⟩, rfl, rfl⟩ | ⟨k, ⟨rfl, hc, rfl⟩, rfl⟩ <;> rcases hm with ⟨hd, rfl, rfl⟩ | ⟨hd, rfl, rfl⟩
  · cases e1
    obtain ⟨j, jb, ej⟩ := nI_of2 (M := 100000) (n := 100000) rfl (Int32.not_lt.mpr hc.1) hc.2
    have e3 := h.sc 4 (by simp)
    rw [e3]
    refine agr_ok (P' := (mkP P.nC P.nS P.nF P.nT P.yr (P.nw + j) P.nW P.ch P.fr P.to P.ow P.tn P.od P.yd)) ?_ (mm_st_eq μ 0 0)
    rw [← e3]
    refine ⟨h.k, fun i hi => ?_, h.ar, h.dc, h.dg, h.fr, h.inj, h.wl, h.w0, h.gr, ⟨h.yr.1, by have h1 := h.yr.2; show P.yr ≤ 100 * (cn + 1); omega⟩, ⟨by show σ.1.1 4 + n = nI (P.nw + j); rw [h.nw.1, ej, nI_add], by have h1 := h.nw.2; show P.nw + j ≤ 100000 * (cn + 1); omega⟩, h.sh, h.s4, h.sl, h.ct, h.fl, h.tp, h.bt, h.sy, h.lw⟩
    · simp only [List.mem_cons, List.not_mem_nil, or_false] at hi
      rcases hi with rfl | rfl | rfl | rfl | rfl | rfl | rfl | rfl | rfl | rfl
      · exact h.sc 1 (by simp)
      · exact h.sc 2 (by simp)
      · exact h.sc 3 (by simp)
      · rfl
      · exact h.sc 10 (by simp)
      · exact h.sc 11 (by simp)
      · exact h.sc 17 (by simp)
      · exact h.sc 24 (by simp)
      · exact h.sc 28 (by simp)
      · exact h.sc 34 (by simp)
  
  · exact absurd hc hd
  · exact absurd hd hc
  · exact agr_th h 1 (by decide)
theorem o_may (h : Rel cn P σ μ) (hcn : cn < 64) (v : Int32) {r_ : Option Value} {u_ : xS} {b_ : Int32} {v_ : mS} (hx : wOut (fun r u => σ = u ∧ ∃ k, k < P.nC ∧ nI k = v ∧ σ.1.2 8 k = -1 ∧ ((some (.int 1) = r ∧ xMay σ.1 P.nC P.nW k) ∨ (some (.int 0) = r ∧ ¬ xMay σ.1 P.nC P.nW k))) (fun q u => σ = u ∧ ((q = 1 ∧ (¬ ∃ k, k < P.nC ∧ nI k = v)) ∨ ∃ k, k < P.nC ∧ nI k = v ∧ q = 2 ∧ ¬ σ.1.2 8 k = -1)) (fun z => if z = 1 then 1 else if z = 2 then 2 else 0) (fun v => if v = 1 then 1 else 0) r_ u_) (hm : (fun r u => ((¬ ∃ k, k < P.nC ∧ nI k = v) ∧ mm_st (mm_st μ 0 0) 0 1 = u ∧ 0 = r) ∨ ∃ k, k < P.nC ∧ nI k = v ∧ ((μ.2 6 k = 1 ∧ mm_st (mm_st μ 0 0) 0 2 = u ∧ 0 = r) ∨ (μ.2 6 k = 0 ∧ mm_st μ 0 0 = u ∧ ((1 = r ∧ pMay μ P.nC P.nW k) ∨ (0 = r ∧ ¬ pMay μ P.nC P.nW k))))) b_ v_) : (b_ = 0 ∨ b_ = 1) ∧ Ag cn fB r_ u_ b_ v_ := by
  rcases hx with ⟨v1, u0, ⟨rfl, k, hk, ek, hu, hv⟩, rfl, rfl⟩ | ⟨c, ⟨rfl, hT⟩, rfl⟩ <;> rcases hm with ⟨hn, rfl, rfl⟩ | ⟨j, hj, ej, hm⟩
  · exact absurd ⟨k, hk, ek⟩ hn
  · obtain rfl := nI_w (by have := h.k.1.2; omega) hj hk ej ek
    rcases hm with ⟨h6, rfl, rfl⟩ | ⟨h6, rfl, hb⟩
    · exact absurd hu ((h.un hk).2.mpr h6)
    · rcases hv with ⟨e1, m1⟩ | ⟨e1, m1⟩ <;> cases e1 <;> rcases hb with ⟨rfl, m2⟩ | ⟨rfl, m2⟩
      · exact ⟨Or.inr rfl, agr_id h⟩
      · exact absurd ((h.may hk).mp m1) m2
      · exact absurd ((h.may hk).mpr m2) m1
      · exact ⟨Or.inl rfl, agr_id h⟩
  · rcases hT with ⟨rfl, -⟩ | ⟨k, hk, ek, rfl, hd⟩
    · exact ⟨Or.inl rfl, agr_th h 1 (by decide)⟩
    · exact absurd ⟨k, hk, ek⟩ hn
  · rcases hT with ⟨rfl, hno⟩ | ⟨k, hk, ek, rfl, hd⟩
    · exact absurd ⟨j, hj, ej⟩ hno
    · obtain rfl := nI_w (by have := h.k.1.2; omega) hj hk ej ek
      rcases hm with ⟨h6, rfl, rfl⟩ | ⟨h6, rfl, hb⟩
      · exact ⟨Or.inl rfl, agr_th h 2 (by decide)⟩
      · exact absurd ((h.un hk).1.mpr h6) hd
theorem o_flow (h : Rel cn P σ μ) (hcn : cn < 64) (v : Int32) {r_ : Option Value} {u_ : xS} {b_ : Int32} {v_ : mS} (hx : wOut (fun r u => σ = u ∧ ∃ k, k < P.nC ∧ nI k = v ∧ ¬ σ.1.2 8 k = -1 ∧ some (.int (xFlows σ.1 P.nC P.nW k (σ.1.1 11))) = r) (fun q u => σ = u ∧ ((q = 1 ∧ (¬ ∃ k, k < P.nC ∧ nI k = v)) ∨ ∃ k, k < P.nC ∧ nI k = v ∧ q = 2 ∧ σ.1.2 8 k = -1)) (fun z => if z = 1 then 1 else if z = 2 then 2 else 0) (fun v => v.toInt64) r_ u_) (hm : (fun r u => ((¬ ∃ k, k < P.nC ∧ nI k = v) ∧ mm_st (mm_st μ 0 0) 0 1 = u ∧ 0 = r) ∨ ∃ k, k < P.nC ∧ nI k = v ∧ ((μ.2 6 k = 0 ∧ mm_st (mm_st μ 0 0) 0 2 = u ∧ 0 = r) ∨ (μ.2 6 k = 1 ∧ mm_st μ 0 0 = u ∧ pFlows μ P.nC P.nW k 8 = r))) b_ v_) : Ag cn fL r_ u_ b_ v_ := by
  rcases hx with ⟨v1, u0, ⟨rfl, k, hk, ek, hu, e1⟩, rfl, rfl⟩ | ⟨c, ⟨rfl, hT⟩, rfl⟩ <;> rcases hm with ⟨hn, rfl, rfl⟩ | ⟨j, hj, ej, hm⟩
  · exact absurd ⟨k, hk, ek⟩ hn
  · obtain rfl := nI_w (by have := h.k.1.2; omega) hk hj ek ej
    rcases hm with ⟨h6, rfl, rfl⟩ | ⟨h6, rfl, rfl⟩
    · exact absurd ((h.un hk).1.mpr h6) hu
    · cases e1
      rw [h.flows (by omega) hk (h.use8 k)]
      exact agr_id h
  · rcases hT with ⟨rfl, -⟩ | ⟨k, hk, ek, rfl, hd⟩
    · exact agr_th h 1 (by decide)
    · exact absurd ⟨k, hk, ek⟩ hn
  · rcases hT with ⟨rfl, hno⟩ | ⟨k, hk, ek, rfl, hd⟩
    · exact absurd ⟨j, hj, ej⟩ hno
    · obtain rfl := nI_w (by have := h.k.1.2; omega) hk hj ek ej
      rcases hm with ⟨h6, rfl, rfl⟩ | ⟨h6, rfl, rfl⟩
      · exact agr_th h 2 (by decide)
      · exact absurd hd ((h.un hk).2.mpr h6)
theorem o_harm (h : Rel cn P σ μ) (hcn : cn < 64) (v : Int32) {r_ : Option Value} {u_ : xS} {b_ : Int32} {v_ : mS} (hx : wOut (fun r u => σ = u ∧ ∃ k, k < P.nC ∧ nI k = v ∧ ¬ σ.1.2 8 k = -1 ∧ some (.int (xFlows σ.1 P.nC P.nW k (σ.1.2 8 k) - xFlows σ.1 P.nC P.nW k (σ.1.1 11))) = r) (fun q u => σ = u ∧ ((q = 1 ∧ (¬ ∃ k, k < P.nC ∧ nI k = v)) ∨ ∃ k, k < P.nC ∧ nI k = v ∧ q = 2 ∧ σ.1.2 8 k = -1)) (fun z => if z = 1 then 1 else if z = 2 then 2 else 0) (fun v => v.toInt64) r_ u_) (hm : (fun r u => ((¬ ∃ k, k < P.nC ∧ nI k = v) ∧ mm_st (mm_st μ 0 0) 0 1 = u ∧ 0 = r) ∨ ∃ k, k < P.nC ∧ nI k = v ∧ ((μ.2 6 k = 0 ∧ mm_st (mm_st μ 0 0) 0 2 = u ∧ 0 = r) ∨ (μ.2 6 k = 1 ∧ mm_st μ 0 0 = u ∧ pFlows μ P.nC P.nW k (μ.2 8 k) - pFlows μ P.nC P.nW k 8 = r))) b_ v_) : Ag cn fL r_ u_ b_ v_ := by
  rcases hx with ⟨v1, u0, ⟨rfl, k, hk, ek, hu, e1⟩, rfl, rfl⟩ | ⟨c, ⟨rfl, hT⟩, rfl⟩ <;> rcases hm with ⟨hn, rfl, rfl⟩ | ⟨j, hj, ej, hm⟩
  · exact absurd ⟨k, hk, ek⟩ hn
  · obtain rfl := nI_w (by have := h.k.1.2; omega) hk hj ek ej
    rcases hm with ⟨h6, rfl, rfl⟩ | ⟨h6, rfl, rfl⟩
    · exact absurd ((h.un hk).1.mpr h6) hu
    · cases e1
      rw [h.flows (by omega) hk (h.useK hk hu), h.flows (by omega) hk (h.use8 k)]
      exact agr_id h
  · rcases hT with ⟨rfl, -⟩ | ⟨k, hk, ek, rfl, hd⟩
    · exact agr_th h 1 (by decide)
    · exact absurd ⟨k, hk, ek⟩ hn
  · rcases hT with ⟨rfl, hno⟩ | ⟨k, hk, ek, rfl, hd⟩
    · exact absurd ⟨j, hj, ej⟩ hno
    · obtain rfl := nI_w (by have := h.k.1.2; omega) hk hj ek ej
      rcases hm with ⟨h6, rfl, rfl⟩ | ⟨h6, rfl, rfl⟩
      · exact agr_th h 2 (by decide)
      · exact absurd hd ((h.un hk).2.mpr h6)
theorem o_seep (h : Rel cn P σ μ) (hcn : cn < 64) (v z : Int32) {r_ : Option Value} {u_ : xS} {b_ : Int32} {v_ : mS} (hx : wOut (fun r u => σ = u ∧ ∃ k j, (k < P.nC ∧ j < P.nW k) ∧ nI k = v ∧ nI j = z ∧ ¬ σ.1.2 8 k = -1 ∧ some (.int (if j < pRuns (σ.1.2 15) (20 * k) (P.nW k) then xSeeps σ.1 P.nC P.nW k j (σ.1.1 11) else 0)) = r) (fun q u => σ = u ∧ ((q = 1 ∧ (¬ ∃ k j, (k < P.nC ∧ j < P.nW k) ∧ nI k = v ∧ nI j = z)) ∨ ∃ k j, (k < P.nC ∧ j < P.nW k) ∧ nI k = v ∧ nI j = z ∧ q = 2 ∧ σ.1.2 8 k = -1)) (fun z => if z = 1 then 1 else if z = 2 then 2 else 0) (fun v => v.toInt64) r_ u_) (hm : (fun r u => ((¬ ∃ k j, (k < P.nC ∧ j < P.nW k) ∧ nI k = v ∧ nI j = z) ∧ mm_st (mm_st μ 0 0) 0 1 = u ∧ 0 = r) ∨ ∃ k j, (k < P.nC ∧ j < P.nW k) ∧ nI k = v ∧ nI j = z ∧ ((μ.2 6 k = 0 ∧ mm_st (mm_st μ 0 0) 0 2 = u ∧ 0 = r) ∨ (μ.2 6 k = 1 ∧ mm_st μ 0 0 = u ∧ (if j < pRuns (μ.2 15) (20 * k) (P.nW k) then pSeeps μ P.nC P.nW k j 8 else 0) = r))) b_ v_) : Ag cn fL r_ u_ b_ v_ := by
  have h8 := h.k.1.2
  rcases hx with ⟨v1, u0, ⟨rfl, k, j, hkj, ek, ej, hu, e1⟩, rfl, rfl⟩ | ⟨c, ⟨rfl, hT⟩, rfl⟩ <;> rcases hm with ⟨hn, rfl, rfl⟩ | ⟨k2, j2, hkj2, ek2, ej2, hm⟩
  · exact absurd ⟨k, j, hkj, ek, ej⟩ hn
  · obtain rfl := nI_w (by omega) hkj.1 hkj2.1 ek ek2
    have hw := h.mW k (by omega)
    obtain rfl := nI_w (by omega) hkj.2 hkj2.2 ej ej2
    rcases hm with ⟨h6, rfl, rfl⟩ | ⟨h6, rfl, rfl⟩
    · exact absurd ((h.un hkj.1).1.mpr h6) hu
    · cases e1
      rw [h.seeps (by omega) hkj.1 hkj.2 (h.use8 k), h.ar 15 (by simp)]
      exact agr_id h
  · rcases hT with ⟨rfl, -⟩ | ⟨k, j, hkj, ek, ej, rfl, hd⟩
    · exact agr_th h 1 (by decide)
    · exact absurd ⟨k, j, hkj, ek, ej⟩ hn
  · rcases hT with ⟨rfl, hno⟩ | ⟨k, j, hkj, ek, ej, rfl, hd⟩
    · exact absurd ⟨k2, j2, hkj2, ek2, ej2⟩ hno
    · obtain rfl := nI_w (by omega) hkj.1 hkj2.1 ek ek2
      rcases hm with ⟨h6, rfl, rfl⟩ | ⟨h6, rfl, rfl⟩
      · exact agr_th h 2 (by decide)
      · exact absurd hd ((h.un hkj.1).2.mpr h6)
theorem o_share (h : Rel cn P σ μ) (hcn : cn < 64) (v x : Int32) {r_ : Option Value} {u_ : xS} {b_ : Int32} {v_ : mS} (hx : wOut (fun r u => ∃ k, k < P.nS ∧ nI k = v ∧ σ = u ∧ ((∃ i, i < 4 ∧ nI i = x ∧ some (.int (σ.1.2 16 (7 * k + i))) = r) ∨ (x = 4 ∧ ((some (.int 1) = r ∧ (¬ σ.1.2 16 (7 * k + 4) = -1 ∧ σ.1.1 4 < σ.1.2 16 (7 * k + 6))) ∨ (some (.int 0) = r ∧ ¬ (¬ σ.1.2 16 (7 * k + 4) = -1 ∧ σ.1.1 4 < σ.1.2 16 (7 * k + 6))))))) (fun q u => σ = u ∧ ((q = 1 ∧ (¬ ∃ k, k < P.nS ∧ nI k = v)) ∨ ∃ k, k < P.nS ∧ nI k = v ∧ q = 5 ∧ (x.toInt < 0 ∨ 4 < x.toInt))) (fun z => if z = 1 then 1 else if z = 5 then 2 else 0) (fun v => v.toInt64) r_ u_) (hm : (fun r u => ((¬ ∃ k, k < P.nS ∧ nI k = v) ∧ mm_st (mm_st μ 0 0) 0 1 = u ∧ 0 = r) ∨ ∃ k, k < P.nS ∧ nI k = v ∧ (((x.toInt < 0 ∨ 4 < x.toInt) ∧ mm_st (mm_st μ 0 0) 0 2 = u ∧ 0 = r) ∨ (∃ i, i < 4 ∧ nI i = x ∧ mm_st μ 0 0 = u ∧ μ.2 16 (7 * k + i) = r) ∨ (x = 4 ∧ mm_st μ 0 0 = u ∧ ((1 = r ∧ μ.1 4 < μ.2 16 (7 * k + 6)) ∨ (0 = r ∧ ¬ μ.1 4 < μ.2 16 (7 * k + 6)))))) b_ v_) : Ag cn fL r_ u_ b_ v_ := by
  have h60 := h.k.2.1.2
  rcases hx with ⟨v1, u0, ⟨k, hk, ek, rfl, hx⟩, rfl, rfl⟩ | ⟨c, ⟨rfl, hT⟩, rfl⟩ <;> rcases hm with ⟨hn, rfl, rfl⟩ | ⟨j, hj, ej, hm⟩
  · exact absurd ⟨k, hk, ek⟩ hn
  · obtain rfl := nI_w (by omega) hk hj ek ej
    rcases hm with ⟨hb, rfl, rfl⟩ | ⟨i, hi, ei, rfl, rfl⟩ | ⟨rfl, rfl, hb⟩
    · rcases hx with ⟨i, hi, ei, -⟩ | ⟨rfl, -⟩
      · rw [← ei, nI_toInt (by omega)] at hb
        omega
      · exact absurd hb (by decide)
    · rcases hx with ⟨i2, hi2, ei2, e1⟩ | ⟨e4, -⟩
      · obtain rfl := nI_w (by omega) hi2 hi ei2 ei
        cases e1
        rw [h.s4 k hk i2 hi2]
        exact agr_id h
      · have := (nI_eq (a := i) (b := 4) (by omega) (by decide)).mp (ei.trans e4)
        omega
    · rcases hx with ⟨i2, hi2, ei2, -⟩ | ⟨-, hx⟩
      · have := (nI_eq (a := i2) (b := 4) (by omega) (by decide)).mp ei2
        omega
      · rcases hx with ⟨e1, l1⟩ | ⟨e1, l1⟩ <;> cases e1 <;> rcases hb with ⟨rfl, l2⟩ | ⟨rfl, l2⟩
        · exact agr_id h
        · exact absurd ((h.let (by omega) hk).mp l1) l2
        · exact absurd ((h.let (by omega) hk).mpr l2) l1
        · exact agr_id h
  · rcases hT with ⟨rfl, -⟩ | ⟨k, hk, ek, -⟩
    · exact agr_th h 1 (by decide)
    · exact absurd ⟨k, hk, ek⟩ hn
  · rcases hT with ⟨rfl, hno⟩ | ⟨k, hk, ek, rfl, hb⟩
    · exact absurd ⟨j, hj, ej⟩ hno
    · rcases hm with ⟨-, rfl, rfl⟩ | ⟨i, hi, ei, -⟩ | ⟨rfl, -⟩
      · exact agr_th h 2 (by decide)
      · rw [← ei, nI_toInt (by omega)] at hb
        omega
      · exact absurd hb (by decide)
theorem o_says (h : Rel cn P σ μ) (hcn : cn < 64) (v : Int32) {r_ : Option Value} {u_ : xS} {b_ : Int32} {v_ : mS} (hx : wOut (fun r u => ∃ k, k < 4 ∧ nI k = v ∧ σ = u ∧ some (.int (σ.1.2 21 k)) = r) (fun k u => k = 5 ∧ (¬ ∃ k, k < 4 ∧ nI k = v) ∧ σ = u) (fun z => if z = 5 then 1 else 0) (fun v => v.toInt64) r_ u_) (hm : (fun r u => (∃ k, k < 4 ∧ nI k = v ∧ mm_st μ 0 0 = u ∧ μ.2 21 k = r) ∨ ((¬ ∃ k, k < 4 ∧ nI k = v) ∧ mm_st (mm_st μ 0 0) 0 1 = u ∧ 0 = r)) b_ v_) : Ag cn fL r_ u_ b_ v_ := by
  rcases hx with ⟨v1, u0, ⟨k, hk, ek, rfl, e1⟩, rfl, rfl⟩ | ⟨c, ⟨rfl, hno, rfl⟩, rfl⟩ <;> rcases hm with ⟨j, hj, ej, rfl, rfl⟩ | ⟨hn, rfl, rfl⟩
  · obtain rfl := nI_w (by omega) hk hj ek ej
    cases e1
    rw [h.sy k hk]
    exact agr_id h
  · exact absurd ⟨k, hk, ek⟩ hn
  · exact absurd ⟨j, hj, ej⟩ hno
  · exact agr_th h 1 (by decide)
theorem o_fault (h : Rel cn P σ μ) (hcn : cn < 64) {r_ : Option Value} {u_ : xS} {b_ : Int32} {v_ : mS} (hx : (fun r u => σ = u ∧ some (.int (σ.1.1 28)) = r) r_ u_) (hm : (fun r u => mm_st μ 0 0 = u ∧ μ.1 28 = r) b_ v_) : AgD cn r_ u_ b_ v_ := by
  obtain ⟨rfl, rfl⟩ := hx
  obtain ⟨rfl, rfl⟩ := hm
  exact ⟨by rw [h.sc 28 (by simp)], P, (h.m0 0).up⟩
end OP
