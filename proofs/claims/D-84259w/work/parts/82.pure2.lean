/-! waters and the rule of the first come -/
section RW
variable {cn : Nat} {P : rP} {σ : xS} {μ : mS}
theorem Rel.wok (h : Rel cn P σ μ) {c n : Nat} (hc : c < P.nC) (hn : n ≤ P.nW c) : wOk (σ.1.2 12) (σ.1.2 13) (20 * c) n := fun i hi => by
  obtain ⟨u, v, f, h1, h2, -, h3, h4, -⟩ := h.wl c hc i (by omega)
  exact ⟨u, v, h1, h2, h3, h4⟩
theorem Rel.clash (h : Rel cn P σ μ) (a b : Nat) : pClash σ.1 a b ↔ pClash μ a b := by
  unfold pClash
  rw [h.ar 12 (by simp), h.ar 13 (by simp), h.ar 14 (by simp), h.sy 0 (by decide), h.sy 1 (by decide)]
theorem Rel.may (h : Rel cn P σ μ) {k : Nat} (_ : k < P.nC) : xMay σ.1 P.nC P.nW k ↔ pMay μ P.nC P.nW k := by
  unfold xMay pMay
  constructor
  · exact fun ⟨g1, g2⟩ => ⟨g1, fun i hi c hc h6 j hj z => g2 c hc (fun z2 => h6 ((h.un hc).1.mp z2)) i hi j hj ((h.clash _ _).mpr z)⟩
  · exact fun ⟨g1, g2⟩ => ⟨g1, fun c hc h8 i hi j hj z => g2 i hi c hc (fun z2 => h8 ((h.un hc).1.mpr z2)) j hj ((h.clash _ _).mp z)⟩
theorem Rel.draw (h : Rel cn P σ μ) (hcn : cn ≤ 64) {q u v : Nat} (hq : q < P.nC) (hd : ¬ σ.1.2 8 q = -1) (hu : u < 101) (hv : v < 101) : xDraw σ.1 P.nW q (nI u) (nI v) (σ.1.1 3) = pDraw μ P.nW q (nI u) (nI v) ∧ ∃ e, e < 31 ∧ pDraw μ P.nW q (nI u) (nI v) = nI e := by
  rcases h.dg q hq with g | g
  · exact absurd g.1 hd
  unfold xDraw pDraw
  rw [← h.ar 12 (by simp), ← h.ar 13 (by simp), ← h.ar 15 (by simp), ← h.ar 7 (by simp), ← h.sc 3 (by simp), h.yr.1, g.2.2.2.2.2.2.2.1, pk_sub g.2.2.2.2.2.2.2.2]
  obtain ⟨e1, w, hw, e2⟩ := best_ok hu hv (σ.1.2 12) (σ.1.2 13) (20 * q) (pRuns (σ.1.2 15) (20 * q) (P.nW q)) (h.wok hq (pRuns_le _ _ _))
  rw [e1, e2]
  exact ⟨rfl, age_ok hw (by have := h.yr.2; omega)⟩
theorem Rel.seeps (h : Rel cn P σ μ) (hcn : cn ≤ 64) {k w : Nat} (hk : k < P.nC) (hw : w < P.nW k) {ah up : Int32} (hu : ∀ q, q < P.nC → xUse σ.1 k ah q = pUse μ k up q) : xSeeps σ.1 P.nC P.nW k w ah = pSeeps μ P.nC P.nW k w up := by
  obtain ⟨u, v, f, h1, h2, h3, e1, e2, e3⟩ := h.wl k hk w hw
  obtain ⟨hh, z, g1, g2, g3, g4⟩ := h.gr
  have h8 := h.k.1.2
  have hzu : z * u ≤ 20 * 100 := Nat.mul_le_mul g2 (by omega)
  unfold xSeeps pSeeps
  rw [← h.ar 12 (by simp), ← h.ar 13 (by simp), ← h.ar 14 (by simp), ← h.sc 1 (by simp), ← h.sc 2 (by simp), e1, e2, e3, g3, g4, pk_mul, nI_add, zI_n]
  have hde : ∀ q, q < P.nC → xUse σ.1 k ah q = true → ¬ σ.1.2 8 q = -1 := fun q hq z => (of_decide_eq_true z).2.1
  have ec := pTab_cg (t0 := zI ((hh + z * u : Nat) : Int)) (use := xUse σ.1 k ah) (use2 := pUse μ k up) (dr := fun q => xDraw σ.1 P.nW q (nI u) (nI v) (σ.1.1 3)) (dr2 := fun q => pDraw μ P.nW q (nI u) (nI v)) P.nC (fun q hq => ⟨hu q hq, fun z => (h.draw hcn hq (hde q hq z) h1 h2).1⟩)
  obtain ⟨zz, ez, z1, z2⟩ := tab_ok (t := ((hh + z * u : Nat) : Int)) (use := xUse σ.1 k ah) (dr := fun q => xDraw σ.1 P.nW q (nI u) (nI v) (σ.1.1 3)) P.nC (fun q hq z => by
    obtain ⟨a1, e, a2, a3⟩ := h.draw hcn hq (hde q hq z) h1 h2
    exact ⟨e, a2, a1.trans a3⟩)
  rw [← ec, ez]
  exact seep_ok (by omega) (by omega) h3
theorem Rel.flows (h : Rel cn P σ μ) (hcn : cn ≤ 64) {k : Nat} (hk : k < P.nC) {ah up : Int32} (hu : ∀ q, q < P.nC → xUse σ.1 k ah q = pUse μ k up q) : xFlows σ.1 P.nC P.nW k ah = pFlows μ P.nC P.nW k up := by
  unfold xFlows pFlows
  rw [← h.ar 14 (by simp), ← h.ar 15 (by simp)]
  exact pFlow_cg _ _ (fun w hw => h.seeps hcn hk (Nat.lt_of_lt_of_le hw (pRuns_le _ _ _)) hu)
/-- all that are dug -/
theorem Rel.use8 (h : Rel cn P σ μ) (k : Nat) : ∀ q, q < P.nC → xUse σ.1 k (σ.1.1 11) q = pUse μ k 8 q := by
  intro q hq
  have h8 := h.k.1.2
  have hd := dC_le (σ.1.2 8) P.nC
  unfold xUse pUse
  rcases h.dg q hq with g | g
  · rw [decide_eq_false (fun z => z.2.1 g.1), decide_eq_false (fun z => z.2.1 g.2)]
  · rw [h.dc, g.1, g.2.2.1]
    have n1 : ¬ nI (P.od q) = -1 := by
      rw [← g.1]
      exact (h.un hq).2.mpr g.2.2.2.1
    have a1 : ¬ nI (dC (σ.1.2 8) P.nC) ≤ nI (P.od q) := nI_ge g.2.1 (by omega)
    have a2 : ¬ (8 : Int32) < nI (P.od q) := nI_nlt (a := 8) (by omega) (by decide)
    have a3 : ¬ μ.2 6 q = 0 := by rw [g.2.2.2.1]; decide
    by_cases e : q = k
    · rw [decide_eq_false (fun z => z.1 e), decide_eq_false (fun z => z.1 e)]
    · rw [decide_eq_true ⟨e, n1, a1⟩, decide_eq_true ⟨e, a3, a2⟩]
/-- those dug ahead of k -/
theorem Rel.useK (h : Rel cn P σ μ) {k : Nat} (hk : k < P.nC) (hdk : ¬ σ.1.2 8 k = -1) : ∀ q, q < P.nC → xUse σ.1 k (σ.1.2 8 k) q = pUse μ k (μ.2 8 k) q := by
  intro q hq
  have h8 := h.k.1.2
  have hd := dC_le (σ.1.2 8) P.nC
  rcases h.dg k hk with gk | gk
  · exact absurd gk.1 hdk
  unfold xUse pUse
  rcases h.dg q hq with g | g
  · rw [decide_eq_false (fun z => z.2.1 g.1), decide_eq_false (fun z => z.2.1 g.2)]
  · have n1 : ¬ σ.1.2 8 q = -1 := (h.un hq).2.mpr g.2.2.2.1
    have a3 : ¬ μ.2 6 q = 0 := by rw [g.2.2.2.1]; decide
    by_cases e : q = k
    · rw [decide_eq_false (fun z => z.1 e), decide_eq_false (fun z => z.1 e)]
    · have hne : P.od q ≠ P.od k := fun z => e (h.inj q k hq hk n1 (by rw [g.1, gk.1, z]))
      have g2 := g.2.1
      have gk2 := gk.2.1
      rw [gk.1, gk.2.2.1, g.2.2.1]
      by_cases lt : P.od q < P.od k
      · rw [decide_eq_true ⟨e, n1, by rw [g.1]; exact nI_ge lt (by omega)⟩, decide_eq_true ⟨e, a3, nI_nlt (by omega) (by omega)⟩]
      · rw [decide_eq_false (fun z => z.2.2 (by rw [g.1]; exact nI_le (by omega) (by omega))), decide_eq_false (fun z => z.2.2 (nI_lt (by omega) (by omega)))]
end RW
