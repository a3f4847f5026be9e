section OP5
variable {cn : Nat} {P : rP} {σ : xS} {μ : mS} {f : Int32 → Int64}
theorem xAdd_s1 (σ : xS) (n q : Nat) (f t o : Int32) {j : Nat} (h : j ≠ 17) : (xAdd σ n q f t o).1.1 j = σ.1.1 j := xs_st_ne _ _ h
theorem pAdds_s1 (μ : mS) (n : Nat) (q f t o : Int32) {j : Nat} (h : j ≠ 17) : (pAdds μ n q f t o).1 j = μ.1 j := mm_st_ne _ _ h
theorem be_add (σ : xS) {k n : Nat} (h : k < n) (q : Nat) (f t o a b c : Int32) : xBe (xAdd σ n q f t o) k a b c = xAdd (xBe σ k a b c) n q f t o := by
  refine Prod.ext (Prod.ext rfl (funext fun s => ?_)) rfl
  by_cases e : s = 16
  · subst e
    funext j
    by_cases g : 7 * n ≤ j ∧ j ≤ 7 * n + 6
    · have e1 : (xBe (xAdd σ n q f t o) k a b c).1.2 16 j = (xAdd σ n q f t o).1.2 16 j := xBe_f _ _ _ _ _ (by omega)
      refine e1.trans ?_
      rcases (show j = 7 * n ∨ j = 7 * n + 1 ∨ j = 7 * n + 2 ∨ j = 7 * n + 3 ∨ j = 7 * n + 4 ∨ j = 7 * n + 5 ∨ j = 7 * n + 6 by omega) with rfl | rfl | rfl | rfl | rfl | rfl | rfl
      · exact (xAdd_0 _ _ _ _ _ _).trans (xAdd_0 _ _ _ _ _ _).symm
      · exact (xAdd_1 _ _ _ _ _ _).trans (xAdd_1 _ _ _ _ _ _).symm
      · exact (xAdd_2 _ _ _ _ _ _).trans (xAdd_2 _ _ _ _ _ _).symm
      · exact (xAdd_3 _ _ _ _ _ _).trans (xAdd_3 _ _ _ _ _ _).symm
      · exact (xAdd_4 _ _ _ _ _ _).trans (xAdd_4 _ _ _ _ _ _).symm
      · exact (xAdd_5 _ _ _ _ _ _).trans (xAdd_5 _ _ _ _ _ _).symm
      · exact (xAdd_6 _ _ _ _ _ _).trans (xAdd_6 _ _ _ _ _ _).symm
    · refine Eq.trans ?_ (xAdd_at (xBe σ k a b c) n q f t o (j := j) (by omega)).symm
      by_cases g2 : j ≤ 7 * k ∨ 7 * k + 4 < j
      · exact (xBe_at _ _ _ _ _ g2).trans ((xAdd_at _ _ _ _ _ _ (by omega)).trans (xBe_at _ _ _ _ _ g2).symm)
      · have v1 := xBe_v (xAdd σ n q f t o) k a b c
        have v2 := xBe_v σ k a b c
        rcases (show j = 7 * k + 1 ∨ j = 7 * k + 2 ∨ j = 7 * k + 3 ∨ j = 7 * k + 4 by omega) with rfl | rfl | rfl | rfl
        · exact v1.1.trans v2.1.symm
        · exact v1.2.1.trans v2.2.1.symm
        · exact v1.2.2.1.trans v2.2.2.1.symm
        · exact v1.2.2.2.trans v2.2.2.2.symm
  · exact (xBe_o _ _ _ _ _ e).trans ((xAdd_o _ _ _ _ _ _ e).trans ((xBe_o _ _ _ _ _ e).symm.trans (xAdd_o _ _ _ _ _ _ e).symm))
/-- frames: all but the shares -/
def Fx (σ' σ : xS) : Prop := (∀ j, j ≠ 17 → σ'.1.1 j = σ.1.1 j) ∧ ∀ j, j ≠ 16 → j ≠ 19 → j ≠ 20 → σ'.1.2 j = σ.1.2 j
def Fm (μ' μ : mS) : Prop := (∀ j, j ≠ 17 → j ≠ 0 → μ'.1 j = μ.1 j) ∧ ∀ j, j ≠ 16 → j ≠ 18 → j ≠ 19 → j ≠ 20 → μ'.2 j = μ.2 j
theorem Fx.be {σ' : xS} (h : Fx σ' σ) (k : Nat) (a b c : Int32) : Fx (xBe σ' k a b c) σ := ⟨h.1, fun j h1 h2 h3 => (xBe_o _ _ _ _ _ h1).trans (h.2 j h1 h2 h3)⟩
theorem Fx.add {σ' : xS} (h : Fx σ' σ) (n q : Nat) (a b c : Int32) : Fx (xAdd σ' n q a b c) σ := ⟨fun j hj => (xAdd_s1 _ _ _ _ _ _ hj).trans (h.1 j hj), fun j h1 h2 h3 => (xAdd_o _ _ _ _ _ _ h1).trans (h.2 j h1 h2 h3)⟩
theorem Fm.be {μ' : mS} (h : Fm μ' μ) (k : Nat) (a b c : Int32) : Fm (pSets μ' k a b c) μ := ⟨h.1, fun j h1 h2 h3 h4 => (pSets_o _ _ _ _ _ h1).trans (h.2 j h1 h2 h3 h4)⟩
theorem Fm.add {μ' : mS} (h : Fm μ' μ) (n : Nat) (q a b c : Int32) : Fm (pAdds μ' n q a b c) μ := ⟨fun j hj h0 => (pAdds_s1 _ _ _ _ _ _ hj).trans (h.1 j hj h0), fun j h1 h2 h3 h4 => (pAdds_o _ _ _ _ _ _ h1).trans (h.2 j h1 h2 h3 h4)⟩
theorem Fx.rf (σ : xS) : Fx σ σ := ⟨fun _ _ => rfl, fun _ _ _ _ => rfl⟩
theorem Fm.st (μ : mS) (v : Int32) : Fm (mm_st μ 0 v) μ := ⟨fun j _ h0 => mm_st_ne μ v h0, fun _ _ _ _ _ => rfl⟩
theorem Rel.shF {σ' : xS} {μ' : mS} (h : Rel cn P σ μ) {nS : Nat} {ch fr to ow : Nat → Nat} (hs : Sh σ' μ' P.nC P.tn nS ch fr to ow) (hc : ∀ c z, cnt ch fr to c z nS = cnt P.ch P.fr P.to c z P.nS) (hx : Fx σ' σ) (hm : Fm μ' μ) : ∃ P', Rel cn P' σ' μ' :=
  ⟨_, h.shr hs hc (fun j _ e => hx.1 j e) (fun j hj e => hx.2 j e (by rintro rfl; simp at hj) (by rintro rfl; simp at hj)) (fun j hj e => hm.1 j e (by rintro rfl; simp at hj)) (fun j hj e => hm.2 j e (by rintro rfl; simp at hj) (by rintro rfl; simp at hj) (by rintro rfl; simp at hj))⟩
theorem pAdds_0 (μ : mS) (n : Nat) (q f t o : Int32) : (pAdds μ n q f t o).1 0 = μ.1 0 := pAdds_s1 _ _ _ _ _ _ (by decide)
theorem pSets_0 (μ : mS) (n : Nat) (f t o : Int32) : (pSets μ n f t o).1 0 = μ.1 0 := rfl
/-- a share is cut at both ends -/
theorem sell_ok (h : Rel cn P σ μ) {k a b w : Nat} (hk : k < P.nS) (h1 : P.fr k ≤ a) (h2 : a < b) (h3 : b ≤ P.to k) (hw : w < 31) (h60 : P.nS + pMore σ.1 k (nI a) (nI b) ≤ 60) :
    (pSell (mm_st μ 0 0) k P.nS (nI a) (nI b) (nI w)).1 0 = 0 ∧ ∃ P', Rel cn P' (xSell σ k P.nS (P.ch k) (nI a) (nI b) (nI w)) (pSell (mm_st μ 0 0) k P.nS (nI a) (nI b) (nI w)) := by
  have hm0 := h.m0 0
  obtain ⟨s0, s1, s2, s3, hc, hd, hft, htn, ho⟩ := h.sh k hk
  have tl := htn
  have t21 : P.tn (P.ch k) ≤ 21600 := by
    rcases h.dg _ hc with g | g
    · exact absurd g.1 hd
    · exact g.2.2.2.2.2.2.1
  have m0 : (mm_st μ 0 0).2 16 (7 * k) = nI (P.ch k) := (h.s4 k hk 0 (by decide)).symm.trans s0
  have m1 : (mm_st μ 0 0).2 16 (7 * k + 1) = nI (P.fr k) := (h.s4 k hk 1 (by decide)).symm.trans s1
  have m2 : (mm_st μ 0 0).2 16 (7 * k + 2) = nI (P.to k) := (h.s4 k hk 2 (by decide)).symm.trans s2
  have m3 : (mm_st μ 0 0).2 16 (7 * k + 3) = nI (P.ow k) := (h.s4 k hk 3 (by decide)).symm.trans s3
  have S0 := hm0.tbl.be hk h2 (Nat.le_trans h3 htn) hw
  have d1 : ¬ (xBe σ k (nI a) (nI b) (nI w)).1.2 8 (P.ch k) = -1 := by rw [xBe_8]; exact hd
  unfold pMore at h60
  rw [s1, s2] at h60
  unfold xSell pSell
  rw [s1, s2, s3, m0, m1, m2, m3]
  have cA : ∀ c z, cnt P.ch (upN P.fr k a) (upN P.to k b) c z P.nS + ind (P.ch k) (P.fr k) (P.to k) c z = cnt P.ch P.fr P.to c z P.nS + ind (P.ch k) a b c z := fun c z => cnt_be _ _ _ c z _ hk
  by_cases g1 : P.fr k < a
  · have i1 := nI_lt g1 (by omega)
    rw [if_pos i1, if_pos i1]
    rw [if_pos i1] at h60
    have S1 := S0.add (q := P.ch k) (a := P.fr k) (b := a) (o := P.ow k) (by omega) hc d1 g1 (by omega) ho
    by_cases g2 : b < P.to k
    · have i2 := nI_lt g2 (by omega)
      rw [if_pos i2, if_pos i2]
      rw [if_pos i2] at h60
      rw [be_add _ (by omega), be_add _ hk]
      have S2 := S1.add (q := P.ch k) (a := b) (b := P.to k) (o := P.ow k) (by omega) hc (by rw [xAdd_o _ _ _ _ _ _ (by decide)]; exact d1) g2 htn ho
      refine ⟨by rw [pAdds_0, pAdds_0, pSets_0, mm_st_eq], hm0.shF S2 (fun c z => ?_) (((Fx.rf σ).be _ _ _ _).add _ _ _ _ _ |>.add _ _ _ _ _) ((((Fm.st μ 0).be _ _ _ _).add _ _ _ _ _).add _ _ _ _ _ |> fun q => ⟨fun j a b => (q.1 j a b).trans (mm_st_ne μ 0 b).symm, q.2⟩)⟩
      rw [cnt_add, cnt_add]
      have e1 := cA c z
      have e2 := ind_sp (P.ch k) c z (a := P.fr k) (m := a) (b := P.to k) h1 (by omega)
      have e3 := ind_sp (P.ch k) c z (a := a) (m := b) (b := P.to k) (by omega) h3
      omega
    · have i2 := nI_nlt (a := b) (b := P.to k) (by omega) (by omega)
      rw [if_neg i2, if_neg i2]
      rw [be_add _ hk]
      refine ⟨by rw [pAdds_0, pSets_0, mm_st_eq], hm0.shF S1 (fun c z => ?_) (((Fx.rf σ).be _ _ _ _).add _ _ _ _ _) (((Fm.st μ 0).be _ _ _ _).add _ _ _ _ _ |> fun q => ⟨fun j a b => (q.1 j a b).trans (mm_st_ne μ 0 b).symm, q.2⟩)⟩
      rw [cnt_add]
      have e1 := cA c z
      have e2 := ind_sp (P.ch k) c z (a := P.fr k) (m := a) (b := P.to k) h1 (by omega)
      rw [show b = P.to k by omega] at e1 ⊢
      omega
  · have i1 := nI_nlt (a := P.fr k) (b := a) (by omega) (by omega)
    rw [if_neg i1, if_neg i1]
    rw [if_neg i1] at h60
    by_cases g2 : b < P.to k
    · have i2 := nI_lt g2 (by omega)
      rw [if_pos i2, if_pos i2]
      rw [if_pos i2] at h60
      rw [be_add _ hk]
      have S1 := S0.add (q := P.ch k) (a := b) (b := P.to k) (o := P.ow k) (by omega) hc d1 g2 htn ho
      refine ⟨by rw [pAdds_0, pSets_0, mm_st_eq], hm0.shF S1 (fun c z => ?_) (((Fx.rf σ).be _ _ _ _).add _ _ _ _ _) (((Fm.st μ 0).be _ _ _ _).add _ _ _ _ _ |> fun q => ⟨fun j a b => (q.1 j a b).trans (mm_st_ne μ 0 b).symm, q.2⟩)⟩
      rw [cnt_add]
      have e1 := cA c z
      have e3 := ind_sp (P.ch k) c z (a := a) (m := b) (b := P.to k) (by omega) h3
      rw [show P.fr k = a by omega] at e1
      omega
    · have i2 := nI_nlt (a := b) (b := P.to k) (by omega) (by omega)
      rw [if_neg i2, if_neg i2]
      refine ⟨by rw [pSets_0, mm_st_eq], hm0.shF S0 (fun c z => ?_) ((Fx.rf σ).be _ _ _ _) ((Fm.st μ 0).be _ _ _ _ |> fun q => ⟨fun j a b => (q.1 j a b).trans (mm_st_ne μ 0 b).symm, q.2⟩)⟩
      have e1 := cA c z
      rw [show P.fr k = a by omega, show P.to k = b by omega] at e1
      omega

theorem o_sell (h : Rel cn P σ μ) (hcn : cn < 64) (v f t o : Int32) {r_ : Option Value} {u_ : xS} {v_ : mS} (hx : wOutV (fun r u => none = r ∧ ∃ k, k < P.nS ∧ nI k = v ∧ ∃ q, q < P.nC ∧ σ.1.2 16 (7 * k) = nI q ∧ ¬ (¬ σ.1.2 16 (7 * k + 4) = -1 ∧ σ.1.1 4 < σ.1.2 16 (7 * k + 6)) ∧ ((0 ≤ o ∧ o ≤ 30) ∧ σ.1.2 16 (7 * k + 1) ≤ f ∧ f < t ∧ t ≤ σ.1.2 16 (7 * k + 2)) ∧ P.nS + pMore σ.1 k f t ≤ 60 ∧ xSell σ k P.nS q f t o = u) (fun z u => σ = u ∧ ((z = 1 ∧ (¬ ∃ k, k < P.nS ∧ nI k = v)) ∨ ∃ k, k < P.nS ∧ nI k = v ∧ ((z = 2 ∧ (¬ σ.1.2 16 (7 * k + 4) = -1 ∧ σ.1.1 4 < σ.1.2 16 (7 * k + 6))) ∨ (¬ (¬ σ.1.2 16 (7 * k + 4) = -1 ∧ σ.1.1 4 < σ.1.2 16 (7 * k + 6)) ∧ ((z = 3 ∧ ¬ ((0 ≤ o ∧ o ≤ 30) ∧ σ.1.2 16 (7 * k + 1) ≤ f ∧ f < t ∧ t ≤ σ.1.2 16 (7 * k + 2))) ∨ (((0 ≤ o ∧ o ≤ 30) ∧ σ.1.2 16 (7 * k + 1) ≤ f ∧ f < t ∧ t ≤ σ.1.2 16 (7 * k + 2)) ∧ z = 4 ∧ 60 < P.nS + pMore σ.1 k f t)))))) (fun z => if z = 1 then 1 else if z = 2 then 2 else if z = 3 then 3 else if z = 4 then 4 else 0) r_ u_) (hm : (fun u => ((¬ ∃ k, k < P.nS ∧ nI k = v) ∧ mm_st (mm_st μ 0 0) 0 1 = u) ∨ ∃ k, k < P.nS ∧ nI k = v ∧ ((μ.1 4 < μ.2 16 (7 * k + 6) ∧ mm_st (mm_st μ 0 0) 0 2 = u) ∨ (¬ μ.1 4 < μ.2 16 (7 * k + 6) ∧ ((¬ ((0 ≤ o ∧ o ≤ 30) ∧ μ.2 16 (7 * k + 1) ≤ f ∧ f < t ∧ t ≤ μ.2 16 (7 * k + 2)) ∧ mm_st (mm_st μ 0 0) 0 3 = u) ∨ (((0 ≤ o ∧ o ≤ 30) ∧ μ.2 16 (7 * k + 1) ≤ f ∧ f < t ∧ t ≤ μ.2 16 (7 * k + 2)) ∧ ((60 < P.nS + pMore μ k f t ∧ mm_st (mm_st μ 0 0) 0 4 = u) ∨ (P.nS + pMore μ k f t ≤ 60 ∧ pSell (mm_st μ 0 0) k P.nS f t o = u))))))) v_) : AgV cn r_ u_ v_ := by
  have h60 := h.k.2.1.2
  have hpm : ∀ k, k < P.nS → pMore σ.1 k f t = pMore μ k f t := fun k hk => by
    unfold pMore
    rw [h.s4 k hk 1 (by decide), h.s4 k hk 2 (by decide)]
  have hcn : ∀ k, k < P.nS → (((0 ≤ o ∧ o ≤ 30) ∧ σ.1.2 16 (7 * k + 1) ≤ f ∧ f < t ∧ t ≤ σ.1.2 16 (7 * k + 2)) ↔ ((0 ≤ o ∧ o ≤ 30) ∧ μ.2 16 (7 * k + 1) ≤ f ∧ f < t ∧ t ≤ μ.2 16 (7 * k + 2))) := fun k hk => by
    rw [h.s4 k hk 1 (by decide), h.s4 k hk 2 (by decide)]
  rcases hx with ⟨⟨-, k, hk, ek, q, hq, eq, hl, hc, h6, rfl⟩, rfl⟩ | ⟨c, ⟨rfl, hT⟩, rfl⟩ <;> rcases hm with ⟨hn, rfl⟩ | ⟨j, hj, ej, hm⟩
  · exact absurd ⟨k, hk, ek⟩ hn
  · obtain rfl := nI_w (by omega) hk hj ek ej
    rcases hm with ⟨hl2, rfl⟩ | ⟨-, hm⟩
    · exact absurd ((h.let (by omega) hk).mpr hl2) hl
    · rcases hm with ⟨hd, rfl⟩ | ⟨-, hm⟩
      · exact absurd ((hcn k hk).mp hc) hd
      · rcases hm with ⟨hgt, rfl⟩ | ⟨-, rfl⟩
        · rw [hpm k hk] at h6
          omega
        · obtain ⟨s0, s1, s2, -, hcC, -, hft, htn, -⟩ := h.sh k hk
          have t21 : P.tn (P.ch k) ≤ 21600 := by
            rcases h.dg _ hcC with g | g
            · exact absurd g.1 (h.sh k hk).2.2.2.2.2.1
            · exact g.2.2.2.2.2.2.1
          obtain ⟨w, wb, ew⟩ := nI_of2 (M := 30) (n := 30) rfl (Int32.not_lt.mpr hc.1.1) hc.1.2
          have hc2 := hc.2
          rw [s1, s2] at hc2
          obtain ⟨a, ha, ea⟩ := nI_of (x := f) (Int32.not_lt.mpr (Int32.le_trans (nI_pos' (by omega)) hc2.1))
          obtain ⟨b, hb, eb⟩ := nI_of (x := t) (Int32.not_lt.mpr (Int32.le_trans (nI_pos' (by omega)) (Int32.le_trans hc2.1 (Int32.le_of_lt hc2.2.1))))
          subst ea eb ew
          rw [nI_leI (by omega) ha, nI_ltI ha hb, nI_leI hb (by omega)] at hc2
          obtain rfl : q = P.ch k := (nI_eq (by have := h.k.1.2; omega) (by have := h.k.1.2; omega)).mp (eq.symm.trans s0)
          obtain ⟨t0, P', hP⟩ := sell_ok (w := w) h hk hc2.1 hc2.2.1 hc2.2.2 (by omega) h6
          exact ⟨⟨0, rfl, t0⟩, P', hP.up⟩
  · rcases hT with ⟨rfl, -⟩ | ⟨k, hk, ek, -⟩
    · exact agr_thV h 1
    · exact absurd ⟨k, hk, ek⟩ hn
  · rcases hT with ⟨rfl, hno⟩ | ⟨k, hk, ek, hT⟩
    · exact absurd ⟨j, hj, ej⟩ hno
    · obtain rfl := nI_w (by omega) hk hj ek ej
      rcases hT with ⟨rfl, hl⟩ | ⟨hl, hT⟩ <;> rcases hm with ⟨hl2, rfl⟩ | ⟨hl2, hm⟩
      · exact agr_thV h 2
      · exact absurd ((h.let (by omega) hk).mp hl) hl2
      · exact absurd ((h.let (by omega) hk).mpr hl2) hl
      · rcases hT with ⟨rfl, hc⟩ | ⟨hc, rfl, hg⟩ <;> rcases hm with ⟨hd, rfl⟩ | ⟨hd, hm⟩
        · exact agr_thV h 3
        · exact absurd ((hcn k hk).mpr hd) hc
        · exact absurd ((hcn k hk).mp hc) hd
        · rcases hm with ⟨-, rfl⟩ | ⟨hle, rfl⟩
          · exact agr_thV h 4
          · rw [hpm k hk] at hg
            omega
theorem hPc0 {Ln : Nat → Nat} : ∀ n, hPc Ln n = 0 → hSum Ln n = 0
  | 0, _ => rfl
  | n + 1, h => by
    have e : hPc Ln (n + 1) = hPc Ln n + (if 0 < Ln n then 1 else 0) := rfl
    have h0 : Ln n = 0 := by
      rcases Nat.eq_zero_or_pos (Ln n) with g | g
      · exact g
      · rw [if_pos g] at e
        omega
    rw [hSum, h0, hPc0 n (by omega)]
theorem hSum_ln (a S : Nat) (P : Nat → Nat) (lf : Nat) : ∀ n, hSum (hLn a S P lf) n = hTot a S P n + min lf n
  | 0 => by simp [hSum, hTot]
  | n + 1 => by
    have ih := hSum_ln a S P lf n
    have e : hTot a S P (n + 1) = hTot a S P n + a * P n / S := rfl
    rw [hSum, ih, e, hLn]
    by_cases h : n < lf
    · rw [if_pos h]
      omega
    · rw [if_neg h]
      omega
theorem hTot_ge (a S : Nat) (P : Nat → Nat) (hS : 0 < S) : ∀ n, a * hSum P n ≤ S * hTot a S P n + n * (S - 1)
  | 0 => by simp [hSum]
  | n + 1 => by
    have ih := hTot_ge a S P hS n
    have e : hTot a S P (n + 1) = hTot a S P n + a * P n / S := rfl
    have d1 := Nat.div_add_mod (a * P n) S
    have d2 := Nat.mod_lt (a * P n) hS
    rw [hSum, e, Nat.mul_add, Nat.mul_add, Nat.succ_mul]
    omega
theorem hLs_sum {a n : Nat} {P : Nat → Nat} (hn : 0 < n) (hP : 0 < hSum P n) : hSum (hLs a P n) n = a := by
  unfold hLs
  rw [hSum_ln]
  have h1 := hTot_le (a := a) (S := hSum P n) (P := P) (n := n) hP (Nat.le_refl _)
  have h2 := hTot_ge a (hSum P n) P hP n
  have h3 : a - hTot a (hSum P n) P n ≤ n := by
    rcases Nat.lt_or_ge n (a - hTot a (hSum P n) P n) with g | g
    · exfalso
      obtain ⟨d, hd⟩ : ∃ d, a = hTot a (hSum P n) P n + (n + 1 + d) := ⟨a - hTot a (hSum P n) P n - (n + 1), by omega⟩
      have h4 : hSum P n * (hTot a (hSum P n) P n + (n + 1 + d)) ≤ hSum P n * hTot a (hSum P n) P n + n * (hSum P n - 1) := by
        rw [← hd, Nat.mul_comm (hSum P n) a]
        exact h2
      rw [Nat.mul_add] at h4
      have h5 : n * (hSum P n - 1) ≤ n * hSum P n := Nat.mul_le_mul_left _ (Nat.sub_le _ _)
      have h6 : hSum P n * (n + 1) ≤ hSum P n * (n + 1 + d) := Nat.mul_le_mul_left _ (by omega)
      rw [Nat.mul_succ, Nat.mul_comm (hSum P n) n] at h6
      omega
    · exact g
  omega
/-- the heirs' shares, laid side by side -/
theorem heirs_st {τ : xS} {μt : mS} {nC nS : Nat} {tn ch fr to ow : Nat → Nat} (h : Sh τ μt nC tn nS ch fr to ow) {k q F T : Nat} (hk : k < nS) (hq : ch k = q) (hF : fr k = F) (hT : to k = T) (hd : ¬ τ.1.2 8 q = -1) (hqC : q < nC) (hqt : T ≤ tn q) (m0 : μt.2 16 (7 * k) = nI q) (w : Nat → Nat) (Ln : Nat → Nat) (n4 : Nat) (hw : ∀ j, j < n4 → w j < 31) (hsum : F + hSum Ln n4 ≤ T) (h61 : nS + hPc Ln n4 ≤ 61) (wh : Nat → Int32) (hwh : ∀ j, j < n4 → wh j = nI (w j)) :
    ∀ j, j ≤ n4 → ∃ ch' fr' to' ow', Sh (xSt τ k q nS F wh Ln j) (hSt μt k nS F wh Ln j) nC tn (xSn nS Ln j) ch' fr' to' ow' ∧ ch' k = q ∧ ((hPc Ln j = 0 ∧ fr' k = F ∧ to' k = T ∧ ∀ c z, cnt ch' fr' to' c z (xSn nS Ln j) = cnt ch fr to c z nS) ∨ (¬ hPc Ln j = 0 ∧ ∀ c z, cnt ch' fr' to' c z (xSn nS Ln j) + ind q F T c z = cnt ch fr to c z nS + ind q F (F + hSum Ln j) c z)) ∧ Fx (xSt τ k q nS F wh Ln j) τ ∧ Fm (hSt μt k nS F wh Ln j) μt
  | 0, _ => ⟨ch, fr, to, ow, h, hq, Or.inl ⟨rfl, hF, hT, fun _ _ => rfl⟩, Fx.rf _, ⟨fun _ _ _ => rfl, fun _ _ _ _ _ => rfl⟩⟩
  | j + 1, hj => by
    obtain ⟨ch', fr', to', ow', S, c1, c2, fx, fm⟩ := heirs_st h hk hq hF hT hd hqC hqt m0 w Ln n4 hw hsum h61 wh hwh j (by omega)
    have ep : hPc Ln (j + 1) = hPc Ln j + (if 0 < Ln j then 1 else 0) := rfl
    have es : hSum Ln (j + 1) = hSum Ln j + Ln j := rfl
    have mp := hPc_mono Ln hj
    have ms := hSum_mono Ln hj
    have kS : k < xSn nS Ln j := by
      unfold xSn
      split <;> omega
    rw [xSt, hSt]
    by_cases e0 : Ln j = 0
    · rw [if_neg (by omega), Nat.add_zero] at ep
      rw [if_pos e0, if_pos e0]
      refine ⟨ch', fr', to', ow', ?_, c1, ?_, fx, fm⟩
      · unfold xSn
        rw [ep]
        exact S
      · unfold xSn at c2 ⊢
        rw [ep, es, e0, Nat.add_zero]
        exact c2
    · rw [if_pos (by omega)] at ep
      rw [if_neg e0, if_neg e0]
      have hx1 : xSn nS Ln (j + 1) = nS + hPc Ln j := by
        unfold xSn
        rw [ep, if_neg (by omega)]
        omega
      by_cases e1 : hPc Ln j = 0
      · rw [if_pos e1, if_pos e1]
        have s0 := hPc0 j e1
        have hx0 : xSn nS Ln j = nS := by
          unfold xSn
          rw [if_pos e1]
        rw [hx0] at S c2 kS
        rw [hx1, e1, Nat.add_zero, hwh j (by omega)]
        rcases c2 with ⟨-, cF, cT, c2⟩ | ⟨z, -⟩
        · have S1 := S.be (a := F + hSum Ln j) (b := F + hSum Ln j + Ln j) (o := w j) kS (by omega) (by rw [c1]; omega) (hw j (by omega))
          refine ⟨ch', _, _, _, S1, c1, Or.inr ⟨by omega, fun c z => ?_⟩, fx.be _ _ _ _, fm.be _ _ _ _⟩
          have g1 := cnt_be ch' fr' to' c z (k := k) (a := F + hSum Ln j) (b := F + hSum Ln j + Ln j) nS kS
          rw [c1, cF, cT, c2 c z] at g1
          rw [es, s0] at *
          rw [Nat.add_zero] at g1 ⊢
          rw [Nat.zero_add]
          exact g1
        · exact absurd e1 z
      · rw [if_neg e1, if_neg e1]
        have hx0 : xSn nS Ln j = nS + hPc Ln j - 1 := by
          unfold xSn
          rw [if_neg e1]
        rw [hx0] at S c2 kS
        rw [hx1, hwh j (by omega), m0]
        rcases c2 with ⟨z, -⟩ | ⟨-, c2⟩
        · exact absurd z e1
        · have d8 : ¬ (xSt τ k q nS F wh Ln j).1.2 8 q = -1 := by rw [xSt_o _ _ _ _ _ _ _ (by decide)]; exact hd
          have S1 := S.add (q := q) (a := F + hSum Ln j) (b := F + hSum Ln j + Ln j) (o := w j) (by omega) hqC d8 (by omega) (by omega) (hw j (by omega))
          rw [show nS + hPc Ln j - 1 + 1 = nS + hPc Ln j by omega] at S1
          refine ⟨_, _, _, _, S1, (upN_n (by omega)).trans c1, Or.inr ⟨by omega, fun c z => ?_⟩, fx.add _ _ _ _ _, fm.add _ _ _ _ _⟩
          have g1 := cnt_add ch' fr' to' c z (nS + hPc Ln j - 1) q (F + hSum Ln j) (F + hSum Ln j + Ln j)
          rw [show nS + hPc Ln j - 1 + 1 = nS + hPc Ln j by omega] at g1
          have g2 := c2 c z
          have g3 := ind_sp q c z (a := F) (m := F + hSum Ln j) (b := F + hSum Ln j + Ln j) (by omega) (by omega)
          rw [g1, es, ← Nat.add_assoc]
          omega
theorem hSt_0 (τ : mS) (k nS F : Nat) (wh : Nat → Int32) (Ln : Nat → Nat) : ∀ j, (hSt τ k nS F wh Ln j).1 0 = τ.1 0
  | 0 => rfl
  | j + 1 => by
    rw [hSt]
    split
    · exact hSt_0 τ k nS F wh Ln j
    · split
      · exact hSt_0 τ k nS F wh Ln j
      · rw [pAdds_0]; exact hSt_0 τ k nS F wh Ln j

theorem o_heirs (h : Rel cn P σ μ) (hcn : cn < 64) (v x a pa b pb c1 pc1 d pd : Int32) {r_ : Option Value} {u_ : xS} {b_ : Int32} {v_ : mS} (hx : wOut (fun r u => ∃ k, k < P.nS ∧ nI k = v ∧ ∃ q, q < P.nC ∧ σ.1.2 16 (7 * k) = nI q ∧ ¬ (¬ σ.1.2 16 (7 * k + 4) = -1 ∧ σ.1.1 4 < σ.1.2 16 (7 * k + 6)) ∧ ∃ n4, (2 ≤ n4 ∧ n4 ≤ 4) ∧ nI n4 = x ∧ hGood n4 (pk4 a b c1 d) (pk4 pa pb pc1 pd) ∧ ∃ F T : Nat, (σ.1.2 16 (7 * k + 1) = nI F ∧ σ.1.2 16 (7 * k + 2) = nI T ∧ F < T ∧ T ≤ 21600) ∧ ∃ τ : xS, (τ.1.1 = σ.1.1 ∧ (∀ j, j ≠ 19 → j ≠ 20 → τ.1.2 j = σ.1.2 j) ∧ τ.2 = σ.2) ∧ P.nS + hPc (hLs (T - F) (hPn (pk4 pa pb pc1 pd)) n4) n4 - 1 ≤ 60 ∧ xSt τ k q P.nS F (pk4 a b c1 d) (hLs (T - F) (hPn (pk4 pa pb pc1 pd)) n4) n4 = u ∧ some (.int (nI (hPc (hLs (T - F) (hPn (pk4 pa pb pc1 pd)) n4) n4))) = r) (fun z u => (z = 1 ∧ (¬ ∃ k, k < P.nS ∧ nI k = v) ∧ σ = u) ∨ ∃ k, k < P.nS ∧ nI k = v ∧ ((z = 2 ∧ (¬ σ.1.2 16 (7 * k + 4) = -1 ∧ σ.1.1 4 < σ.1.2 16 (7 * k + 6)) ∧ σ = u) ∨ (¬ (¬ σ.1.2 16 (7 * k + 4) = -1 ∧ σ.1.1 4 < σ.1.2 16 (7 * k + 6)) ∧ ((z = 3 ∧ (¬ ∃ n4, (2 ≤ n4 ∧ n4 ≤ 4) ∧ nI n4 = x ∧ hGood n4 (pk4 a b c1 d) (pk4 pa pb pc1 pd)) ∧ σ = u) ∨ ∃ n4, (2 ≤ n4 ∧ n4 ≤ 4) ∧ nI n4 = x ∧ hGood n4 (pk4 a b c1 d) (pk4 pa pb pc1 pd) ∧ ∃ F T : Nat, (σ.1.2 16 (7 * k + 1) = nI F ∧ σ.1.2 16 (7 * k + 2) = nI T ∧ F < T ∧ T ≤ 21600) ∧ (u.1.1 = σ.1.1 ∧ (∀ j, j ≠ 19 → j ≠ 20 → u.1.2 j = σ.1.2 j) ∧ u.2 = σ.2) ∧ z = 4 ∧ 60 < P.nS + hPc (hLs (T - F) (hPn (pk4 pa pb pc1 pd)) n4) n4 - 1)))) (fun z => if z = 1 then 1 else if z = 2 then 2 else if z = 3 then 3 else if z = 4 then 4 else 0) (fun v => v.toInt64) r_ u_) (hm : (fun r u => ((¬ ∃ k, k < P.nS ∧ nI k = v) ∧ mm_st (mm_st μ 0 0) 0 1 = u ∧ 0 = r) ∨ ∃ k, k < P.nS ∧ nI k = v ∧ ((μ.1 4 < μ.2 16 (7 * k + 6) ∧ mm_st (mm_st μ 0 0) 0 2 = u ∧ 0 = r) ∨ (¬ μ.1 4 < μ.2 16 (7 * k + 6) ∧ (((¬ ∃ n4, (2 ≤ n4 ∧ n4 ≤ 4) ∧ nI n4 = x ∧ hGood n4 (pk4 a b c1 d) (pk4 pa pb pc1 pd)) ∧ ∃ τ, pSame3 τ (mm_st μ 0 0) ∧ mm_st τ 0 3 = u ∧ 0 = r) ∨ (∃ n4, (2 ≤ n4 ∧ n4 ≤ 4) ∧ nI n4 = x ∧ hGood n4 (pk4 a b c1 d) (pk4 pa pb pc1 pd) ∧ ∃ F T : Nat, (μ.2 16 (7 * k + 1) = nI F ∧ μ.2 16 (7 * k + 2) = nI T ∧ F < T ∧ T ≤ 21600) ∧ ∃ τ, pSame3 τ (mm_st μ 0 0) ∧ ((60 < P.nS + hPc (hLs (T - F) (hPn (pk4 pa pb pc1 pd)) n4) n4 - 1 ∧ mm_st τ 0 4 = u ∧ 0 = r) ∨ (P.nS + hPc (hLs (T - F) (hPn (pk4 pa pb pc1 pd)) n4) n4 - 1 ≤ 60 ∧ hSt τ k P.nS F (pk4 a b c1 d) (hLs (T - F) (hPn (pk4 pa pb pc1 pd)) n4) n4 = u ∧ nI (hPc (hLs (T - F) (hPn (pk4 pa pb pc1 pd)) n4) n4) = r))))))) b_ v_) : Ag cn fL r_ u_ b_ v_ := by
  have h60 := h.k.2.1.2
  have h8 := h.k.1.2
  rcases hx with ⟨v1, u0, ⟨k, hk, ek, q, hq, eq, hl, n4, h4, e4, hg, F, T, hFT, τ, hτ, hle, rfl, e1⟩, rfl, rfl⟩ | ⟨c, hT, rfl⟩ <;> rcases hm with ⟨hn, rfl, rfl⟩ | ⟨j, hj, ej, hm⟩
  · exact absurd ⟨k, hk, ek⟩ hn
  · obtain rfl := nI_w (by omega) hk hj ek ej
    rcases hm with ⟨hl2, rfl, rfl⟩ | ⟨-, hm⟩
    · exact absurd ((h.let (by omega) hk).mpr hl2) hl
    · rcases hm with ⟨hno, -⟩ | ⟨n5, h5, e5, hg5, F5, T5, hFT5, τm, hτm, hm⟩
      · exact absurd ⟨n4, h4, e4, hg⟩ hno
      · obtain rfl : n4 = n5 := (nI_eq (by omega) (by omega)).mp (e4.trans e5.symm)
        rw [← h.s4 k hk 1 (by decide), ← h.s4 k hk 2 (by decide)] at hFT5
        obtain rfl : F = F5 := (nI_eq (by omega) (by omega)).mp (hFT.1.symm.trans hFT5.1)
        obtain rfl : T = T5 := (nI_eq (by omega) (by omega)).mp (hFT.2.1.symm.trans hFT5.2.1)
        rcases hm with ⟨hgt, rfl, rfl⟩ | ⟨-, rfl, rfl⟩
        · omega
        · cases e1
          obtain ⟨s0, s1, s2, -, hcC, hd, hft, htn, -⟩ := h.sh k hk
          obtain rfl : q = P.ch k := (nI_eq (by omega) (by omega)).mp (eq.symm.trans s0)
          have t21 : P.tn (P.ch k) ≤ 21600 := by
            rcases h.dg _ hcC with g | g
            · exact absurd g.1 hd
            · exact g.2.2.2.2.2.2.1
          have eF : P.fr k = F := (nI_eq (by omega) (by omega)).mp (s1.symm.trans hFT.1)
          have eT : P.to k = T := (nI_eq (by omega) (by omega)).mp (s2.symm.trans hFT.2.1)
          have hbd := hSum_bd (P := hPn (pk4 pa pb pc1 pd)) n4 (Nat.le_refl _) (fun j hj => (hPn_ok hg hj).2)
          have hsum : hSum (hLs (T - F) (hPn (pk4 pa pb pc1 pd)) n4) n4 = T - F := hLs_sum (by omega) (by omega)
          have hpp : ¬ hPc (hLs (T - F) (hPn (pk4 pa pb pc1 pd)) n4) n4 = 0 := fun z => by have := hPc0 n4 z; omega
          have hst : Rel cn P τ τm := by
            refine Rel.cgX (Rel.cgM (h.m0 0) (fun j _ => congrFun hτm.1 j) (fun j hj => hτm.2 j (by rintro rfl; simp at hj) (by rintro rfl; simp at hj) (by rintro rfl; simp at hj))) (fun j _ => congrFun hτ.1 j) (fun j hj => hτ.2.1 j (by rintro rfl; simp at hj) (by rintro rfl; simp at hj))
          obtain ⟨ch', fr', to', ow', S, -, c2, fx, fm⟩ := heirs_st hst.tbl hk rfl eF eT (hst.sh k hk).2.2.2.2.2.1 hcC (by omega) ((hst.s4 k hk 0 (by decide)).symm.trans (hst.sh k hk).1) (fun j => ((pk4 a b c1 d) j).toNatClampNeg) (hLs (T - F) (hPn (pk4 pa pb pc1 pd)) n4) n4 (fun j hj => by
            obtain ⟨p, -, p2, p3⟩ := in_rk (a := 0) (b := 30) (by decide) ((pk4 a b c1 d) j) (hg j hj).1 (by decide)
            rw [← p3, nI_clamp (by omega)]
            omega) (by omega) (by omega) (pk4 a b c1 d) (fun j hj => by
            obtain ⟨p, -, p2, p3⟩ := in_rk (a := 0) (b := 30) (by decide) ((pk4 a b c1 d) j) (hg j hj).1 (by decide)
            rw [← p3, nI_clamp (by omega)]) n4 (Nat.le_refl _)
          rcases c2 with ⟨z, -⟩ | ⟨-, c2⟩
          · exact absurd z hpp
          · obtain ⟨P', hP⟩ := hst.shF S (fun c z => by
              have := c2 c z
              rw [hsum, show F + (T - F) = T by omega] at this
              omega) fx fm
            exact agr_ok hP.up (by rw [hSt_0, congrFun hτm.1 0]; exact mm_st_eq μ 0 0)
  · rcases hT with ⟨rfl, -, rfl⟩ | ⟨k, hk, ek, -⟩
    · exact agr_th h 1 (by decide)
    · exact absurd ⟨k, hk, ek⟩ hn
  · rcases hT with ⟨rfl, hno, -⟩ | ⟨k, hk, ek, hT⟩
    · exact absurd ⟨j, hj, ej⟩ hno
    · obtain rfl := nI_w (by omega) hk hj ek ej
      rcases hT with ⟨rfl, hl, rfl⟩ | ⟨hl, hT⟩ <;> rcases hm with ⟨hl2, rfl, rfl⟩ | ⟨hl2, hm⟩
      · exact agr_th h 2 (by decide)
      · exact absurd ((h.let (by omega) hk).mp hl) hl2
      · exact absurd ((h.let (by omega) hk).mpr hl2) hl
      · rcases hT with ⟨rfl, hno, rfl⟩ | ⟨n4, h4, e4, hg, F, T, hFT, hτ, rfl, hgt⟩ <;> rcases hm with ⟨hno2, τm, hτm, rfl, rfl⟩ | ⟨n5, h5, e5, hg5, F5, T5, hFT5, τm, hτm, hm⟩
        · refine ⟨⟨nI 3, rfl, mm_st_eq _ _ _, fun z => absurd z (by decide)⟩, P, ?_⟩
          exact Rel.up (Rel.m0 (Rel.cgM (h.m0 0) (fun j _ => congrFun hτm.1 j) (fun j hj => hτm.2 j (by rintro rfl; simp at hj) (by rintro rfl; simp at hj) (by rintro rfl; simp at hj))) 3)
        · exact absurd ⟨n5, h5, e5, hg5⟩ hno
        · exact absurd ⟨n4, h4, e4, hg⟩ hno2
        · obtain rfl : n4 = n5 := (nI_eq (by omega) (by omega)).mp (e4.trans e5.symm)
          rw [← h.s4 k hk 1 (by decide), ← h.s4 k hk 2 (by decide)] at hFT5
          obtain rfl : F = F5 := (nI_eq (by omega) (by omega)).mp (hFT.1.symm.trans hFT5.1)
          obtain rfl : T = T5 := (nI_eq (by omega) (by omega)).mp (hFT.2.1.symm.trans hFT5.2.1)
          rcases hm with ⟨-, rfl, rfl⟩ | ⟨hle, rfl, rfl⟩
          · refine ⟨⟨nI 4, rfl, mm_st_eq _ _ _, fun z => absurd z (by decide)⟩, P, ?_⟩
            exact Rel.up (Rel.cgX (Rel.m0 (Rel.cgM (h.m0 0) (fun j _ => congrFun hτm.1 j) (fun j hj => hτm.2 j (by rintro rfl; simp at hj) (by rintro rfl; simp at hj) (by rintro rfl; simp at hj))) 4) (fun j _ => congrFun hτ.1 j) (fun j hj => hτ.2.1 j (by rintro rfl; simp at hj) (by rintro rfl; simp at hj)))
          · omega
end OP5
