/-! the two states, side by side -/
def rP : Type := Nat → Nat → Nat
def mkP (nC nS nF nT yr nw : Nat) (nW ch fr to ow tn od yd : Nat → Nat) : rP := fun i j => match i with
  | 0 => nC
  | 1 => nS
  | 2 => nF
  | 3 => nT
  | 4 => yr
  | 5 => nw
  | 6 => nW j
  | 7 => ch j
  | 8 => fr j
  | 9 => to j
  | 10 => ow j
  | 11 => tn j
  | 12 => od j
  | _ => yd j
def rP.nC (P : rP) : Nat := P 0 0
def rP.nS (P : rP) : Nat := P 1 0
def rP.nF (P : rP) : Nat := P 2 0
def rP.nT (P : rP) : Nat := P 3 0
def rP.yr (P : rP) : Nat := P 4 0
def rP.nw (P : rP) : Nat := P 5 0
def rP.nW (P : rP) : Nat → Nat := P 6
def rP.ch (P : rP) : Nat → Nat := P 7
def rP.fr (P : rP) : Nat → Nat := P 8
def rP.to (P : rP) : Nat → Nat := P 9
def rP.ow (P : rP) : Nat → Nat := P 10
def rP.tn (P : rP) : Nat → Nat := P 11
def rP.od (P : rP) : Nat → Nat := P 12
def rP.yd (P : rP) : Nat → Nat := P 13
/-- how many of the first n are dug -/
def dC (f : Nat → Int32) : Nat → Nat
  | 0 => 0
  | n + 1 => dC f n + (if f n = -1 then 0 else 1)
theorem dC_le (f : Nat → Int32) : ∀ n, dC f n ≤ n
  | 0 => Nat.le_refl _
  | n + 1 => by
    have := dC_le f n
    rw [dC]
    split <;> omega
theorem dC_cg {f g : Nat → Int32} : ∀ n, (∀ j, j < n → f j = g j) → dC f n = dC g n
  | 0, _ => rfl
  | n + 1, h => by rw [dC, dC, dC_cg n (fun j hj => h j (by omega)), h n (by omega)]
theorem dC_up {f g : Nat → Int32} {k : Nat} (hk : f k = -1) (hg : ¬ g k = -1) (hne : ∀ j, j ≠ k → g j = f j) : ∀ n, k < n → dC g n = dC f n + 1
  | 0, h => absurd h (Nat.not_lt_zero _)
  | n + 1, h => by
    rw [dC, dC]
    by_cases e : k = n
    · subst e
      rw [if_pos hk, if_neg hg, dC_cg k (fun j hj => hne j (by omega))]
    · rw [dC_up hk hg hne n (by omega), hne n (fun z => e z.symm)]
      omega
/-- how many shares of the channel c cover the minute z -/
def cnt (ch fr to : Nat → Nat) (c z : Nat) : Nat → Nat
  | 0 => 0
  | n + 1 => cnt ch fr to c z n + (if ch n = c ∧ fr n ≤ z ∧ z < to n then 1 else 0)
def Rel (cn : Nat) (P : rP) (σ : xS) (μ : mS) : Prop :=
  (xk σ P.nC P.nS P.nW) ∧
  (∀ j, j ∈ ([1, 2, 3, 4, 10, 11, 17, 24, 28, 34] : List Nat) → σ.1.1 j = μ.1 j) ∧
  (∀ j, j ∈ ([5, 7, 9, 12, 13, 14, 15, 23, 31, 32, 33] : List Nat) → σ.1.2 j = μ.2 j) ∧
  (σ.1.1 11 = nI (dC (σ.1.2 8) P.nC)) ∧
  (∀ c, c < P.nC → (σ.1.2 8 c = -1 ∧ μ.2 6 c = 0) ∨ (σ.1.2 8 c = nI (P.od c) ∧ P.od c < dC (σ.1.2 8) P.nC ∧ μ.2 8 c = nI (P.od c) ∧ μ.2 6 c = 1 ∧ σ.1.2 9 c = nI (P.tn c) ∧ 0 < P.tn c ∧ P.tn c ≤ 21600 ∧ σ.1.2 7 c = nI (P.yd c) ∧ P.yd c ≤ P.yr)) ∧
  (∀ c, P.nC ≤ c → c < 8 → μ.2 6 c = 0 ∧ P.nW c = 0 ∧ μ.2 7 c = 0 ∧ μ.2 9 c = 0) ∧
  (∀ c d, c < P.nC → d < P.nC → ¬ σ.1.2 8 c = -1 → σ.1.2 8 c = σ.1.2 8 d → c = d) ∧
  (∀ c, c < P.nC → ∀ i, i < P.nW c → ∃ u v f, u < 101 ∧ v < 101 ∧ f ≤ 1000 ∧ σ.1.2 12 (20 * c + i) = nI u ∧ σ.1.2 13 (20 * c + i) = nI v ∧ σ.1.2 14 (20 * c + i) = nI f) ∧
  (∀ c, c < 8 → ∀ i, P.nW c ≤ i → i < 20 → σ.1.2 15 (20 * c + i) = 0) ∧
  (∃ h z, h ≤ 2000 ∧ z ≤ 20 ∧ σ.1.1 1 = nI h ∧ σ.1.1 2 = nI z) ∧
  (σ.1.1 3 = nI P.yr ∧ P.yr ≤ 100 * cn) ∧
  (σ.1.1 4 = nI P.nw ∧ P.nw ≤ 100000 * cn) ∧
  (∀ k, k < P.nS → σ.1.2 16 (7 * k) = nI (P.ch k) ∧ σ.1.2 16 (7 * k + 1) = nI (P.fr k) ∧ σ.1.2 16 (7 * k + 2) = nI (P.to k) ∧ σ.1.2 16 (7 * k + 3) = nI (P.ow k) ∧ P.ch k < P.nC ∧ ¬ σ.1.2 8 (P.ch k) = -1 ∧ P.fr k < P.to k ∧ P.to k ≤ P.tn (P.ch k) ∧ P.ow k < 31) ∧
  (∀ k, k < P.nS → ∀ i, i < 4 → σ.1.2 16 (7 * k + i) = μ.2 16 (7 * k + i)) ∧
  (∀ k, k < P.nS → (σ.1.2 16 (7 * k + 4) = -1 ∧ μ.2 16 (7 * k + 5) = 0 ∧ μ.2 16 (7 * k + 6) = 0) ∨ (¬ σ.1.2 16 (7 * k + 4) = -1 ∧ σ.1.2 16 (7 * k + 4) = μ.2 16 (7 * k + 4) ∧ σ.1.2 16 (7 * k + 5) = μ.2 16 (7 * k + 5) ∧ σ.1.2 16 (7 * k + 6) = μ.2 16 (7 * k + 6))) ∧
  (∀ c, c < P.nC → ¬ σ.1.2 8 c = -1 → ∀ z, cnt P.ch P.fr P.to c z P.nS = if z < P.tn c then 1 else 0) ∧
  (σ.1.1 34 = nI P.nF ∧ P.nF ≤ 9) ∧
  (σ.1.1 24 = nI P.nT ∧ P.nT ≤ 400) ∧
  (∀ j, (σ.1.2 23 j &&& 255 = 59 ↔ σ.1.2 23 j = 59)) ∧
  (∀ j, j < 4 → σ.1.2 21 j = μ.2 21 j) ∧
  (∃ n, n ≤ 100 ∧ σ.1.2 21 3 = nI n)
theorem Rel.k {cn : Nat} {P : rP} {σ : xS} {μ : mS} (h : Rel cn P σ μ) : xk σ P.nC P.nS P.nW := h.1
theorem Rel.sc {cn : Nat} {P : rP} {σ : xS} {μ : mS} (h : Rel cn P σ μ) : ∀ j, j ∈ ([1, 2, 3, 4, 10, 11, 17, 24, 28, 34] : List Nat) → σ.1.1 j = μ.1 j := h.2.1
theorem Rel.ar {cn : Nat} {P : rP} {σ : xS} {μ : mS} (h : Rel cn P σ μ) : ∀ j, j ∈ ([5, 7, 9, 12, 13, 14, 15, 23, 31, 32, 33] : List Nat) → σ.1.2 j = μ.2 j := h.2.2.1
theorem Rel.dc {cn : Nat} {P : rP} {σ : xS} {μ : mS} (h : Rel cn P σ μ) : σ.1.1 11 = nI (dC (σ.1.2 8) P.nC) := h.2.2.2.1
theorem Rel.dg {cn : Nat} {P : rP} {σ : xS} {μ : mS} (h : Rel cn P σ μ) : ∀ c, c < P.nC → (σ.1.2 8 c = -1 ∧ μ.2 6 c = 0) ∨ (σ.1.2 8 c = nI (P.od c) ∧ P.od c < dC (σ.1.2 8) P.nC ∧ μ.2 8 c = nI (P.od c) ∧ μ.2 6 c = 1 ∧ σ.1.2 9 c = nI (P.tn c) ∧ 0 < P.tn c ∧ P.tn c ≤ 21600 ∧ σ.1.2 7 c = nI (P.yd c) ∧ P.yd c ≤ P.yr) := h.2.2.2.2.1
theorem Rel.fr {cn : Nat} {P : rP} {σ : xS} {μ : mS} (h : Rel cn P σ μ) : ∀ c, P.nC ≤ c → c < 8 → μ.2 6 c = 0 ∧ P.nW c = 0 ∧ μ.2 7 c = 0 ∧ μ.2 9 c = 0 := h.2.2.2.2.2.1
theorem Rel.inj {cn : Nat} {P : rP} {σ : xS} {μ : mS} (h : Rel cn P σ μ) : ∀ c d, c < P.nC → d < P.nC → ¬ σ.1.2 8 c = -1 → σ.1.2 8 c = σ.1.2 8 d → c = d := h.2.2.2.2.2.2.1
theorem Rel.wl {cn : Nat} {P : rP} {σ : xS} {μ : mS} (h : Rel cn P σ μ) : ∀ c, c < P.nC → ∀ i, i < P.nW c → ∃ u v f, u < 101 ∧ v < 101 ∧ f ≤ 1000 ∧ σ.1.2 12 (20 * c + i) = nI u ∧ σ.1.2 13 (20 * c + i) = nI v ∧ σ.1.2 14 (20 * c + i) = nI f := h.2.2.2.2.2.2.2.1
theorem Rel.w0 {cn : Nat} {P : rP} {σ : xS} {μ : mS} (h : Rel cn P σ μ) : ∀ c, c < 8 → ∀ i, P.nW c ≤ i → i < 20 → σ.1.2 15 (20 * c + i) = 0 := h.2.2.2.2.2.2.2.2.1
theorem Rel.gr {cn : Nat} {P : rP} {σ : xS} {μ : mS} (h : Rel cn P σ μ) : ∃ h z, h ≤ 2000 ∧ z ≤ 20 ∧ σ.1.1 1 = nI h ∧ σ.1.1 2 = nI z := h.2.2.2.2.2.2.2.2.2.1
theorem Rel.yr {cn : Nat} {P : rP} {σ : xS} {μ : mS} (h : Rel cn P σ μ) : σ.1.1 3 = nI P.yr ∧ P.yr ≤ 100 * cn := h.2.2.2.2.2.2.2.2.2.2.1
theorem Rel.nw {cn : Nat} {P : rP} {σ : xS} {μ : mS} (h : Rel cn P σ μ) : σ.1.1 4 = nI P.nw ∧ P.nw ≤ 100000 * cn := h.2.2.2.2.2.2.2.2.2.2.2.1
theorem Rel.sh {cn : Nat} {P : rP} {σ : xS} {μ : mS} (h : Rel cn P σ μ) : ∀ k, k < P.nS → σ.1.2 16 (7 * k) = nI (P.ch k) ∧ σ.1.2 16 (7 * k + 1) = nI (P.fr k) ∧ σ.1.2 16 (7 * k + 2) = nI (P.to k) ∧ σ.1.2 16 (7 * k + 3) = nI (P.ow k) ∧ P.ch k < P.nC ∧ ¬ σ.1.2 8 (P.ch k) = -1 ∧ P.fr k < P.to k ∧ P.to k ≤ P.tn (P.ch k) ∧ P.ow k < 31 := h.2.2.2.2.2.2.2.2.2.2.2.2.1
theorem Rel.s4 {cn : Nat} {P : rP} {σ : xS} {μ : mS} (h : Rel cn P σ μ) : ∀ k, k < P.nS → ∀ i, i < 4 → σ.1.2 16 (7 * k + i) = μ.2 16 (7 * k + i) := h.2.2.2.2.2.2.2.2.2.2.2.2.2.1
theorem Rel.sl {cn : Nat} {P : rP} {σ : xS} {μ : mS} (h : Rel cn P σ μ) : ∀ k, k < P.nS → (σ.1.2 16 (7 * k + 4) = -1 ∧ μ.2 16 (7 * k + 5) = 0 ∧ μ.2 16 (7 * k + 6) = 0) ∨ (¬ σ.1.2 16 (7 * k + 4) = -1 ∧ σ.1.2 16 (7 * k + 4) = μ.2 16 (7 * k + 4) ∧ σ.1.2 16 (7 * k + 5) = μ.2 16 (7 * k + 5) ∧ σ.1.2 16 (7 * k + 6) = μ.2 16 (7 * k + 6)) := h.2.2.2.2.2.2.2.2.2.2.2.2.2.2.1
theorem Rel.ct {cn : Nat} {P : rP} {σ : xS} {μ : mS} (h : Rel cn P σ μ) : ∀ c, c < P.nC → ¬ σ.1.2 8 c = -1 → ∀ z, cnt P.ch P.fr P.to c z P.nS = if z < P.tn c then 1 else 0 := h.2.2.2.2.2.2.2.2.2.2.2.2.2.2.2.1
theorem Rel.fl {cn : Nat} {P : rP} {σ : xS} {μ : mS} (h : Rel cn P σ μ) : σ.1.1 34 = nI P.nF ∧ P.nF ≤ 9 := h.2.2.2.2.2.2.2.2.2.2.2.2.2.2.2.2.1
theorem Rel.tp {cn : Nat} {P : rP} {σ : xS} {μ : mS} (h : Rel cn P σ μ) : σ.1.1 24 = nI P.nT ∧ P.nT ≤ 400 := h.2.2.2.2.2.2.2.2.2.2.2.2.2.2.2.2.2.1
theorem Rel.bt {cn : Nat} {P : rP} {σ : xS} {μ : mS} (h : Rel cn P σ μ) : ∀ j, (σ.1.2 23 j &&& 255 = 59 ↔ σ.1.2 23 j = 59) := h.2.2.2.2.2.2.2.2.2.2.2.2.2.2.2.2.2.2.1
theorem Rel.sy {cn : Nat} {P : rP} {σ : xS} {μ : mS} (h : Rel cn P σ μ) : ∀ j, j < 4 → σ.1.2 21 j = μ.2 21 j := h.2.2.2.2.2.2.2.2.2.2.2.2.2.2.2.2.2.2.2.1
theorem Rel.lw {cn : Nat} {P : rP} {σ : xS} {μ : mS} (h : Rel cn P σ μ) : ∃ n, n ≤ 100 ∧ σ.1.2 21 3 = nI n := h.2.2.2.2.2.2.2.2.2.2.2.2.2.2.2.2.2.2.2.2
section RL
variable {cn : Nat} {P : rP} {σ : xS} {μ : mS}
theorem mm_st_ne (μ : mS) {k j : Nat} (v : Int32) (h : j ≠ k) : (mm_st μ k v).1 j = μ.1 j := by
  show va_up μ.1 k v j = _
  simp only [va_up, if_neg h]
theorem mm_st_eq (μ : mS) (k : Nat) (v : Int32) : (mm_st μ k v).1 k = v := by
  show va_up μ.1 k v k = _
  simp only [va_up, if_true]
theorem xs_st_ne (σ : xS) {k j : Nat} (v : Int32) (h : j ≠ k) : (xs_st σ k v).1.1 j = σ.1.1 j := mm_st_ne σ.1 v h
theorem xs_st_eq (σ : xS) (k : Nat) (v : Int32) : (xs_st σ k v).1.1 k = v := mm_st_eq σ.1 k v
/-- what a model method has thrown is no part of it -/
theorem Rel.m0 (h : Rel cn P σ μ) (v : Int32) : Rel cn P σ (mm_st μ 0 v) :=
  ⟨h.k, fun j hj => (h.sc j hj).trans (mm_st_ne μ v (by rintro rfl; simp at hj)).symm, h.ar, h.dc, h.dg, h.fr, h.inj, h.wl, h.w0, h.gr, h.yr, h.nw, h.sh, h.s4, h.sl, h.ct, h.fl, h.tp, h.bt, h.sy, h.lw⟩
theorem Rel.x1 {σ' : xS} (h : Rel cn P σ μ) (e : σ'.1 = σ.1) : Rel cn P σ' μ := by
  have hk : xk σ' P.nC P.nS P.nW := by
    unfold xk
    rw [e]
    exact h.k
  exact ⟨hk, by rw [e]; exact h.sc, by rw [e]; exact h.ar, by rw [e]; exact h.dc, by rw [e]; exact h.dg, h.fr, by rw [e]; exact h.inj, by rw [e]; exact h.wl, by rw [e]; exact h.w0, by rw [e]; exact h.gr, by rw [e]; exact h.yr, by rw [e]; exact h.nw, by rw [e]; exact h.sh, by rw [e]; exact h.s4, by rw [e]; exact h.sl, by rw [e]; exact h.ct, by rw [e]; exact h.fl, by rw [e]; exact h.tp, by rw [e]; exact h.bt, by rw [e]; exact h.sy, by rw [e]; exact h.lw⟩
theorem Rel.up (h : Rel cn P σ μ) : Rel (cn + 1) P σ μ := ⟨h.k, h.sc, h.ar, h.dc, h.dg, h.fr, h.inj, h.wl, h.w0, h.gr, ⟨h.yr.1, by have := h.yr.2; omega⟩, ⟨h.nw.1, by have := h.nw.2; omega⟩, h.sh, h.s4, h.sl, h.ct, h.fl, h.tp, h.bt, h.sy, h.lw⟩
/-! the facts that the contracts ask -/
theorem Rel.m10 (h : Rel cn P σ μ) : μ.1 10 = nI P.nC := (h.sc 10 (by simp)).symm.trans h.k.1.1
theorem Rel.m17 (h : Rel cn P σ μ) : μ.1 17 = nI P.nS := (h.sc 17 (by simp)).symm.trans h.k.2.1.1
theorem Rel.m11 (h : Rel cn P σ μ) : μ.1 11 = nI (dC (σ.1.2 8) P.nC) := (h.sc 11 (by simp)).symm.trans h.dc
theorem Rel.m34 (h : Rel cn P σ μ) : μ.1 34 = nI P.nF := (h.sc 34 (by simp)).symm.trans h.fl.1
theorem Rel.m24 (h : Rel cn P σ μ) : μ.1 24 = nI P.nT := (h.sc 24 (by simp)).symm.trans h.tp.1
theorem Rel.m5 (h : Rel cn P σ μ) : ∀ c, c < 8 → μ.2 5 c = nI (P.nW c) := fun c hc => (congrFun (h.ar 5 (by simp)) c).symm.trans (h.k.2.2.1 c hc).1
theorem Rel.mW (h : Rel cn P σ μ) : ∀ c, c < 8 → P.nW c ≤ 20 := fun c hc => (h.k.2.2.1 c hc).2
theorem Rel.m6 (h : Rel cn P σ μ) : ∀ c, c < 8 → μ.2 6 c = 0 ∨ μ.2 6 c = 1 := by
  intro c hc
  rcases Nat.lt_or_ge c P.nC with g | g
  · rcases h.dg c g with q | q
    · exact Or.inl q.2
    · exact Or.inr q.2.2.2.1
  · exact Or.inl (h.fr c g hc).1
/-- dug here, dug there -/
theorem Rel.un (h : Rel cn P σ μ) {c : Nat} (hc : c < P.nC) : (σ.1.2 8 c = -1 ↔ μ.2 6 c = 0) ∧ (¬ σ.1.2 8 c = -1 ↔ μ.2 6 c = 1) := by
  rcases h.dg c hc with q | q
  · exact ⟨⟨fun _ => q.2, fun _ => q.1⟩, fun z => absurd q.1 z, fun z => absurd (q.2.symm.trans z) (by decide)⟩
  · have n1 : ¬ σ.1.2 8 c = -1 := by
      rw [q.1]
      have h8 := h.k.1.2
      have := dC_le (σ.1.2 8) P.nC
      intro z
      have := congrArg Int32.toInt z
      rw [nI_toInt (by omega)] at this
      change ((P.od c : Nat) : Int) = -1 at this
      omega
    exact ⟨⟨fun z => absurd z n1, fun z => absurd (q.2.2.2.1.symm.trans z) (by decide)⟩, fun _ => q.2.2.2.1, fun _ => n1⟩
theorem Rel.m9 (h : Rel cn P σ μ) : ∀ c, c < 8 → μ.2 6 c = 1 → ¬ μ.2 9 c = 0 := by
  intro c hc h1
  rcases Nat.lt_or_ge c P.nC with g | g
  · rcases h.dg c g with q | q
    · exact absurd (q.2.symm.trans h1) (by decide)
    · rw [← congrFun (h.ar 9 (by simp)) c, q.2.2.2.2.1]
      exact nI_ne0 q.2.2.2.2.2.1 (by have := q.2.2.2.2.2.2.1; omega)
  · exact absurd ((h.fr c g hc).1.symm.trans h1) (by decide)
theorem Rel.let (h : Rel cn P σ μ) (hcn : cn ≤ 64) {k : Nat} (hk : k < P.nS) : (¬ σ.1.2 16 (7 * k + 4) = -1 ∧ σ.1.1 4 < σ.1.2 16 (7 * k + 6)) ↔ μ.1 4 < μ.2 16 (7 * k + 6) := by
  rw [← h.sc 4 (by simp)]
  rcases h.sl k hk with q | q
  · constructor
    · exact fun z => absurd q.1 z.1
    · intro z
      rw [q.2.2, h.nw.1] at z
      exact absurd z (nI_pos (by have := h.nw.2; omega))
  · rw [q.2.2.2]
    exact ⟨fun z => z.2, fun z => ⟨q.1, z⟩⟩
end RL
