/-! pays: minutes of the owners -/
def mnt (ch fr to ow : Nat → Nat) (q : Nat) : Nat → Nat → Nat
  | 0 => fun _ => 0
  | n + 1 => if ch n = q then upN (mnt ch fr to ow q n) (ow n) (mnt ch fr to ow q n (ow n) + (to n - fr n)) else mnt ch fr to ow q n
def lenQ (ch fr to : Nat → Nat) (q : Nat) : Nat → Nat
  | 0 => 0
  | n + 1 => lenQ ch fr to q n + (if ch n = q then to n - fr n else 0)
theorem hSum_cg {f g : Nat → Nat} : ∀ n, (∀ j, j < n → f j = g j) → hSum f n = hSum g n
  | 0, _ => rfl
  | n + 1, h => by rw [hSum, hSum, hSum_cg n (fun j hj => h j (by omega)), h n (by omega)]
theorem hSum_up (f : Nat → Nat) (k d : Nat) : ∀ n, hSum (upN f k (f k + d)) n = hSum f n + (if k < n then d else 0)
  | 0 => rfl
  | n + 1 => by
    rw [hSum, hSum, hSum_up f k d n]
    by_cases e : n = k
    · subst e
      rw [upN_s, if_neg (Nat.lt_irrefl _), if_pos (Nat.lt_succ_self _)]
      omega
    · rw [upN_n e]
      by_cases g : k < n
      · rw [if_pos g, if_pos (by omega)]
        omega
      · rw [if_neg g, if_neg (by omega)]
        omega
theorem hSum_add (f g : Nat → Nat) : ∀ n, hSum (fun j => f j + g j) n = hSum f n + hSum g n
  | 0 => rfl
  | n + 1 => by rw [hSum, hSum, hSum, hSum_add f g n]; omega
theorem hSum_lt (t : Nat) : ∀ n, hSum (fun z => if z < t then 1 else 0) n = min t n
  | 0 => by simp [hSum]
  | n + 1 => by
    rw [hSum, hSum_lt t n]
    by_cases g : n < t
    · rw [if_pos g]; omega
    · rw [if_neg g]; omega
theorem hSum_ind (q c a b : Nat) : ∀ n, hSum (fun z => ind q a b c z) n = if q = c then min b n - a else 0
  | 0 => by
    rw [hSum]
    split <;> omega
  | n + 1 => by
    rw [hSum, hSum_ind q c a b n, ind]
    by_cases e : q = c
    · rw [if_pos e, if_pos e]
      by_cases g : a ≤ n ∧ n < b
      · rw [if_pos ⟨e, g⟩]; omega
      · rw [if_neg (fun w => g w.2)]; omega
    · rw [if_neg e, if_neg e, if_neg (fun w => e w.1)]
theorem len_cnt (ch fr to : Nat → Nat) (q M : Nat) : ∀ n, (∀ j, j < n → to j ≤ M) → lenQ ch fr to q n = hSum (fun z => cnt ch fr to q z n) M
  | 0, _ => by
    rw [lenQ]
    have : ∀ m, hSum (fun z => cnt ch fr to q z 0) m = 0 := by
      intro m
      induction m with
      | zero => rfl
      | succ m ih => rw [hSum, ih]; rfl
    rw [this]
  | n + 1, h => by
    have e : (fun z => cnt ch fr to q z (n + 1)) = fun z => cnt ch fr to q z n + ind (ch n) (fr n) (to n) q z := rfl
    rw [lenQ, e, hSum_add, ← len_cnt ch fr to q M n (fun j hj => h j (by omega)), hSum_ind, Nat.min_eq_left (h n (by omega))]
theorem mnt_sum (ch fr to ow : Nat → Nat) (q : Nat) : ∀ n, (∀ j, j < n → ow j < 31) → hSum (mnt ch fr to ow q n) 31 = lenQ ch fr to q n
  | 0, _ => by decide
  | n + 1, h => by
    have ih := mnt_sum ch fr to ow q n (fun j hj => h j (by omega))
    rw [mnt, lenQ]
    by_cases e : ch n = q
    · rw [if_pos e, if_pos e, hSum_up, ih, if_pos (h n (by omega))]
    · rw [if_neg e, if_neg e, ih]; rfl
theorem hSum_le (f : Nat → Nat) {j : Nat} : ∀ n, j < n → f j ≤ hSum f n
  | 0, h => absurd h (Nat.not_lt_zero _)
  | n + 1, h => by
    rw [hSum]
    by_cases e : j = n
    · rw [e]; omega
    · have := hSum_le f n (show j < n by omega)
      omega
section OP7
variable {cn : Nat} {P : rP} {σ : xS} {μ : mS} {f : Int32 → Int64}
theorem Rel.mof (h : Rel cn P σ μ) {k : Nat} (hk : k < P.nC) : ∀ n, n ≤ P.nS → ∀ j, pMof μ P.ow k n j = nI (mnt P.ch P.fr P.to P.ow k n j)
  | 0, _, _ => rfl
  | n + 1, hn, j => by
    have h8 := h.k.1.2
    obtain ⟨s0, s1, s2, -, hc, -, hft, -⟩ := h.sh n (by omega)
    have m0 : μ.2 16 (7 * n) = nI (P.ch n) := (h.s4 n (by omega) 0 (by decide)).symm.trans s0
    rw [pMof, mnt, m0, ← h.s4 n (by omega) 1 (by decide), ← h.s4 n (by omega) 2 (by decide), s1, s2]
    by_cases e : P.ch n = k
    · rw [if_pos (congrArg nI e), if_pos e]
      by_cases g : j = P.ow n
      · subst g
        rw [pk_us, upN_s, h.mof hk n (by omega), pk_sub (by omega), nI_add]
      · rw [pk_un g, upN_n g, h.mof hk n (by omega)]
    · rw [if_neg (fun z => e ((nI_eq (by omega) (by omega)).mp z)), if_neg e, h.mof hk n (by omega)]
def gN (rep : Int32) (m : Nat → Nat) (j : Nat) : Nat := if rep = 1 then (if m j = 0 then 0 else 1) else m j
theorem Rel.wt (h : Rel cn P σ μ) {k : Nat} (hk : k < P.nC) : ∀ n, n ≤ P.nS → ∀ j, xWt σ.1 P.ow k n j = lN (gN (σ.1.2 21 2) (mnt P.ch P.fr P.to P.ow k n) j)
  | 0, _, j => by
    rw [xWt, gN, mnt]
    split <;> rfl
  | n + 1, hn, j => by
    have h8 := h.k.1.2
    obtain ⟨s0, s1, s2, -, hc, hd, hft, htn, -⟩ := h.sh n (by omega)
    have t21 : P.tn (P.ch n) ≤ 21600 := by
      rcases h.dg _ hc with g | g
      · exact absurd g.1 hd
      · exact g.2.2.2.2.2.2.1
    have ih := h.wt hk n (by omega)
    rw [xWt, s0, s1, s2]
    by_cases e : P.ch n = k
    · have em : mnt P.ch P.fr P.to P.ow k (n + 1) = upN (mnt P.ch P.fr P.to P.ow k n) (P.ow n) (mnt P.ch P.fr P.to P.ow k n (P.ow n) + (P.to n - P.fr n)) := by rw [mnt, if_pos e]
      rw [if_pos (congrArg nI e), em]
      by_cases g : j = P.ow n
      · subst g
        rw [upL_s, gN, upN_s]
        by_cases r : σ.1.2 21 2 = 1
        · rw [if_pos r, if_pos r, if_neg (by omega)]; rfl
        · rw [if_neg r, if_neg r, ih, gN, if_neg r, nI_l (by omega), nI_l (by omega), lN_add, lN_sub (by omega)]
          congr 1
          omega
      · rw [upL_n g, ih, gN, gN, upN_n g]
    · rw [if_neg (fun z => e ((nI_eq (by omega) (by omega)).mp z)), ih, mnt, if_neg e]
theorem Rel.tot (h : Rel cn P σ μ) {k : Nat} (hk : k < P.nC) (hd : ¬ σ.1.2 8 k = -1) : hSum (mnt P.ch P.fr P.to P.ow k P.nS) 31 = P.tn k ∧ 0 < P.tn k ∧ P.tn k ≤ 21600 := by
  have tb : ∀ c, c < P.nC → ¬ σ.1.2 8 c = -1 → 0 < P.tn c ∧ P.tn c ≤ 21600 := by
    intro c hc hd
    rcases h.dg c hc with g | g
    · exact absurd g.1 hd
    · exact ⟨g.2.2.2.2.2.1, g.2.2.2.2.2.2.1⟩
  refine ⟨?_, tb k hk hd⟩
  rw [mnt_sum _ _ _ _ _ _ (fun j hj => (h.sh j hj).2.2.2.2.2.2.2.2), len_cnt _ _ _ _ 21600 _ (fun j hj => Nat.le_trans (h.sh j hj).2.2.2.2.2.2.2.1 (tb _ (h.sh j hj).2.2.2.2.1 (h.sh j hj).2.2.2.2.2.1).2), hSum_cg _ (fun z _ => h.ct k hk hd z), hSum_lt]
  have := (tb k hk hd).2
  omega
/-! plain numbers on both sides -/
theorem xSum_n {g : Nat → Int64} {G : Nat → Nat} (h : ∀ j, g j = lN (G j)) : ∀ n, xSum g n = lN (hSum G n)
  | 0 => rfl
  | n + 1 => by rw [xSum, hSum, xSum_n h n, h n, lN_add]
theorem xPor_n {g : Nat → Int64} {G : Nat → Nat} (h : ∀ j, g j = lN (G j)) {S R j : Nat} (hS : 0 < S) (hS2 : S ≤ 21600) (hR : R ≤ 1000000) (hG : G j ≤ S) : xPor g (lN S) (nI R) j = nI (R * G j / S) := by
  have hm : R * G j ≤ 1000000 * 21600 := Nat.mul_le_mul hR (by omega)
  unfold xPor
  rw [h j, nI_l (by omega), lN_mul, pk_lDiv (by omega) hS (by omega), lN_i]
theorem hd_n {m : Nat → Int32} {M : Nat → Nat} (h : ∀ j, m j = nI (M j)) (hM : ∀ j, M j < 2 ^ 31) : ∀ n, pHd m n = hSum (fun j => if M j = 0 then 0 else 1) n
  | 0 => rfl
  | n + 1 => by
    rw [pHd, hSum, hd_n h hM n, h n]
    by_cases e : M n = 0
    · rw [if_pos (by rw [e]; rfl), if_pos e]
    · rw [if_neg (nI_ne0 (by omega) (hM n)), if_neg e]
theorem ah_n {g : Nat → Int64} {G : Nat → Nat} (h : ∀ j, g j = lN (G j)) {m : Nat → Int32} {M : Nat → Nat} (h2 : ∀ j, m j = nI (M j)) (hM : ∀ j, M j < 2 ^ 31) (hG : ∀ j, G j < 2 ^ 31) (hz : ∀ j, G j = 0 ↔ M j = 0) (z : Nat) : ∀ n, xAh g z n = pAh m z n
  | 0 => rfl
  | n + 1 => by
    rw [xAh, pAh, ah_n h h2 hM hG hz z n, h n, h2 n]
    have e1 : (0 : Int64) < lN (G n) ↔ ¬ G n = 0 := by
      have := pk_lLT (a := 0) (b := G n) (by decide) (by have := hG n; omega)
      rw [show (0 : Int64) = lN 0 from rfl, this]
      omega
    have e2 : ¬ nI (M n) = 0 ↔ ¬ M n = 0 := by
      constructor
      · intro w z2
        exact w (by rw [z2]; rfl)
      · intro w
        exact nI_ne0 (by omega) (hM n)
    by_cases c : n < z ∧ ¬ M n = 0
    · rw [if_pos ⟨c.1, e1.mpr (fun w => c.2 ((hz n).mp w))⟩, if_pos ⟨e2.mpr c.2, c.1⟩]
    · rw [if_neg (fun w => c ⟨w.1, fun v => (e1.mp w.2) ((hz n).mpr v)⟩), if_neg (fun w => c ⟨w.2, e2.mp w.1⟩)]
theorem xLf_n {g : Nat → Int64} {G : Nat → Nat} (h : ∀ j, g j = lN (G j)) {S R N : Nat} (hS : 0 < S) (hS2 : S ≤ 21600) (hR : R ≤ 1000000) (hG : ∀ j, j < N → G j ≤ S) (hs : hSum G N ≤ S) : ∀ n, n ≤ N → xLf g (lN S) (nI R) n = nI (R - hTot R S G n)
  | 0, _ => rfl
  | n + 1, hn => by
    have t1 := hTot_le (a := R) (S := S) (P := G) (n := n + 1) hS (Nat.le_trans (hSum_mono G hn) hs)
    have t2 : hTot R S G (n + 1) = hTot R S G n + R * G n / S := rfl
    rw [xLf, xLf_n h hS hS2 hR hG hs n (by omega), xPor_n h hS hS2 hR (hG n (by omega)), pk_sub (by omega), t2]
    congr 1
    omega
theorem pPor_n {m : Nat → Int32} {M G : Nat → Nat} {rep : Int32} (h2 : ∀ j, m j = nI (M j)) {S R hd t j : Nat} (hG : G j = gN rep M j) (hS : 0 < S) (hS2 : S ≤ 21600) (hR : R ≤ 1000000) (hGS : G j ≤ S) (hrep : (rep = 1 → S = hd) ∧ (¬ rep = 1 → S = t)) (hnz : ¬ M j = 0) : pPor m rep (nI t) hd (lN R) j = lN (R * G j / S) := by
  have hm : R * G j ≤ 1000000 * 21600 := Nat.mul_le_mul hR (by omega)
  unfold pPor
  by_cases r : rep = 1
  · rw [if_pos r, ← hrep.1 r, nI_l (by omega), pk_lDiv (by omega) hS (by omega)]
    rw [hG, gN, if_pos r, if_neg hnz, Nat.mul_one]
  · rw [if_neg r, ← hrep.2 r]
    rw [hG, gN, if_neg r] at *
    rw [h2 j, nI_l (by omega), nI_l (by omega), lN_mul, pk_lDiv (by omega) hS (by omega)]
theorem pLf_n {m : Nat → Int32} {M G : Nat → Nat} {rep : Int32} (h2 : ∀ j, m j = nI (M j)) (hM : ∀ j, M j < 2 ^ 31) (hG : ∀ j, G j = gN rep M j) {S R hd t N : Nat} (hS : 0 < S) (hS2 : S ≤ 21600) (hR : R ≤ 1000000) (hGS : ∀ j, j < N → G j ≤ S) (hs : hSum G N ≤ S) (hrep : (rep = 1 → S = hd) ∧ (¬ rep = 1 → S = t)) : ∀ n, n ≤ N → pLf m rep (nI t) hd (lN R) n = lN (R - hTot R S G n)
  | 0, _ => rfl
  | n + 1, hn => by
    have t1 := hTot_le (a := R) (S := S) (P := G) (n := n + 1) hS (Nat.le_trans (hSum_mono G hn) hs)
    have t2 : hTot R S G (n + 1) = hTot R S G n + R * G n / S := rfl
    rw [pLf, pLf_n h2 hM hG hS hS2 hR hGS hs hrep n (by omega), h2 n]
    by_cases e : M n = 0
    · have g0 : G n = 0 := by
        rw [hG n, gN, e]
        split <;> rfl
      rw [if_neg (by rw [e]; decide), t2, g0, Nat.mul_zero, Nat.zero_div]
      rfl
    · rw [if_pos (nI_lt (a := 0) (by omega) (hM n)), pPor_n h2 (hG n) hS hS2 hR (hGS n (by omega)) hrep e, lN_sub (by omega), t2]
      congr 1
      omega
theorem pay_eq {g : Nat → Int64} {G : Nat → Nat} (h : ∀ j, g j = lN (G j)) {m : Nat → Int32} {M : Nat → Nat} {rep : Int32} (h2 : ∀ j, m j = nI (M j)) (hM : ∀ j, M j < 2 ^ 31) (hG : ∀ j, G j = gN rep M j) (hs : hSum M 31 = t) (ht : 0 < t) (ht2 : t ≤ 21600) {C f z : Nat} (hC : C ≤ 1000000) (hf : f ≤ 100) (hz : z < 31) : xPay g (nI f) (nI C) z = if m z = 0 then 0 else pPay m rep (nI f) (nI t) (nI C) z := by
  have zz : ∀ j, G j = 0 ↔ M j = 0 := by
    intro j
    rw [hG j, gN]
    split
    · split <;> omega
    · exact Iff.rfl
  have hM1 : ∀ j, j < 31 → M j ≤ t := fun j hj => by have := hSum_le M 31 hj; omega
  have hd1 := hd_n h2 hM 31
  -- the common sum
  obtain ⟨S, eS, hS, hS2, hGS, hrep⟩ : ∃ S, hSum G 31 = S ∧ 0 < S ∧ S ≤ 21600 ∧ (∀ j, j < 31 → G j ≤ S) ∧ ((rep = 1 → S = pHd m 31) ∧ (¬ rep = 1 → S = t)) := by
    refine ⟨_, rfl, ?_, ?_, fun j hj => hSum_le G 31 hj, ?_, ?_⟩
    · rcases Nat.eq_zero_or_pos (hSum G 31) with e | e
      · exfalso
        have : hSum M 31 = hSum (fun _ => 0) 31 := hSum_cg 31 (fun j hj => (zz j).mp (by have := hSum_le G 31 hj; omega))
        rw [hs] at this
        have e0 : hSum (fun _ => 0) 31 = 0 := by decide
        omega
      · exact e
    · by_cases r : rep = 1
      · have e : hSum G 31 = pHd m 31 := by rw [hd1]; exact hSum_cg 31 (fun j _ => by rw [hG j, gN, if_pos r])
        have := pHd_le m 31
        omega
      · have e : hSum G 31 = hSum M 31 := hSum_cg 31 (fun j _ => by rw [hG j, gN, if_neg r])
        omega
    · intro r
      rw [hd1]
      exact hSum_cg 31 (fun j _ => by rw [hG j, gN, if_pos r])
    · intro r
      rw [← hs]
      exact hSum_cg 31 (fun j _ => by rw [hG j, gN, if_neg r])
  have hCf : C * f ≤ 1000000 * 100 := Nat.mul_le_mul hC hf
  have hdv : C * f / 100 ≤ C := by
    have : C * f ≤ C * 100 := Nat.mul_le_mul_left _ hf
    exact Nat.le_trans (Nat.div_le_div_right this) (by rw [Nat.mul_div_cancel _ (by decide)]; exact Nat.le_refl _)
  have eR : xRst (nI C) (nI f) = nI (C - C * f / 100) := by
    unfold xRst
    rw [pk_mul, show (100 : Int32) = nI 100 from rfl, pk_div (by omega) (by decide) (by decide), pk_sub hdv]
  have eR2 : pRest (nI C) (nI f) = lN (C - C * f / 100) := by
    unfold pRest
    rw [nI_l (by omega), nI_l (by omega), lN_mul, show (100 : Int64) = lN 100 from rfl, pk_lDiv (by omega) (by decide) (by decide), lN_sub hdv]
  generalize hRd : C - C * f / 100 = R at eR eR2
  have hR : R ≤ 1000000 := by omega
  have hsum : xSum g 31 = lN S := by rw [xSum_n h 31, eS]
  unfold xPay
  by_cases e0 : M z = 0
  · rw [if_pos (by rw [h z, (zz z).mpr e0]; rfl), if_pos (by rw [h2 z, e0]; rfl)]
  · have g0 : ¬ G z = 0 := fun w => e0 ((zz z).mp w)
    have gS := hGS z hz
    rw [if_neg (by rw [h z]; exact fun w => g0 ((pk_lEQ (a := G z) (b := 0) (by omega) (by decide)).mp w)), if_neg (by rw [h2 z]; exact nI_ne0 (by omega) (hM z))]
    unfold pPay
    rw [hsum, eR, eR2, xPor_n h hS hS2 hR gS, xLf_n h hS hS2 hR hGS (by omega) 31 (Nat.le_refl _), pPor_n h2 (hG z) hS hS2 hR gS hrep e0, pLf_n h2 hM hG hS hS2 hR hGS (by omega) hrep 31 (Nat.le_refl _), ah_n h h2 hM (fun j => by
      rw [hG j, gN]
      split
      · split <;> decide
      · exact hM j) zz z 31]
    have ha := pAh_le m z 31
    rw [nI_l (by omega)]
    by_cases c : pAh m z 31 < R - hTot R S G 31
    · rw [if_pos (nI_lt c (by omega)), if_pos ((pk_lLT (by omega) (by omega)).mpr c), show (1 : Int64) = lN 1 from rfl, lN_add, lN_i]
      exact nI_add _ 1
    · rw [if_neg (nI_nlt (by omega) (by omega)), if_neg (fun w => c ((pk_lLT (by omega) (by omega)).mp w)), show (0 : Int64) = lN 0 from rfl, lN_add, lN_i]
      exact nI_add _ 0
/-- the weights' sum is no zero -/
theorem Rel.wnz (h : Rel cn P σ μ) {k : Nat} (hk : k < P.nC) (hd : ¬ σ.1.2 8 k = -1) : ¬ xSum (xWt σ.1 P.ow k P.nS) 31 = 0 := by
  obtain ⟨h1, h2, h3⟩ := h.tot hk hd
  rw [xSum_n (h.wt hk P.nS (Nat.le_refl _)) 31]
  intro z
  have hb : hSum (gN (σ.1.2 21 2) (mnt P.ch P.fr P.to P.ow k P.nS)) 31 ≤ hSum (mnt P.ch P.fr P.to P.ow k P.nS) 31 := by
    have : ∀ n, hSum (gN (σ.1.2 21 2) (mnt P.ch P.fr P.to P.ow k P.nS)) n ≤ hSum (mnt P.ch P.fr P.to P.ow k P.nS) n := by
      intro n
      induction n with
      | zero => exact Nat.le_refl _
      | succ n ih =>
        rw [hSum, hSum]
        have : gN (σ.1.2 21 2) (mnt P.ch P.fr P.to P.ow k P.nS) n ≤ mnt P.ch P.fr P.to P.ow k P.nS n := by
          rw [gN]
          split
          · split <;> omega
          · exact Nat.le_refl _
        omega
    exact this 31
  have z2 := (pk_lEQ (b := 0) (by omega) (by decide)).mp z
  have : hSum (mnt P.ch P.fr P.to P.ow k P.nS) 31 = hSum (fun _ => 0) 31 := hSum_cg 31 (fun j hj => by
    have w := hSum_le (gN (σ.1.2 21 2) (mnt P.ch P.fr P.to P.ow k P.nS)) 31 hj
    rw [gN] at w
    split at w
    · split at w <;> omega
    · omega)
  have e0 : hSum (fun _ => 0) 31 = 0 := by decide
  omega

theorem o_pays (h : Rel cn P σ μ) (hcn : cn < 64) (v o co : Int32) {r_ : Option Value} {u_ : xS} {b_ : Int32} {v_ : mS} (hx : wOut (fun r u => ∃ k, k < P.nC ∧ nI k = v ∧ ¬ σ.1.2 8 k = -1 ∧ ((0 ≤ o ∧ o ≤ 30) ∧ (0 ≤ co ∧ co ≤ 1000000)) ∧ ∃ z, z < 31 ∧ nI z = o ∧ (∃ g, xs_w σ g = u) ∧ some (.int (xPay (xWt σ.1 P.ow k P.nS) (σ.1.2 21 3) co z)) = r) (fun q u => σ = u ∧ ((q = 1 ∧ (¬ ∃ k, k < P.nC ∧ nI k = v)) ∨ ∃ k, k < P.nC ∧ nI k = v ∧ ((q = 2 ∧ σ.1.2 8 k = -1) ∨ (¬ σ.1.2 8 k = -1 ∧ q = 3 ∧ ¬ ((0 ≤ o ∧ o ≤ 30) ∧ (0 ≤ co ∧ co ≤ 1000000)))))) (fun z => if z = 1 then 1 else if z = 2 then 2 else if z = 3 then 3 else 0) (fun v => v.toInt64) r_ u_) (hm : (fun r u => ((¬ ∃ k, k < P.nC ∧ nI k = v) ∧ pSame u (mm_st (mm_st μ 0 0) 0 1) 30 ∧ 1 = u.1 0 ∧ 0 = r) ∨ ∃ k, k < P.nC ∧ nI k = v ∧ ((μ.2 6 k = 0 ∧ pSame u (mm_st (mm_st μ 0 0) 0 2) 30 ∧ 2 = u.1 0 ∧ 0 = r) ∨ (μ.2 6 k = 1 ∧ ((¬ ((0 ≤ o ∧ o ≤ 30) ∧ (0 ≤ co ∧ co ≤ 1000000)) ∧ pSame u (mm_st (mm_st μ 0 0) 0 3) 30 ∧ 3 = u.1 0 ∧ 0 = r) ∨ (((0 ≤ o ∧ o ≤ 30) ∧ (0 ≤ co ∧ co ≤ 1000000)) ∧ ∃ z, z < 31 ∧ nI z = o ∧ pSame u (mm_st μ 0 0) 30 ∧ (if pMof μ P.ow k P.nS z = 0 then 0 else pPay (pMof μ P.ow k P.nS) (μ.2 21 2) (μ.2 21 3) (μ.2 9 k) co z) = r))))) b_ v_) : Ag cn fL r_ u_ b_ v_ := by
  have h8 := h.k.1.2
  have hpp : ∀ {x : Int32}, pSame v_ (mm_st (mm_st μ 0 0) 0 x) 30 → Rel cn P σ v_ := fun {x} hs => Rel.cgM ((h.m0 0).m0 x) (fun j _ => congrFun hs.1 j) (fun j hj => hs.2 j (by rintro rfl; simp at hj))
  rcases hx with ⟨v1, u0, ⟨k, hk, ek, hu, hc, z, hz, ez, ⟨g, rfl⟩, e1⟩, rfl, rfl⟩ | ⟨c, ⟨rfl, hT⟩, rfl⟩ <;> rcases hm with ⟨hn, -⟩ | ⟨j, hj, ej, hm⟩
  · exact absurd ⟨k, hk, ek⟩ hn
  · obtain rfl := nI_w (by omega) hk hj ek ej
    rcases hm with ⟨h6, -⟩ | ⟨h6, hm⟩
    · exact absurd ((h.un hk).1.mpr h6) hu
    · rcases hm with ⟨hd, -⟩ | ⟨-, z2, hz2, ez2, hs, rfl⟩
      · exact absurd hc hd
      · obtain rfl := nI_w (by omega) hz hz2 ez ez2
        cases e1
        obtain ⟨C, hC, eC⟩ := nI_of2 (M := 1000000) (n := 1000000) rfl (Int32.not_lt.mpr hc.2.1) hc.2.2
        obtain ⟨fn, hf, ef⟩ := h.lw
        obtain ⟨t1, t2, t3⟩ := h.tot hk hu
        have e9 : μ.2 9 k = nI (P.tn k) := by
          rw [← h.ar 9 (by simp)]
          rcases h.dg k hk with q | q
          · exact absurd q.1 hu
          · exact q.2.2.2.2.1
        have hMb : ∀ j, mnt P.ch P.fr P.to P.ow k P.nS j < 2 ^ 31 := by
          intro j
          have : ∀ n, n ≤ P.nS → mnt P.ch P.fr P.to P.ow k n j ≤ 21600 * n := by
            intro n
            induction n with
            | zero => intro _; exact Nat.le_refl _
            | succ n ih =>
              intro hn
              have i1 := ih (by omega)
              obtain ⟨-, -, -, -, hcn2, hdn, -, htn, -⟩ := h.sh n (by omega)
              have tb : P.tn (P.ch n) ≤ 21600 := by
                rcases h.dg _ hcn2 with q | q
                · exact absurd q.1 hdn
                · exact q.2.2.2.2.2.2.1
              rw [mnt]
              split
              · by_cases e : j = P.ow n
                · subst e
                  rw [upN_s]
                  omega
                · rw [upN_n e]
                  omega
              · omega
          have := this P.nS (Nat.le_refl _)
          have := h.k.2.1.2
          omega
        have key := pay_eq (h.wt hk P.nS (Nat.le_refl _)) (h.mof hk P.nS (Nat.le_refl _)) hMb (fun j => rfl) t1 t2 t3 hC hf hz
        subst eC
        rw [ef, key, ← h.sy 2 (by decide), ← h.sy 3 (by decide), ef, e9]
        refine agr_ok (P' := P) ?_ ?_
        · exact (Rel.x1 (Rel.cgM (h.m0 0) (fun j _ => congrFun hs.1 j) (fun j hj => hs.2 j (by rintro rfl; simp at hj))) rfl).up
        · rw [hs.1]
          exact mm_st_eq μ 0 0
  · rcases hm with _ | _
    all_goals trivial
  · trivial
end OP7
