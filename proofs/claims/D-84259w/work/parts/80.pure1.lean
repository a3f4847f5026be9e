/-! THE LAW, in plain numbers: the two sides' functions agree -/
theorem ab_ok : ∀ a, a < 101 → ∀ c, c < 101 → (if (0 : Int32) ≤ nI a - nI c then nI a - nI c else 0 - (nI a - nI c)) = nI (a - c + (c - a)) := by decide +kernel
theorem pStep_n {a b c d : Nat} (ha : a < 101) (hb : b < 101) (hc : c < 101) (hd : d < 101) : pStep (nI a) (nI b) (nI c) (nI d) = nI (max (a - c + (c - a)) (b - d + (d - b))) := by
  unfold pStep
  rw [ab_ok a ha c hc, ab_ok b hb d hd]
  by_cases h : a - c + (c - a) < b - d + (d - b)
  · rw [if_pos (nI_lt h (by omega)), Nat.max_eq_right (by omega)]
  · rw [if_neg (nI_nlt (by omega) (by omega)), Nat.max_eq_left (by omega)]
theorem pStep_sym {a b c d : Nat} (ha : a < 101) (hb : b < 101) (hc : c < 101) (hd : d < 101) : pStep (nI a) (nI b) (nI c) (nI d) = pStep (nI c) (nI d) (nI a) (nI b) := by
  rw [pStep_n ha hb hc hd, pStep_n hc hd ha hb, Nat.add_comm (a - c), Nat.add_comm (b - d)]
theorem mx_ok : ∀ v, v < 31 → ∀ s, s < 101 → pMax (nI v) (30 - nI s) = nI (max v (30 - s)) := by decide +kernel
/-- coordinates of the wells b .. b + n - 1 -/
def wOk (wx wy : Nat → Int32) (b n : Nat) : Prop := ∀ i, i < n → ∃ u v, u < 101 ∧ v < 101 ∧ wx (b + i) = nI u ∧ wy (b + i) = nI v
theorem best_ok {a c : Nat} (ha : a < 101) (hc : c < 101) (wx wy : Nat → Int32) (b : Nat) : ∀ n, wOk wx wy b n → xBest (nI a) (nI c) wx wy b n = pBest (nI a) (nI c) wx wy b n ∧ ∃ v, v < 31 ∧ pBest (nI a) (nI c) wx wy b n = nI v
  | 0, _ => ⟨rfl, 0, by decide, rfl⟩
  | n + 1, h => by
    obtain ⟨e, v, hv, ev⟩ := best_ok ha hc wx wy b n (fun i hi => h i (by omega))
    obtain ⟨x, y, hx, hy, ex, ey⟩ := h n (by omega)
    rw [xBest, pBest, e, ev, ex, ey, pStep_sym hx hy ha hc, pStep_n ha hc hx hy]
    have hm := mx_ok v hv (max (a - x + (x - a)) (c - y + (y - c))) (by omega)
    exact ⟨rfl, _, by omega, hm⟩
theorem ag_ok : ∀ d, d < 31 → ∀ g, g < 5 → (nI d * nI g) / 5 = nI (d * g / 5) := by decide +kernel
theorem age_ok {d g : Nat} (hd : d < 31) (hg : g < 2 ^ 31) : ∃ v, v < 31 ∧ pAge (nI d) (nI g) = nI v := by
  unfold pAge
  by_cases h : 5 ≤ g
  · exact ⟨d, hd, if_pos (nI_le (a := 5) h hg)⟩
  · refine ⟨d * g / 5, ?_, (if_neg (nI_ge (b := 5) (by omega) (by decide))).trans (ag_ok d hd g (by omega))⟩
    have h1 : d * g ≤ 30 * 4 := Nat.mul_le_mul (by omega) (by omega)
    omega
/-- numbers with a sign -/
abbrev zI (z : Int) : Int32 := Int32.ofInt z
theorem zI_n (n : Nat) : nI n = zI n := rfl
theorem zI_t {z : Int} (h1 : -2147483648 ≤ z) (h2 : z < 2147483648) : (zI z).toInt = z := Int32.toInt_ofInt_of_le h1 h2
theorem zI_sub (a b : Int) : zI a - zI b = zI (a - b) := (Int32.ofInt_sub a b).symm
theorem zI_add (a b : Int) : zI a + zI b = zI (a + b) := (Int32.ofInt_add a b).symm
theorem tab_ok {t : Int} {use : Nat → Bool} {dr : Nat → Int32} : ∀ n, (∀ k, k < n → use k = true → ∃ v : Nat, v < 31 ∧ dr k = nI v) → ∃ z : Int, pTab (zI t) use dr n = zI z ∧ t - 30 * n ≤ z ∧ z ≤ t
  | 0, _ => ⟨t, rfl, by omega, by omega⟩
  | n + 1, h => by
    obtain ⟨z, e, h1, h2⟩ := tab_ok (t := t) (use := use) (dr := dr) n (fun k hk => h k (by omega))
    rw [pTab]
    by_cases hu : use n = true
    · obtain ⟨v, hv, ev⟩ := h n (by omega) hu
      rw [if_pos hu, e, ev, zI_n, zI_sub]
      exact ⟨z - v, rfl, by omega, by omega⟩
    · rw [if_neg hu, e]
      exact ⟨z, rfl, by omega, by omega⟩
theorem div10 (d : Int32) : (0 ≤ d → 0 ≤ d / 10) ∧ (d ≤ 0 → d / 10 ≤ 0) := by
  have e : (d / 10).toInt = d.toInt.tdiv 10 := by
    have h := Int32.toInt_div d 10
    rw [show (10 : Int32).toInt = 10 by decide] at h
    rw [h]
    have h1 := Int32.le_toInt d
    have h2 := Int32.toInt_lt d
    rcases Int.lt_or_le d.toInt 0 with g | g
    · have g1 : d.toInt.tdiv 10 = - ((- d.toInt).tdiv 10) := by rw [Int.neg_tdiv]; omega
      have g2 : (- d.toInt).tdiv 10 = (- d.toInt) / 10 := Int.tdiv_eq_ediv_of_nonneg (by omega)
      rw [Int.bmod_eq_of_le]
      all_goals (rw [g1, g2]; omega)
    · have g2 : d.toInt.tdiv 10 = d.toInt / 10 := Int.tdiv_eq_ediv_of_nonneg g
      rw [Int.bmod_eq_of_le]
      all_goals (rw [g2]; omega)
  constructor
  · intro h
    rw [Int32.le_iff_toInt_le] at h ⊢
    rw [e]
    exact Int.tdiv_nonneg h (by decide)
  · intro h
    rw [Int32.le_iff_toInt_le] at h ⊢
    rw [e]
    change d.toInt ≤ 0 at h
    change d.toInt.tdiv 10 ≤ 0
    have g1 : d.toInt.tdiv 10 = - ((- d.toInt).tdiv 10) := by rw [Int.neg_tdiv]; omega
    have g2 : 0 ≤ (- d.toInt).tdiv 10 := Int.tdiv_nonneg (by omega) (by decide)
    omega
theorem seep_ok {z : Int} {f : Nat} (h1 : -10000 ≤ z) (h2 : z ≤ 10000) (hf : f ≤ 1000) : xSeep (zI z) (nI f) = pSeep (zI z) (nI f) := by
  unfold xSeep pSeep
  have hd : (zI z - nI f).toInt = z - f := by rw [zI_n, zI_sub, zI_t (by omega) (by omega)]
  obtain ⟨p1, p2⟩ := div10 (zI z - nI f)
  by_cases h : nI f < zI z
  · have h' := Int32.lt_iff_toInt_lt.mp h
    rw [nI_toInt (by omega), zI_t (by omega) (by omega)] at h'
    rw [if_pos h]
    have q := p1 (by rw [Int32.le_iff_toInt_le, hd]; show (0 : Int) ≤ _; omega)
    generalize (zI z - nI f) / 10 = m at q
    by_cases hm : m < 50
    · rw [if_pos hm]
      by_cases h0 : 0 < m
      · rw [if_pos h0]
      · rw [if_neg h0]
        exact Int32.le_antisymm q (Int32.not_lt.mp h0)
    · rw [if_neg hm, if_pos (by decide)]
  · rw [if_neg h]
    have h' : ¬ (f : Int) < z := fun g => h (Int32.lt_iff_toInt_lt.mpr (by rw [nI_toInt (by omega), zI_t (by omega) (by omega)]; exact g))
    have q := p2 (by rw [Int32.le_iff_toInt_le, hd]; show _ ≤ (0 : Int); omega)
    generalize (zI z - nI f) / 10 = m at q
    have hm : m < 50 := Int32.lt_of_le_of_lt q (by decide)
    rw [if_pos hm, if_neg (Int32.not_lt.mpr q)]
theorem pFlow_cg {sp sp2 : Nat → Int32} {fl : Nat → Int32} : ∀ n g, (∀ j, j < n → sp j = sp2 j) → pFlow sp fl n g = pFlow sp2 fl n g
  | 0, _, _ => rfl
  | 1, g, h => by rw [pFlow, pFlow, h 0 (by decide)]
  | n + 2, g, h => by rw [pFlow, pFlow, h (n + 1) (by omega), pFlow_cg (n + 1) _ (fun j hj => h j (by omega))]
theorem pTab_cg {t0 : Int32} {use use2 : Nat → Bool} {dr dr2 : Nat → Int32} : ∀ n, (∀ k, k < n → use k = use2 k ∧ (use k = true → dr k = dr2 k)) → pTab t0 use dr n = pTab t0 use2 dr2 n
  | 0, _ => rfl
  | n + 1, h => by
    obtain ⟨h1, h2⟩ := h n (by omega)
    rw [pTab, pTab, ← h1, pTab_cg n (fun k hk => h k (by omega))]
    by_cases hu : use n = true
    · rw [if_pos hu, if_pos hu, h2 hu]
    · rw [if_neg hu, if_neg hu]
