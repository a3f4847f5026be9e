/-! numbers: ranges, orders -/
theorem in_ge {a b : Int32} (h : ¬ a < b) : b ≤ a := Int32.not_lt.mp h
theorem in_lt {a b : Int32} (h : ¬ a ≤ b) : b < a := Int32.not_le.mp h
theorem in_rg {n : Nat} (hn : n < 2 ^ 31) (c : Int32) : (0 ≤ c ∧ c ≤ nI n - 1) ↔ ∃ k, k < n ∧ nI k = c := by
  constructor
  · rintro ⟨h1, h2⟩
    obtain ⟨j, hj, rfl⟩ := nI_of (x := c) (by rw [Int32.not_lt]; exact h1)
    refine ⟨j, ?_, rfl⟩
    cases n with
    | zero =>
      rw [Int32.le_iff_toInt_le, nI_toInt hj] at h2
      have : (nI 0 - 1).toInt = -1 := by decide
      omega
    | succ n =>
      rw [nI_pred, Int32.le_iff_toInt_le, nI_toInt hj, nI_toInt (by omega)] at h2
      omega
  · rintro ⟨k, hk, rfl⟩
    refine ⟨nI_pos' (by omega), ?_⟩
    cases n with
    | zero => omega
    | succ n =>
      rw [nI_pred]
      exact nI_le (by omega) (by omega)
theorem in_rk {a b : Nat} (hb : b < 2 ^ 31) (c : Int32) : (nI a ≤ c ∧ c ≤ nI b) → a < 2 ^ 31 → ∃ k, a ≤ k ∧ k ≤ b ∧ nI k = c := by
  rintro ⟨h1, h2⟩ ha
  have h0 : ¬ c < 0 := by
    rw [Int32.not_lt]
    exact Int32.le_trans (nI_pos' ha) h1
  obtain ⟨j, hj, rfl⟩ := nI_of h0
  exact ⟨j, (nI_leI ha hj).mp h1, (nI_leI hj hb).mp h2, rfl⟩
theorem gx_sw5 {x : Int32} (h : ¬ (x.toInt < 0 ∨ 4 < x.toInt)) : x = 0 ∨ x = 1 ∨ x = 2 ∨ x = 3 ∨ x = 4 := by
  have h1 : ∃ j : Nat, j < 5 ∧ x = nI j := vp_in_of (vp_in_iff.mpr (by omega)) (by decide)
  obtain ⟨j, hj, rfl⟩ := h1
  rcases (show j = 0 ∨ j = 1 ∨ j = 2 ∨ j = 3 ∨ j = 4 by omega) with rfl | rfl | rfl | rfl | rfl
  · exact Or.inl rfl
  · exact Or.inr (Or.inl rfl)
  · exact Or.inr (Or.inr (Or.inl rfl))
  · exact Or.inr (Or.inr (Or.inr (Or.inl rfl)))
  · exact Or.inr (Or.inr (Or.inr (Or.inr rfl)))
theorem gx_sw8 {x : Int32} (h : ¬ (x.toInt < 0 ∨ 7 < x.toInt)) : x = 0 ∨ x = 1 ∨ x = 2 ∨ x = 3 ∨ x = 4 ∨ x = 5 ∨ x = 6 ∨ x = 7 := by
  have h1 : ∃ j : Nat, j < 8 ∧ x = nI j := vp_in_of (vp_in_iff.mpr (by omega)) (by decide)
  obtain ⟨j, hj, rfl⟩ := h1
  rcases (show j = 0 ∨ j = 1 ∨ j = 2 ∨ j = 3 ∨ j = 4 ∨ j = 5 ∨ j = 6 ∨ j = 7 by omega) with rfl | rfl | rfl | rfl | rfl | rfl | rfl | rfl
  · exact Or.inl rfl
  · exact Or.inr (Or.inl rfl)
  · exact Or.inr (Or.inr (Or.inl rfl))
  · exact Or.inr (Or.inr (Or.inr (Or.inl rfl)))
  · exact Or.inr (Or.inr (Or.inr (Or.inr (Or.inl rfl))))
  · exact Or.inr (Or.inr (Or.inr (Or.inr (Or.inr (Or.inl rfl)))))
  · exact Or.inr (Or.inr (Or.inr (Or.inr (Or.inr (Or.inr (Or.inl rfl))))))
  · exact Or.inr (Or.inr (Or.inr (Or.inr (Or.inr (Or.inr (Or.inr rfl))))))
