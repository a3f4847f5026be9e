theorem pSk_all (tp : Nat → Int32) (lo hi : Int32) : ∀ n p j, p ≤ j → j < pSk tp lo hi n p → lo ≤ tp j ∧ tp j ≤ hi
  | 0, p, j, h1, h2 => by rw [pSk] at h2; omega
  | n + 1, p, j, h1, h2 => by
    rw [pSk] at h2
    by_cases c : lo ≤ tp p ∧ tp p ≤ hi
    · rw [if_pos c] at h2
      by_cases e : j = p
      · rw [e]; exact c
      · exact pSk_all tp lo hi n (p + 1) j (by omega) h2
    · rw [if_neg c] at h2
      omega
theorem pNum_n {tp : Nat → Int32} {b : Nat} : ∀ n, n ≤ 4 → (∀ j, j < n → 48 ≤ tp (b + j) ∧ tp (b + j) ≤ 57) → ∃ m, m < 10 ^ n ∧ pNum tp b n = nI m
  | 0, _, _ => ⟨0, by decide, rfl⟩
  | n + 1, hn, h => by
    obtain ⟨m, hm, e⟩ := pNum_n n (by omega) (fun j hj => h j (by omega))
    obtain ⟨d, d1, d2, ed⟩ := in_rk (a := 48) (b := 57) (by decide) (tp (b + n)) (h n (by omega)) (by decide)
    refine ⟨10 * m + d - 48, ?_, ?_⟩
    · rw [Nat.pow_succ]
      omega
    · rw [pNum, e, ← ed]
      show nI 10 * nI m + nI d - nI 48 = _
      rw [pk_mul, nI_add, pk_sub (by omega)]
theorem pTermN_3 {tp : Nat → Int32} {en p to q : Nat} {v : Int32} (h : pTermN tp en p to 100 = .inr (q, to, v)) : ∃ n, n ≤ 100 ∧ v = nI n := by
  unfold pTermN at h
  by_cases c : pSkip tp 32 32 en p < pSkip tp 48 57 en (pSkip tp 32 32 en p) ∧ pSkip tp 48 57 en (pSkip tp 32 32 en p) - pSkip tp 32 32 en p < 5 ∧ pNum tp (pSkip tp 32 32 en p) (min 4 (pSkip tp 48 57 en (pSkip tp 32 32 en p) - pSkip tp 32 32 en p)) ≤ 100
  · rw [if_pos c] at h
    have hv : pNum tp (pSkip tp 32 32 en p) (min 4 (pSkip tp 48 57 en (pSkip tp 32 32 en p) - pSkip tp 32 32 en p)) = v := by
      injection h with h
      injection h with _ h
      injection h
    obtain ⟨m, hm, e⟩ := pNum_n (tp := tp) (b := pSkip tp 32 32 en p) (min 4 (pSkip tp 48 57 en (pSkip tp 32 32 en p) - pSkip tp 32 32 en p)) (by omega) (fun j hj => pSk_all tp 48 57 _ _ _ (by omega) (show pSkip tp 32 32 en p + j < pSkip tp 48 57 en (pSkip tp 32 32 en p) by omega))
    have hm2 : m < 10 ^ 4 := Nat.lt_of_lt_of_le hm (Nat.pow_le_pow_right (by decide) (by omega))
    have c3 := c.2.2
    rw [e] at c3
    exact ⟨m, (nI_leI (a := m) (b := 100) (by omega) (by decide)).mp c3, hv.symm.trans e⟩
  · rw [if_neg c] at h
    cases h
theorem pTermN_to {tp : Nat → Int32} {en p a q to : Nat} {hi v : Int32} (h : pTermN tp en p a hi = .inr (q, to, v)) : to = a := by
  unfold pTermN at h
  split at h
  · injection h with h
    injection h with _ h
    injection h with h _
    exact h.symm
  · cases h
theorem pTerm_3 {tp : Nat → Int32} {en p q : Nat} {v : Int32} (h : pTerm tp en p = .inr (q, 3, v)) : ∃ n, n ≤ 100 ∧ v = nI n := by
  unfold pTerm pTermW at h
  split at h
  · exact absurd (pTermN_to h) (by decide)
  split at h
  · exact absurd (pTermN_to h) (by decide)
  split at h
  · exact pTermN_3 h
  split at h
  · unfold pTermR at h
    split at h
    · cases h
    split at h <;> cases h
  · cases h
theorem pLaw_3 {tp : Nat → Int32} {en : Nat} : ∀ (k p n : Nat) (d : Nat → Int32) {m : Nat} {e : Nat → Int32}, (∃ n, n ≤ 100 ∧ d 3 = nI n) → pLaw tp en k p n d = .inr (m, e) → ∃ n, n ≤ 100 ∧ e 3 = nI n
  | 0, _, _, _, _, _, _, h => by cases h
  | k + 1, p, n, d, m, e, hd, h => by
    cases hq : pTerm tp en p with
    | inl f => rw [pLaw_l hq] at h; cases h
    | inr x =>
      obtain ⟨q, to, v⟩ := x
      have hu : ∃ n, n ≤ 100 ∧ upd d to v 3 = nI n := by
        by_cases e3 : 3 = to
        · subst e3
          rw [pk_us]
          exact pTerm_3 hq
        · rw [pk_un e3]
          exact hd
      rw [pLaw_r hq] at h
      split at h
      · injection h with h
        injection h with _ h
        rw [← h]
        exact hu
      split at h
      · exact pLaw_3 k _ _ _ hu h
      · cases h
section OP4
variable {cn : Nat} {P : rP} {σ : xS} {μ : mS} {f : Int32 → Int64}
theorem pLaw_cg {tp : Nat → Int32} {en : Nat} : ∀ (k p n : Nat) (d d' : Nat → Int32), (∀ j, j < 4 → d j = d' j) → (∃ f, pLaw tp en k p n d = .inl f ∧ pLaw tp en k p n d' = .inl f) ∨ (∃ m e e', pLaw tp en k p n d = .inr (m, e) ∧ pLaw tp en k p n d' = .inr (m, e') ∧ ∀ j, j < 4 → e j = e' j)
  | 0, _, _, _, _, _ => Or.inl ⟨0, rfl, rfl⟩
  | k + 1, p, n, d, d', h => by
    have hu : ∀ (to : Nat) (v : Int32) (j : Nat), j < 4 → upd d to v j = upd d' to v j := by
      intro to v j hj
      by_cases e : j = to
      · subst e; rw [pk_us, pk_us]
      · rw [pk_un e, pk_un e]; exact h j hj
    cases hq : pTerm tp en p with
    | inl f => exact Or.inl ⟨f, pLaw_l hq, pLaw_l hq⟩
    | inr x =>
      obtain ⟨q, to, v⟩ := x
      rw [pLaw_r hq, pLaw_r hq]
      by_cases h1 : pSkip tp 32 32 en q = en
      · rw [if_pos h1, if_pos h1]
        exact Or.inr ⟨_, _, _, rfl, rfl, hu to v⟩
      · rw [if_neg h1, if_neg h1]
        by_cases h2 : pSkip tp 32 32 en q < en ∧ 59 ≤ tp (pSkip tp 32 32 en q) ∧ tp (pSkip tp 32 32 en q) ≤ 59
        · rw [if_pos h2, if_pos h2]
          exact pLaw_cg k _ _ _ _ (hu to v)
        · rw [if_neg h2, if_neg h2]
          exact Or.inl ⟨_, rfl, rfl⟩
theorem Rel.lawR {σ' : xS} {μ' : mS} (h : Rel cn P σ μ) (e1 : ∀ j, j ∈ ([1, 2, 3, 4, 10, 11, 17, 24, 28, 34] : List Nat) → j ≠ 24 → j ≠ 28 → σ'.1.1 j = σ.1.1 j) (e2 : ∀ j, j ∈ ([5, 7, 8, 9, 12, 13, 14, 15, 16, 21, 23, 31, 32, 33] : List Nat) → j ≠ 21 → σ'.1.2 j = σ.1.2 j) (e24 : σ'.1.1 24 = 0) 
    (m1 : ∀ j, j ∈ ([1, 2, 3, 4, 10, 11, 17, 24, 28, 34] : List Nat) → j ≠ 24 → j ≠ 28 → μ'.1 j = μ.1 j) (m2 : ∀ j, j ∈ ([5, 6, 7, 8, 9, 12, 13, 14, 15, 16, 21, 23, 31, 32, 33] : List Nat) → j ≠ 21 → μ'.2 j = μ.2 j) (m24 : μ'.1 24 = 0) (x28 : σ'.1.1 28 = μ'.1 28) (x21 : ∀ j, j < 4 → σ'.1.2 21 j = μ'.2 21 j) (hlw : ∃ n, n ≤ 100 ∧ σ'.1.2 21 3 = nI n) : Rel cn (mkP P.nC P.nS P.nF (0) P.yr P.nw P.nW P.ch P.fr P.to P.ow P.tn P.od P.yd) σ' μ' := by
  have a5 := e2 5 (by simp) (by decide); have a7 := e2 7 (by simp) (by decide); have a8 := e2 8 (by simp) (by decide); have a9 := e2 9 (by simp) (by decide); have a12 := e2 12 (by simp) (by decide); have a13 := e2 13 (by simp) (by decide); have a14 := e2 14 (by simp) (by decide); have a15 := e2 15 (by simp) (by decide); have a16 := e2 16 (by simp) (by decide); have a23 := e2 23 (by simp) (by decide)
  have b6 := m2 6 (by simp) (by decide); have b7 := m2 7 (by simp) (by decide); have b8 := m2 8 (by simp) (by decide); have b9 := m2 9 (by simp) (by decide); have b16 := m2 16 (by simp) (by decide)
  refine ⟨⟨⟨(e1 10 (by simp) (by decide) (by decide)).trans h.k.1.1, h.k.1.2⟩, ⟨(e1 17 (by simp) (by decide) (by decide)).trans h.k.2.1.1, h.k.2.1.2⟩, by rw [a5]; exact h.k.2.2.1, by rw [a16]; exact h.k.2.2.2⟩, fun j hj => ?_, fun j hj => ?_, ?_, ?_, ?_, ?_, ?_, ?_, ?_, ?_, ?_, ?_, ?_, ?_, ?_, ?_, ⟨e24, Nat.zero_le _⟩, ?_, x21, hlw⟩
  · by_cases e : j = 24
    · subst e
      rw [e24, m24]
    · by_cases e' : j = 28
      · subst e'
        exact x28
      · rw [e1 j hj e e', m1 j hj e e']
        exact h.sc j hj
  · rw [e2 j (by simp only [List.mem_cons, List.not_mem_nil, or_false] at hj ⊢; omega) (by rintro rfl; simp at hj), m2 j (by simp only [List.mem_cons, List.not_mem_nil, or_false] at hj ⊢; omega) (by rintro rfl; simp at hj)]
    exact h.ar j hj
  · rw [e1 11 (by simp) (by decide) (by decide), a8]; exact h.dc
  · rw [a8, a9, a7, b6, b8]; exact h.dg
  · rw [b6, b7, b9]; exact h.fr
  · rw [a8]; exact h.inj
  · rw [a12, a13, a14]; exact h.wl
  · rw [a15]; exact h.w0
  · rw [e1 1 (by simp) (by decide) (by decide), e1 2 (by simp) (by decide) (by decide)]; exact h.gr
  · rw [e1 3 (by simp) (by decide) (by decide)]; exact h.yr
  · rw [e1 4 (by simp) (by decide) (by decide)]; exact h.nw
  · rw [a16, a8]; exact h.sh
  · rw [a16, b16]; exact h.s4
  · rw [a16, b16]; exact h.sl
  · rw [a8]; exact h.ct
  · rw [e1 34 (by simp) (by decide) (by decide)]; exact h.fl
  · rw [a23]; exact h.bt

theorem o_law (h : Rel cn P σ μ) (hcn : cn < 64) {r_ : Option Value} {u_ : xS} {b_ : Int32} {v_ : mS} (hx : wOut (fun r u => ∃ cnt d, pLaw (σ.1.2 23) P.nT (P.nT + 1) 0 0 (va_cpy (σ.1.2 21) (σ.1.2 22) 0 0 4) = .inr (cnt, d) ∧ cnt ≤ 401 ∧ xLw σ u ∧ u.1.1 24 = 0 ∧ u.1.1 28 = -1 ∧ (∀ j, j < 4 → u.1.2 21 j = d j) ∧ some (.int (nI cnt)) = r) (fun k u => k = 3 ∧ ∃ f, pLaw (σ.1.2 23) P.nT (P.nT + 1) 0 0 (va_cpy (σ.1.2 21) (σ.1.2 22) 0 0 4) = .inl f ∧ xLw σ u ∧ u.1.1 24 = 0 ∧ u.1.1 28 = nI f ∧ u.1.2 21 = σ.1.2 21) (fun z => if z = 3 then 1 else 0) (fun v => v.toInt64) r_ u_) (hm : (fun r u => pLawX μ P.nT r u) b_ v_) : Ag cn fL r_ u_ b_ v_ := by
  obtain ⟨hs, h24, d0, hd0, hm⟩ := hm
  have hD : ∀ j, j < 4 → va_cpy (σ.1.2 21) (σ.1.2 22) 0 0 4 j = d0 j := by
    intro j hj
    rw [va_cpy, if_pos ⟨Nat.zero_le _, by omega⟩, Nat.zero_add, Nat.sub_zero, hd0 j hj, ← h.sy j hj]
  have key := pLaw_cg (tp := σ.1.2 23) (en := P.nT) (P.nT + 1) 0 0 _ _ hD
  have er : ∀ u : xS, xLw σ u → ∀ (e24 : u.1.1 24 = 0), u.1.1 28 = v_.1 28 → (∀ j, j < 4 → u.1.2 21 j = v_.2 21 j) → (∃ n, n ≤ 100 ∧ u.1.2 21 3 = nI n) → Rel (cn + 1) (mkP P.nC P.nS P.nF (0) P.yr P.nw P.nW P.ch P.fr P.to P.ow P.tn P.od P.yd) u v_ := by
    intro u hu e24 e28 e21 e3
    refine Rel.up (Rel.lawR h (fun j hj a b => (hu.1 j a (by rintro rfl; simp at hj) (by rintro rfl; simp at hj) b (by rintro rfl; simp at hj)).symm) (fun j hj a => (hu.2.1 j a (by rintro rfl; simp at hj)).symm) e24 (fun j hj a b => (hs.1 j (by rintro rfl; simp at hj) a (by rintro rfl; simp at hj) (by rintro rfl; simp at hj) (by rintro rfl; simp at hj) b).symm) (fun j hj a => (hs.2 j a (by rintro rfl; simp at hj)).symm) h24 e28 e21 e3)
  rw [← h.ar 23 (by simp)] at hm
  rcases hx with ⟨v1, u0, ⟨c1, d1, p1, -, hu, e24, e28, e21, e1⟩, rfl, rfl⟩ | ⟨k, ⟨rfl, f1, p1, hu, e24, e28, e21⟩, rfl⟩ <;> rcases hm with ⟨f2, p2, t0, m28, rfl, m21⟩ | ⟨c2, d2, p2, -, t0, m28, rfl, m21⟩ <;> rcases key with ⟨f3, q1, q2⟩ | ⟨c3, a3, b3, q1, q2, q3⟩
  · rw [q1] at p1; cases p1
  · rw [q2] at p2; cases p2
  · rw [q1] at p1; cases p1
  · rw [q1] at p1
    rw [q2] at p2
    cases p1
    cases p2
    cases e1
    exact agr_ok (er u0 hu e24 (e28.trans m28.symm) (fun j hj => by rw [e21 j hj, m21 j hj, q3 j hj]) (by rw [e21 3 (by decide)]; exact pLaw_3 _ _ _ _ (by obtain ⟨n, n1, n2⟩ := h.lw; exact ⟨n, n1, by rw [va_cpy, if_pos (by decide)]; exact n2⟩) q1)) t0
  · rw [q1] at p1
    rw [q2] at p2
    cases p1
    cases p2
    exact ⟨⟨nI 1, rfl, t0, fun z => absurd z (by decide)⟩, _, er u_ hu e24 (e28.trans m28.symm) (fun j hj => by rw [e21, ← m21]; exact h.sy j hj) (by rw [e21]; exact h.lw)⟩
  · rw [q1] at p1; cases p1
  · rw [q2] at p2; cases p2
  · rw [q1] at p1; cases p1
def upN (f : Nat → Nat) (k v : Nat) : Nat → Nat := fun j => if j = k then v else f j
theorem upN_s (f : Nat → Nat) (k v : Nat) : upN f k v k = v := if_pos rfl
theorem upN_n {f : Nat → Nat} {k v j : Nat} (h : j ≠ k) : upN f k v j = f j := if_neg h
/-- a share's row, here and there -/
def Row (σ : xS) (μ : mS) (nC : Nat) (tn : Nat → Nat) (k ch fr to ow : Nat) : Prop :=
  (σ.1.2 16 (7 * k) = nI ch ∧ σ.1.2 16 (7 * k + 1) = nI fr ∧ σ.1.2 16 (7 * k + 2) = nI to ∧ σ.1.2 16 (7 * k + 3) = nI ow ∧ ch < nC ∧ ¬ σ.1.2 8 ch = -1 ∧ fr < to ∧ to ≤ tn ch ∧ ow < 31) ∧ (∀ i, i < 4 → σ.1.2 16 (7 * k + i) = μ.2 16 (7 * k + i)) ∧
  ((σ.1.2 16 (7 * k + 4) = -1 ∧ μ.2 16 (7 * k + 5) = 0 ∧ μ.2 16 (7 * k + 6) = 0) ∨ (¬ σ.1.2 16 (7 * k + 4) = -1 ∧ σ.1.2 16 (7 * k + 4) = μ.2 16 (7 * k + 4) ∧ σ.1.2 16 (7 * k + 5) = μ.2 16 (7 * k + 5) ∧ σ.1.2 16 (7 * k + 6) = μ.2 16 (7 * k + 6)))
def Sh (σ : xS) (μ : mS) (nC : Nat) (tn : Nat → Nat) (nS : Nat) (ch fr to ow : Nat → Nat) : Prop := nS ≤ 60 ∧ σ.1.1 17 = nI nS ∧ μ.1 17 = nI nS ∧ ∀ k, k < nS → Row σ μ nC tn k (ch k) (fr k) (to k) (ow k)
theorem Row.cg {σ' : xS} {μ' : mS} {nC k a b c d : Nat} {tn : Nat → Nat} (h : Row σ μ nC tn k a b c d) (e1 : ∀ i, i < 7 → σ'.1.2 16 (7 * k + i) = σ.1.2 16 (7 * k + i)) (e2 : ∀ i, i < 7 → μ'.2 16 (7 * k + i) = μ.2 16 (7 * k + i)) (e8 : σ'.1.2 8 = σ.1.2 8) : Row σ' μ' nC tn k a b c d := by
  unfold Row
  rw [e8, e1 1 (by decide), e1 2 (by decide), e1 3 (by decide), e1 4 (by decide), e1 5 (by decide), e1 6 (by decide), e2 4 (by decide), e2 5 (by decide), e2 6 (by decide)]
  refine ⟨⟨(e1 0 (by decide)).trans h.1.1, h.1.2⟩, fun i hi => ?_, h.2.2⟩
  rw [e1 i (by omega), e2 i (by omega)]
  exact h.2.1 i hi
theorem xBe_8 (σ : xS) (k : Nat) (f t o : Int32) : (xBe σ k f t o).1.2 8 = σ.1.2 8 := xBe_o _ _ _ _ _ (by decide)
theorem xBe_v (σ : xS) (k : Nat) (f t o : Int32) : (xBe σ k f t o).1.2 16 (7 * k + 1) = f ∧ (xBe σ k f t o).1.2 16 (7 * k + 2) = t ∧ (xBe σ k f t o).1.2 16 (7 * k + 3) = o ∧ (xBe σ k f t o).1.2 16 (7 * k + 4) = -1 := by
  unfold xBe
  refine ⟨?_, ?_, ?_, ?_⟩
  · rw [xs_ar_n (by omega), xs_ar_n (by omega), xs_ar_n (by omega), xs_ar_s]
  · rw [xs_ar_n (by omega), xs_ar_n (by omega), xs_ar_s]
  · rw [xs_ar_n (by omega), xs_ar_s]
  · rw [xs_ar_s]
theorem pSets_v (μ : mS) (k : Nat) (f t o : Int32) : (pSets μ k f t o).2 16 (7 * k + 1) = f ∧ (pSets μ k f t o).2 16 (7 * k + 2) = t ∧ (pSets μ k f t o).2 16 (7 * k + 3) = o ∧ (pSets μ k f t o).2 16 (7 * k + 5) = 0 ∧ (pSets μ k f t o).2 16 (7 * k + 6) = 0 ∧ (pSets μ k f t o).2 16 (7 * k) = μ.2 16 (7 * k) := by
  unfold pSets
  refine ⟨?_, ?_, ?_, ?_, ?_, ?_⟩
  · rw [mm_ar_n (by omega), mm_ar_n (by omega), mm_ar_n (by omega), mm_ar_n (by omega), mm_ar_s]
  · rw [mm_ar_n (by omega), mm_ar_n (by omega), mm_ar_n (by omega), mm_ar_s]
  · rw [mm_ar_n (by omega), mm_ar_n (by omega), mm_ar_s]
  · rw [mm_ar_n (by omega), mm_ar_s]
  · rw [mm_ar_s]
  · rw [mm_ar_n (by omega), mm_ar_n (by omega), mm_ar_n (by omega), mm_ar_n (by omega), mm_ar_n (by omega)]
theorem pSets_f (μ : mS) (k : Nat) (f t o : Int32) {j : Nat} (h : j < 7 * k ∨ 7 * k + 6 < j) : (pSets μ k f t o).2 16 j = μ.2 16 j := by
  unfold pSets
  rw [mm_ar_n (by omega), mm_ar_n (by omega), mm_ar_n (by omega), mm_ar_n (by omega), mm_ar_n (by omega)]
theorem xBe_f (σ : xS) (k : Nat) (f t o : Int32) {j : Nat} (h : j < 7 * k ∨ 7 * k + 6 < j) : (xBe σ k f t o).1.2 16 j = σ.1.2 16 j := xBe_at _ _ _ _ _ (by omega)
section SHT
variable {nC nS : Nat} {tn ch fr to ow : Nat → Nat}
theorem Sh.be (h : Sh σ μ nC tn nS ch fr to ow) {k a b o : Nat} (hk : k < nS) (hab : a < b) (hb : b ≤ tn (ch k)) (ho : o < 31) : Sh (xBe σ k (nI a) (nI b) (nI o)) (pSets μ k (nI a) (nI b) (nI o)) nC tn nS ch (upN fr k a) (upN to k b) (upN ow k o) := by
  refine ⟨h.1, h.2.1, h.2.2.1, fun i hi => ?_⟩
  by_cases e : i = k
  · subst e
    rw [upN_s, upN_s, upN_s]
    have r := h.2.2.2 i hi
    obtain ⟨x1, x2, x3, x4⟩ := xBe_v σ i (nI a) (nI b) (nI o)
    obtain ⟨y1, y2, y3, y5, y6, y0⟩ := pSets_v μ i (nI a) (nI b) (nI o)
    have x0 : (xBe σ i (nI a) (nI b) (nI o)).1.2 16 (7 * i) = σ.1.2 16 (7 * i) := xBe_at _ _ _ _ _ (by omega)
    refine ⟨⟨x0.trans r.1.1, x1, x2, x3, r.1.2.2.2.2.1, by rw [xBe_8]; exact r.1.2.2.2.2.2.1, hab, hb, ho⟩, fun j hj => ?_, Or.inl ⟨x4, y5, y6⟩⟩
    rcases (show j = 0 ∨ j = 1 ∨ j = 2 ∨ j = 3 by omega) with rfl | rfl | rfl | rfl
    · exact x0.trans ((r.2.1 0 (by decide)).trans y0.symm)
    · exact x1.trans y1.symm
    · exact x2.trans y2.symm
    · exact x3.trans y3.symm
  · rw [upN_n e, upN_n e, upN_n e]
    exact (h.2.2.2 i hi).cg (fun j hj => xBe_f _ _ _ _ _ (by omega)) (fun j hj => pSets_f _ _ _ _ _ (by omega)) (xBe_8 _ _ _ _ _)
theorem pAdds_v (μ : mS) (n : Nat) (q f t o : Int32) : (pAdds μ n q f t o).2 16 (7 * n) = q ∧ (pAdds μ n q f t o).2 16 (7 * n + 1) = f ∧ (pAdds μ n q f t o).2 16 (7 * n + 2) = t ∧ (pAdds μ n q f t o).2 16 (7 * n + 3) = o ∧ (pAdds μ n q f t o).2 16 (7 * n + 5) = 0 ∧ (pAdds μ n q f t o).2 16 (7 * n + 6) = 0 := by
  obtain ⟨y1, y2, y3, y5, y6, y0⟩ := pSets_v (mm_ar μ 16 (7 * n) q) n f t o
  exact ⟨y0.trans (mm_ar_s _ _ _ _), y1, y2, y3, y5, y6⟩
theorem pAdds_f (μ : mS) (n : Nat) (q f t o : Int32) {j : Nat} (h : j < 7 * n) : (pAdds μ n q f t o).2 16 j = μ.2 16 j := by
  show (pSets (mm_ar μ 16 (7 * n) q) n f t o).2 16 j = _
  rw [pSets_f _ _ _ _ _ (Or.inl h), mm_ar_n (by omega)]
theorem Sh.add (h : Sh σ μ nC tn nS ch fr to ow) {q a b o : Nat} (hS : nS < 60) (hq : q < nC) (hd : ¬ σ.1.2 8 q = -1) (hab : a < b) (hb : b ≤ tn q) (ho : o < 31) : Sh (xAdd σ nS q (nI a) (nI b) (nI o)) (pAdds μ nS (nI q) (nI a) (nI b) (nI o)) nC tn (nS + 1) (upN ch nS q) (upN fr nS a) (upN to nS b) (upN ow nS o) := by
  refine ⟨by omega, rfl, mm_st_eq _ _ _, fun i hi => ?_⟩
  have e8 : (xAdd σ nS q (nI a) (nI b) (nI o)).1.2 8 = σ.1.2 8 := xAdd_o _ _ _ _ _ _ (by decide)
  by_cases e : i = nS
  · subst e
    rw [upN_s, upN_s, upN_s, upN_s]
    obtain ⟨y0, y1, y2, y3, y5, y6⟩ := pAdds_v μ i (nI q) (nI a) (nI b) (nI o)
    refine ⟨⟨xAdd_0 _ _ _ _ _ _, xAdd_1 _ _ _ _ _ _, xAdd_2 _ _ _ _ _ _, xAdd_3 _ _ _ _ _ _, hq, by rw [e8]; exact hd, hab, hb, ho⟩, fun j hj => ?_, Or.inl ⟨xAdd_4 _ _ _ _ _ _, y5, y6⟩⟩
    rcases (show j = 0 ∨ j = 1 ∨ j = 2 ∨ j = 3 by omega) with rfl | rfl | rfl | rfl
    · exact (xAdd_0 _ _ _ _ _ _).trans y0.symm
    · exact (xAdd_1 _ _ _ _ _ _).trans y1.symm
    · exact (xAdd_2 _ _ _ _ _ _).trans y2.symm
    · exact (xAdd_3 _ _ _ _ _ _).trans y3.symm
  · rw [upN_n e, upN_n e, upN_n e, upN_n e]
    exact (h.2.2.2 i (by omega)).cg (fun j hj => xAdd_at _ _ _ _ _ _ (by omega)) (fun j hj => pAdds_f _ _ _ _ _ _ (by omega)) e8
/-- what one share covers -/
def ind (q a b c z : Nat) : Nat := if q = c ∧ a ≤ z ∧ z < b then 1 else 0
theorem cnt_s (ch fr to : Nat → Nat) (c z n : Nat) : cnt ch fr to c z (n + 1) = cnt ch fr to c z n + ind (ch n) (fr n) (to n) c z := rfl
theorem cnt_cg {ch fr to ch' fr' to' : Nat → Nat} (c z : Nat) : ∀ n, (∀ j, j < n → ch j = ch' j ∧ fr j = fr' j ∧ to j = to' j) → cnt ch fr to c z n = cnt ch' fr' to' c z n
  | 0, _ => rfl
  | n + 1, h => by rw [cnt_s, cnt_s, cnt_cg c z n (fun j hj => h j (by omega)), (h n (by omega)).1, (h n (by omega)).2.1, (h n (by omega)).2.2]
theorem cnt_be (ch fr to : Nat → Nat) (c z : Nat) {k a b : Nat} : ∀ n, k < n → cnt ch (upN fr k a) (upN to k b) c z n + ind (ch k) (fr k) (to k) c z = cnt ch fr to c z n + ind (ch k) a b c z
  | 0, h => absurd h (Nat.not_lt_zero _)
  | n + 1, h => by
    rw [cnt_s, cnt_s]
    by_cases e : k = n
    · subst e
      rw [upN_s, upN_s, cnt_cg c z k (ch' := ch) (fr' := fr) (to' := to) (fun j hj => ⟨rfl, upN_n (by omega), upN_n (by omega)⟩)]
      omega
    · rw [upN_n (fun z => e z.symm), upN_n (fun z => e z.symm)]
      have := cnt_be ch fr to c z (k := k) (a := a) (b := b) n (by omega)
      omega
theorem cnt_add (ch fr to : Nat → Nat) (c z n q a b : Nat) : cnt (upN ch n q) (upN fr n a) (upN to n b) c z (n + 1) = cnt ch fr to c z n + ind q a b c z := by
  rw [cnt_s, upN_s, upN_s, upN_s, cnt_cg c z n (ch' := ch) (fr' := fr) (to' := to) (fun j hj => ⟨upN_n (by omega), upN_n (by omega), upN_n (by omega)⟩)]
theorem ind_sp (q c z : Nat) {a m b : Nat} (h1 : a ≤ m) (h2 : m ≤ b) : ind q a m c z + ind q m b c z = ind q a b c z := by
  unfold ind
  by_cases hq : q = c
  · by_cases g1 : a ≤ z ∧ z < m
    · rw [if_pos ⟨hq, g1⟩, if_neg (by omega), if_pos (by omega)]
    · rw [if_neg (fun w => g1 w.2)]
      by_cases g2 : m ≤ z ∧ z < b
      · rw [if_pos ⟨hq, g2⟩, if_pos (by omega)]
      · rw [if_neg (fun w => g2 w.2), if_neg (by omega)]
  · rw [if_neg (fun w => hq w.1), if_neg (fun w => hq w.1), if_neg (fun w => hq w.1)]
theorem ind_e (q a c z : Nat) : ind q a a c z = 0 := if_neg (by omega)
end SHT
theorem Rel.tbl (h : Rel cn P σ μ) : Sh σ μ P.nC P.tn P.nS P.ch P.fr P.to P.ow := ⟨h.k.2.1.2, h.k.2.1.1, h.m17, fun k hk => ⟨h.sh k hk, h.s4 k hk, h.sl k hk⟩⟩
/-- the shares' table laid anew -/
theorem Rel.shr {σ' : xS} {μ' : mS} (h : Rel cn P σ μ) {nS : Nat} {ch fr to ow : Nat → Nat} (hs : Sh σ' μ' P.nC P.tn nS ch fr to ow) (hc : ∀ c z, cnt ch fr to c z nS = cnt P.ch P.fr P.to c z P.nS) (e1 : ∀ j, j ∈ ([1, 2, 3, 4, 10, 11, 17, 24, 28, 34] : List Nat) → j ≠ 17 → σ'.1.1 j = σ.1.1 j) (e2 : ∀ j, j ∈ ([5, 7, 8, 9, 12, 13, 14, 15, 16, 21, 23, 31, 32, 33] : List Nat) → j ≠ 16 → σ'.1.2 j = σ.1.2 j)
    (m1 : ∀ j, j ∈ ([1, 2, 3, 4, 10, 11, 17, 24, 28, 34] : List Nat) → j ≠ 17 → μ'.1 j = μ.1 j) (m2 : ∀ j, j ∈ ([5, 6, 7, 8, 9, 12, 13, 14, 15, 16, 21, 23, 31, 32, 33] : List Nat) → j ≠ 16 → μ'.2 j = μ.2 j) : Rel cn (mkP P.nC (nS) P.nF P.nT P.yr P.nw P.nW (ch) (fr) (to) (ow) P.tn P.od P.yd) σ' μ' := by
  have a5 := e2 5 (by simp) (by decide); have a7 := e2 7 (by simp) (by decide); have a8 := e2 8 (by simp) (by decide); have a9 := e2 9 (by simp) (by decide); have a12 := e2 12 (by simp) (by decide); have a13 := e2 13 (by simp) (by decide); have a14 := e2 14 (by simp) (by decide); have a15 := e2 15 (by simp) (by decide); have a21 := e2 21 (by simp) (by decide); have a23 := e2 23 (by simp) (by decide)
  have b6 := m2 6 (by simp) (by decide); have b7 := m2 7 (by simp) (by decide); have b8 := m2 8 (by simp) (by decide); have b9 := m2 9 (by simp) (by decide); have b21 := m2 21 (by simp) (by decide)
  refine ⟨⟨⟨(e1 10 (by simp) (by decide)).trans h.k.1.1, h.k.1.2⟩, ⟨hs.2.1, hs.1⟩, by rw [a5]; exact h.k.2.2.1, fun k hk => ⟨ch k, (hs.2.2.2 k hk).1.2.2.2.2.1, (hs.2.2.2 k hk).1.1⟩⟩, fun j hj => ?_, fun j hj => ?_, ?_, ?_, ?_, ?_, ?_, ?_, ?_, ?_, ?_, fun k hk => (hs.2.2.2 k hk).1, fun k hk => (hs.2.2.2 k hk).2.1, fun k hk => (hs.2.2.2 k hk).2.2, ?_, ?_, ?_, ?_, ?_, by rw [a21]; exact h.lw⟩
  · by_cases e : j = 17
    · subst e
      rw [hs.2.1, hs.2.2.1]
    · rw [e1 j hj e, m1 j hj e]
      exact h.sc j hj
  · rw [e2 j (by simp only [List.mem_cons, List.not_mem_nil, or_false] at hj ⊢; omega) (by rintro rfl; simp at hj), m2 j (by simp only [List.mem_cons, List.not_mem_nil, or_false] at hj ⊢; omega) (by rintro rfl; simp at hj)]
    exact h.ar j hj
  · rw [e1 11 (by simp) (by decide), a8]; exact h.dc
  · rw [a8, a9, a7, b6, b8]; exact h.dg
  · rw [b6, b7, b9]; exact h.fr
  · rw [a8]; exact h.inj
  · rw [a12, a13, a14]; exact h.wl
  · rw [a15]; exact h.w0
  · rw [e1 1 (by simp) (by decide), e1 2 (by simp) (by decide)]; exact h.gr
  · rw [e1 3 (by simp) (by decide)]; exact h.yr
  · rw [e1 4 (by simp) (by decide)]; exact h.nw
  · rw [a8]
    intro c hcC hd z
    exact (hc c z).trans (h.ct c hcC hd z)
  · rw [e1 34 (by simp) (by decide)]; exact h.fl
  · rw [e1 24 (by simp) (by decide)]; exact h.tp
  · rw [a23]; exact h.bt
  · rw [a21, b21]; exact h.sy

end OP4
