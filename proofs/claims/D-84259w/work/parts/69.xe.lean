/-! the system's world with two local arrays of four (heirs) -/
def xe_w (G : gw_G) (ad wk : Nat → Nat) (σ : xS) (f g : Nat → Int32) : gw_W := va_up (va_up (xx_w G ad wk σ) 300 (some (.inl (G.2 0, 4, .inl f)))) 301 (some (.inl (G.2 0, 4, .inl g)))
abbrev xe_H (G : gw_G) (A : Nat → Prop) (H0 H : Heap) (locs : List Loc) (ad wk : Nat → Nat) (σ : xS) (f g : Nat → Int32) : Prop := gw_H G A H0 H locs ad (xe_w G ad wk σ f g)
section XEW
variable {G : gw_G} {A : Nat → Prop} {H0 H H1 : Heap} {locs locs1 : List Loc} {ad ad' wk : Nat → Nat} {σ τ u u' : xS} {f g : Nat → Int32}
theorem xe_at {i : Nat} {x : Option va_E} (h : i < 280) (e : xx_w G ad wk σ i = x) : xe_w G ad wk σ f g i = x := by
  unfold xe_w
  rw [xx_at (by omega), xx_at (by omega)]
  exact e
theorem xe_300 : xe_w G ad wk σ f g 300 = some (.inl (G.2 0, 4, .inl f)) := by
  unfold xe_w
  rw [xx_at (by decide), xx_as]
theorem xe_301 : xe_w G ad wk σ f g 301 = some (.inl (G.2 0, 4, .inl g)) := by
  unfold xe_w
  rw [xx_as]
theorem xx_280 {i : Nat} {x : va_E} (h : xx_w G ad wk σ i = some x) : i < 280 := by
  rcases Nat.lt_or_ge i 280 with q | q
  · exact q
  · rw [xx_none (Or.inl q)] at h
    cases h
theorem xe_x (h : xe_H G A H0 H locs ad wk σ f g) : xx_H G A H0 H locs ad wk σ :=
  ⟨fun i x hx => h.1 i x (xe_at (xx_280 hx) hx), ⟨fun i j x y hx hy e => h.2.1.1 i j x y (xe_at (xx_280 hx) hx) (xe_at (xx_280 hy) hy) e, fun i x hx => h.2.1.2 i x (xe_at (xx_280 hx) hx)⟩, h.2.2⟩
theorem xe_up {i : Nat} {x : Option va_E} (h : i < 280) (e : va_up (xx_w G ad wk σ) i x = xx_w G ad wk τ) : va_up (xe_w G ad wk σ f g) i x = xe_w G ad wk τ f g := by
  unfold xe_w
  funext j
  by_cases h1 : j = 301
  · subst h1
    rw [xx_at (by omega), xx_as, xx_as]
  by_cases h0 : j = 300
  · subst h0
    rw [xx_at (by omega), xx_at (by decide), xx_as, xx_at (by decide), xx_as]
  rw [xx_at h1, xx_at h0, ← e]
  by_cases hi : j = i
  · subst hi
    rw [xx_as, xx_as]
  · rw [xx_at hi, xx_at h1, xx_at h0, xx_at hi]
/-- behind a call that leaves the two arrays alone -/
theorem xe_back {nC nS : Nat} {nW : Nat → Nat} (hk' : xk u' nC nS nW) (hH : xe_H G A H0 H locs ad wk u f g) (hP : gw_P G ad' (xx_w G ad' wk u') H1) (hD : gw_D (fun q => A q ∧ q ≠ ad 300 ∧ q ≠ ad 301) ad' (xx_w G ad' wk u')) (hkept : ∀ q : Nat, q < H.size → ¬ (A q ∧ q ≠ ad 300 ∧ q ≠ ad 301) → H1[q]? = H[q]?) (hS1 : va_S A H0 H1 locs1) :
    ∃ ad2 : Nat → Nat, ad2 300 = ad 300 ∧ ad2 301 = ad 301 ∧ (∀ i, i < 280 → ad2 i = ad' i) ∧ xe_H G A H0 H1 locs1 ad2 wk u' f g := by
  refine ⟨fun i => if i = 300 then ad 300 else if i = 301 then ad 301 else ad' i, if_pos rfl, by show (if (301 : Nat) = 300 then ad 300 else if (301 : Nat) = 301 then ad 301 else ad' 301) = _; rw [if_neg (by decide), if_pos rfl], fun i hi => by show (if i = 300 then ad 300 else if i = 301 then ad 301 else ad' i) = _; rw [if_neg (by omega), if_neg (by omega)], ?_⟩
  generalize hz : (fun i => if i = 300 then ad 300 else if i = 301 then ad 301 else ad' i) = ad2
  have e0 : ad2 300 = ad 300 := by rw [← hz]; exact if_pos rfl
  have e1 : ad2 301 = ad 301 := by rw [← hz]; show (if (301 : Nat) = 300 then ad 300 else if (301 : Nat) = 301 then ad 301 else ad' 301) = _; rw [if_neg (by decide), if_pos rfl]
  have e2 : ∀ i, i < 280 → ad2 i = ad' i := fun i hi => by rw [← hz]; show (if i = 300 then ad 300 else if i = 301 then ad 301 else ad' i) = _; rw [if_neg (by omega), if_neg (by omega)]
  have ew : xx_w G ad2 wk u' = xx_w G ad' wk u' := hk'.adr (fun i x hx => e2 i (xx_280 hx))
  have key : ∀ i x, xe_w G ad2 wk u' f g i = some x → (i = 300 ∧ x = .inl (G.2 0, 4, .inl f)) ∨ (i = 301 ∧ x = .inl (G.2 0, 4, .inl g)) ∨ (i < 280 ∧ xx_w G ad' wk u' i = some x) := by
    intro i x hx
    by_cases h1 : i = 301
    · subst h1
      rw [xe_301] at hx
      exact Or.inr (Or.inl ⟨rfl, (Option.some.inj hx).symm⟩)
    by_cases h0 : i = 300
    · subst h0
      rw [xe_300] at hx
      exact Or.inl ⟨rfl, (Option.some.inj hx).symm⟩
    unfold xe_w at hx
    rw [xx_at h1, xx_at h0, ew] at hx
    exact Or.inr (Or.inr ⟨xx_280 hx, hx⟩)
  have p300 := hH.1 300 _ xe_300
  have p301 := hH.1 301 _ xe_301
  refine ⟨fun i x hx => ?_, ⟨fun i j x y hx hy e => ?_, fun i x hx => ?_⟩, hS1⟩
  · rcases key i x hx with ⟨rfl, rfl⟩ | ⟨rfl, rfl⟩ | ⟨hi, h⟩
    · rw [e0]
      exact p300.kept (hkept _ p300.lt (fun h => h.2.1 rfl))
    · rw [e1]
      exact p301.kept (hkept _ p301.lt (fun h => h.2.2 rfl))
    · rw [e2 i hi]
      exact hP i x h
  · rcases key i x hx with ⟨rfl, -⟩ | ⟨rfl, -⟩ | ⟨hi, h⟩ <;> rcases key j y hy with ⟨rfl, -⟩ | ⟨rfl, -⟩ | ⟨hj, h'⟩
    · rfl
    · rw [e0, e1] at e
      exact hH.2.1.1 300 301 _ _ xe_300 xe_301 e
    · rw [e0, e2 j hj] at e
      exact absurd e.symm (hD.2 j y h').2.2.1
    · rw [e0, e1] at e
      exact (hH.2.1.1 300 301 _ _ xe_300 xe_301 e.symm).symm
    · rfl
    · rw [e1, e2 j hj] at e
      exact absurd e.symm (hD.2 j y h').2.2.2
    · rw [e0, e2 i hi] at e
      exact absurd e (hD.2 i x h).2.2.1
    · rw [e1, e2 i hi] at e
      exact absurd e (hD.2 i x h).2.2.2
    · rw [e2 i hi, e2 j hj] at e
      exact hD.1 i j x y h h' e
  · rcases key i x hx with ⟨rfl, -⟩ | ⟨rfl, -⟩ | ⟨hi, h⟩
    · rw [e0]
      exact hH.2.1.2 300 _ xe_300
    · rw [e1]
      exact hH.2.1.2 301 _ xe_301
    · rw [e2 i hi]
      exact ⟨(hD.2 i x h).1, (hD.2 i x h).2.1⟩
end XEW
section XEC
variable {p : Program} {l : Launch} {e : Env} {R : Room} {s : State} {m : MethodId} {args : Array Value} {below : List Frame} {meth : Method} {c : Code} {H : Heap} {locs : List Loc} {cells slots : Nat} {Q : State → Prop}
variable {cc : ByteArray} {pc nL : Nat} {ls : Array Slot} {rest st : List Value} {G : gw_G} {A A' : Nat → Prop} {ad wk wv : Nat → Nat} {σ u : xS} {y : MethodName} {b : ByteArray} {L d idx n mc ms : Nat} {ret : Option FieldType} {own : String} {as : List Value} {w0 : Cond} {f g : Nat → Int32}
/-- a call through an object of the system, with fewer cells to change -/
theorem ye_V {Qc : Array Value → State → Outcome → State → Prop} {free : Addr → Prop} (i : Nat) {ci : Nat} {fs : List Value} {q : vw_C} (hM : ex_Met l y (w0 :: lw_all) (xx_rm d mc ms) (va_Pc (.ref (ad i) :: as) (xx_UU G A' ad wk wv u)) Qc mc ms free) (hx : p.tables.exec = Jvm.exec) (hb : c.code = cc) (hml : c.maxLocals = nL) (hT : gw_T own G s m args) (hX : xc A wk wv s s.heap) (hAA : ∀ q, A' q → A q) (hA' : ∀ q, H.size ≤ q → A' q) (hH : xx_H G A s.heap H locs ad wk u) (hD : gw_D A' ad (xx_w G ad wk u))
    (hi : xx_w G ad wk u i = some (.inr (ci, fs))) (hc : gw_cl[ci]? = some q) (hw0 : w0 ∈ lw_all) (hcode : ex_code s y L) (hin : Cond.instanceMethod y ∈ lw_all) (hse : Cond.selects q.1 y y ∈ lw_all) (hini : Cond.initialized y.cls ∈ lw_all) (hl : Cond.methodLink own idx y ∈ lw_all)
    (hd : y.cls ≠ "java/lang/invoke/MethodHandle" ∧ y.cls ≠ "java/lang/invoke/VarHandle" ∧ (parseMethodDescriptor y.desc).map (fun d => d.parameters.length) = some n) (hR : d + 1 ≤ R.frames ∧ 8 + (L + 11) + 60 * d ≤ R.locals) (hn : as.length = n) (hsz : ls.size = nL) (hst : st = as.reverse ++ .ref (ad i) :: rest) (hcat : (rest.map fun v => v.category).sum ≤ 8) (hdg : decode cc pc = .ok (.invokevirtual idx, 3)) (hf : cells + mc ≤ R.cells ∧ slots + ms ≤ R.slots) :
    ex_Run p l e R s m args below meth c H locs cells slots mc ms (F0 m pc ls st) rest (Qc (Value.ref (ad i) :: as).toArray) free :=
  ex_runV (maxL := L) (n := n) hx hb hml hT.1 hT.2.1 hM ⟨rfl, rfl, hR.1, hR.2, hw0, hcode, hini, hd, hl⟩ hin hse ⟨xx_blind, gw_recv hT.2.2 hH.1 hi hc, fun U hU hW => ⟨rfl, ⟨by rw [hU]; exact hH.1, hD, hT.2.2.warm hW⟩, (hX.at hW hH.2.2 hU).narrow hAA, fun q hq => hA' q (by rw [← hU]; exact hq)⟩⟩ rfl hn hsz hst (lv_room hcat) hdg hf
theorem xz_run {post : Option Value → xS → Prop} {thr : Nat → xS → Prop} {a0 : Array Value} {gF : JFrame} {free : Addr → Prop} (hr : ex_Run p l e R s m args below meth c H locs cells slots mc ms gF rest (xz_Q post thr G A ad wk a0) free) : ex_Run p l e R s m args below meth c H locs cells slots mc ms gF rest (xx_Q post thr G A ad wk σ a0) free := by
  intro T hT X
  obtain ⟨o, st₀, t, T', L, h0, X', hL, e1, e2, ⟨⟨u', hU, ho⟩, hF⟩, hg, ht⟩ := hr T hT X
  exact ⟨o, st₀, t, T', L, h0, X', hL, e1, e2, ⟨⟨u', ad, fun _ _ _ => rfl, hU, ho⟩, hF⟩, hg, ht⟩
def xe_A (A : Nat → Prop) (ad : Nat → Nat) (q : Nat) : Prop := A q ∧ q ≠ ad 300 ∧ q ≠ ad 301
theorem xe_D (hH : xe_H G A s.heap H locs ad wk u f g) : gw_D (xe_A A ad) ad (xx_w G ad wk u) :=
  ⟨(xe_x hH).2.1.1, fun i x hx => ⟨((xe_x hH).2.1.2 i x hx).1, ((xe_x hH).2.1.2 i x hx).2, fun e => by have := hH.2.1.1 i 300 _ _ (xe_at (xx_280 hx) hx) xe_300 e; have := xx_280 hx; omega, fun e => by have := hH.2.1.1 i 301 _ _ (xe_at (xx_280 hx) hx) xe_301 e; have := xx_280 hx; omega⟩⟩
theorem xe_A' (hH : xe_H G A s.heap H locs ad wk u f g) (hA : ∀ q, s.heap.size ≤ q → A q) : ∀ q, H.size ≤ q → xe_A A ad q :=
  fun q hq => ⟨hA q (Nat.le_trans hH.2.2.1 hq), fun e => by have := (hH.1 300 _ xe_300).lt; change ad 300 < _ at this; omega, fun e => by have := (hH.1 301 _ xe_301).lt; change ad 301 < _ at this; omega⟩
/-- a call within the system that never throws -/
theorem xe_call {post : Option Value → xS → Prop} {a0 : Array Value} (hr : ex_Run p l e R s m args below meth c H locs cells slots mc ms (F0 m pc ls st) rest (xx_Q post (fun _ _ => False) G (xe_A A ad) ad wk u a0) (xe_A A ad)) (hH : xe_H G A s.heap H locs ad wk u f g) (hsh : ∀ v u', post v u' → ∃ nC nS nW, xk u' nC nS nW)
    (kr : ∀ (v : Option Value) (u' : xS) (ad' : Nat → Nat) (H : Heap) (locs : List Loc), (∀ i x, xx_w G ad wk u i = some x → ad' i = ad i) → ad' 300 = ad 300 → ad' 301 = ad 301 → xe_H G A s.heap H locs ad' wk u' f g → post v u' → W p l e R s m args below meth c H locs (cells + mc) (slots + ms) Q (F0 m (pc + 3) ls (v.toList ++ rest))) :
    W p l e R s m args below meth c H locs cells slots Q (F0 m pc ls st) := by
  refine xx_callG hr hH.2.2 (fun q h => h.1) (fun v u' ad' t H1 locs1 _ _ hext hP hD hp _ hkept hS1 => ?_) (fun a k u' ad' t H1 locs1 _ _ hext hP hD hp => hp.elim)
  obtain ⟨nC, nS, nW, hk'⟩ := hsh v u' hp
  obtain ⟨ad2, e0, e1, e2, hH2⟩ := xe_back hk' hH hP hD hkept hS1
  exact kr v u' ad2 H1 locs1 (fun i x hx => by rw [e2 i (xx_280 hx), hext i x hx]) e0 e1 hH2 hp
end XEC
