/-! indexed worlds: new cells, arrays of references -/
theorem gw_newH {G : gw_G} {A : Nat → Prop} {H0 H1 : Heap} {locs : List Loc} {ad : Nat → Nat} {w : gw_W} {q i : Nat} {x : va_E} (hD0 : gw_D A ad w) (hi : w i = none) (h5 : i < 512) (hP1 : va_P G.1 gw_cl (gw_L ad w ++ [(q, x)]) H1) (hD1 : va_D A (gw_L ad w ++ [(q, x)])) (hS1 : va_S A H0 H1 locs) : gw_H G A H0 H1 locs (va_up ad i q) (va_up w i (some x)) := by
  have hlast : (gw_L ad w ++ [(q, x)])[(gw_L ad w).length]? = some (q, x) := by simp
  have hold : ∀ j y, w j = some y → ∃ q0 : Nat, q0 < (gw_L ad w).length ∧ (gw_L ad w ++ [(q, x)])[q0]? = some (ad j, y) := by
    intro j y hy
    obtain ⟨q0, h0⟩ := gw_ix hD0 hy
    have hl := (List.getElem?_eq_some_iff.mp h0).1
    exact ⟨q0, hl, by rw [List.getElem?_append_left hl]; exact h0⟩
  have key : ∀ j y, va_up w i (some x) j = some y → (j = i ∧ y = x ∧ va_up ad i q j = q) ∨ (j ≠ i ∧ w j = some y ∧ va_up ad i q j = ad j) := by
    intro j y hy
    by_cases e : j = i
    · subst e
      have hy2 : some x = some y := by simpa only [va_up, if_true] using hy
      exact Or.inl ⟨rfl, (Option.some.inj hy2).symm, by simp only [va_up, if_true]⟩
    · have hy2 : w j = some y := by simpa only [va_up, if_neg e] using hy
      exact Or.inr ⟨e, hy2, by simp only [va_up, if_neg e]⟩
  refine ⟨fun j y hy => ?_, ⟨fun a b y z ha hb e => ?_, fun a y ha => ?_⟩, hS1⟩
  · rcases key j y hy with ⟨-, rfl, e⟩ | ⟨-, h1, e⟩
    · rw [e]
      exact hP1 _ _ hlast
    · obtain ⟨q0, -, h0⟩ := hold j y h1
      rw [e]
      exact hP1 q0 _ h0
  · rcases key a y ha with ⟨rfl, -, e1⟩ | ⟨n1, h1, e1⟩ <;> rcases key b z hb with ⟨e0, -, e2⟩ | ⟨n2, h2, e2⟩
    · exact e0.symm
    · exfalso
      obtain ⟨q0, hl, h0⟩ := hold b z h2
      have := hD1.1 _ _ _ _ hlast h0 (by show q = ad b; rw [← e1, e, e2])
      omega
    · exfalso
      obtain ⟨q0, hl, h0⟩ := hold a y h1
      have := hD1.1 _ _ _ _ hlast h0 (by show q = ad a; rw [← e2, ← e, e1])
      omega
    · exact hD0.1 a b y z h1 h2 (by rw [← e1, e, e2])
  · rcases key a y ha with ⟨rfl, -, e1⟩ | ⟨n1, h1, e1⟩
    · rw [e1]
      exact ⟨h5, hD1.2 _ _ hlast⟩
    · rw [e1]
      exact hD0.2 a y h1
theorem gw_cA {G : gw_G} {s : State} {t0 : Nat} {cA cB : ClassId} {ty : FieldType} (hK : va_K G.1 gw_cl (gw_ty G ++ [(cB, ty)]) s) (ht : (gw_ty G)[t0]? = some (cA, ty)) : cB = cA := by
  have hl := (List.getElem?_eq_some_iff.mp ht).1
  have h1 := (hK.2 t0 (cA, ty) (by rw [List.getElem?_append_left hl]; exact ht)).2
  have h2 := (hK.2 (gw_ty G).length (cB, ty) (by simp)).2
  cases ty with
  | object C =>
    obtain ⟨_, _, _, _, _, g1⟩ := h1
    obtain ⟨_, _, _, _, _, g2⟩ := h2
    exact Option.some.inj (g2.symm.trans g1)
  | _ => exact Option.some.inj (h2.symm.trans h1)
section GN
variable {p : Program} {l : Launch} {e : Env} {R : Room} {s : State} {m : MethodId} {args : Array Value} {below : List Frame} {meth : Method} {c : Code} {H : Heap} {locs : List Loc} {cells slots : Nat} {Q : State → Prop}
variable {cc : ByteArray} {pc : Nat} {ls : Array Slot} {rest : List Value} {G : gw_G} {A : Nat → Prop} {H0 : Heap} {ad : Nat → Nat} {w : gw_W} {own : String}
theorem gw_new (hx : p.tables.exec = Jvm.exec) (hb : c.code = cc) (hT : gw_T own G s m args) (hH : gw_H G A H0 H locs ad w) (hA : ∀ q, H0.size ≤ q → A q) (i : Nat) (hi : w i = none) (h5 : i < 512) {ci N idx : Nat} {C : String} {T : u_T} (hc : gw_cl[ci]? = some (C, T, N)) (hin : ∀ w ∈ u_ws C T N, w ∈ lw_all) (ty : Nat → FieldType) (hty : ∀ k, k < N → parseFieldDescriptor (T k).2.2.1 = some (ty k))
    (hcl : Cond.classLink own idx C ∈ lw_all) (hinst : Cond.instantiable C N ∈ lw_all) (hini : Cond.initialized C ∈ lw_all) (fs : List Value) (hfs : ∀ j, j < N → defaultValue (ty j) = vp_V fs j) (hcells : cells + 1 ≤ R.cells) (hslots : slots + N ≤ R.slots) (hd : decode cc pc = .ok (.new idx, 3))
    (kk : ∀ (ad' : Nat → Nat) (H1 : Heap), (∀ j, j ≠ i → ad' j = ad j) → gw_H G A H0 H1 locs ad' (va_up w i (some (.inr (ci, fs)))) → W p l e R s m args below meth c H1 locs (cells + 1) (slots + N) Q (F0 m (pc + 3) ls (.ref (ad' i) :: rest))) : W p l e R s m args below meth c H locs cells slots Q (F0 m pc ls rest) :=
  va_new hx hb hT.2.1 hin ty hty hT.1 (hT.2.1 _ hcl) (hT.2.1 _ hinst) (hT.2.1 _ hini) hT.2.2.1 (gw_lP hH.1) (gw_lD hH.2.1) hH.2.2 hA hc hfs hcells hslots hd (fun q H1 hP1 hD1 hS1 => by
    have h := kk (va_up ad i q) H1 (fun j hj => by simp only [va_up, if_neg hj]) (gw_newH hH.2.1 hi h5 hP1 hD1 hS1)
    simp only [va_up, if_true] at h
    exact h)
theorem gw_newa (hx : p.tables.exec = Jvm.exec) (hb : c.code = cc) (hT : gw_T own G s m args) (hH : gw_H G A H0 H locs ad w) (hA : ∀ q, H0.size ≤ q → A q) (i : Nat) (hi : w i = none) (h5 : i < 512) {atype : ArrayType} {ty : FieldType} (hty : newarray.typeOf atype = ty) (harr : Cond.arrayClass ty ∈ lw_all) (t0 : Nat) {cA : ClassId} (ht : (gw_ty G)[t0]? = some (cA, ty))
    {n : Int32} {N : Nat} (a0 : vp_A) (ha : ∀ cA : ClassId, vp_cell cA a0 = arrV cA N (fun _ => defaultValue ty)) (hn : ¬ n < 0) (hN : n.toNatClampNeg = N) (hbytes : N * componentBytes ty ≤ 536870912) (hcells : cells + 1 ≤ R.cells) (hslots : slots + N ≤ R.slots) (hd : decode cc pc = .ok (.newarray atype, 2))
    (kk : ∀ (ad' : Nat → Nat) (H1 : Heap), (∀ j, j ≠ i → ad' j = ad j) → gw_H G A H0 H1 locs ad' (va_up w i (some (.inl (cA, a0)))) → W p l e R s m args below meth c H1 locs (cells + 1) (slots + N) Q (F0 m (pc + 2) ls (.ref (ad' i) :: rest))) : W p l e R s m args below meth c H locs cells slots Q (F0 m pc ls (.int n :: rest)) := by
  refine va_newa hx hb (by rw [hty]; exact hT.2.1 _ harr) hty hT.2.2.1 (gw_lP hH.1) (gw_lD hH.2.1) hH.2.2 hA ha hn hN hbytes hcells hslots hd (fun q cB H1 hK1 hP1 hD1 hS1 => ?_)
  obtain rfl := gw_cA hK1 ht
  have h := kk (va_up ad i q) H1 (fun j hj => by simp only [va_up, if_neg hj]) (gw_newH hH.2.1 hi h5 hP1 hD1 hS1)
  simp only [va_up, if_true] at h
  exact h
theorem gw_newq (hx : p.tables.exec = Jvm.exec) (hb : c.code = cc) (hT : gw_T own G s m args) (hH : gw_H G A H0 H locs ad w) (hA : ∀ q, H0.size ≤ q → A q) (i : Nat) (hi : w i = none) (h5 : i < 512) {idx : Nat} {C : String} (hcl : Cond.classLink own idx C ∈ lw_all) (hO : va_AO C s) (t0 : Nat) {cA : ClassId} (ht : (gw_ty G)[t0]? = some (cA, .object C))
    {n : Int32} {N : Nat} (hn : ¬ n < 0) (hN : n.toNatClampNeg = N) (hbytes : N * 4 ≤ 536870912) (hcells : cells + 1 ≤ R.cells) (hslots : slots + N ≤ R.slots) (hd : decode cc pc = .ok (.anewarray idx, 3))
    (kk : ∀ (ad' : Nat → Nat) (H1 : Heap), (∀ j, j ≠ i → ad' j = ad j) → gw_H G A H0 H1 locs ad' (va_up w i (some (.inl (cA, N, .inr (.inr (.inr (.inr (fun _ => none)))))))) → W p l e R s m args below meth c H1 locs (cells + 1) (slots + N) Q (F0 m (pc + 3) ls (.ref (ad' i) :: rest))) : W p l e R s m args below meth c H locs cells slots Q (F0 m pc ls (.int n :: rest)) := by
  refine va_newq hx hb hT.1 (hT.2.1 _ hcl) hO hT.2.2.1 (gw_lP hH.1) (gw_lD hH.2.1) hH.2.2 hA hn hN hbytes hcells hslots hd (fun q cB H1 hK1 hP1 hD1 hS1 => ?_)
  obtain rfl := gw_cA hK1 ht
  have h := kk (va_up ad i q) H1 (fun j hj => by simp only [va_up, if_neg hj]) (gw_newH hH.2.1 hi h5 hP1 hD1 hS1)
  simp only [va_up, if_true] at h
  exact h
theorem gw_aast (hx : p.tables.exec = Jvm.exec) (hb : c.code = cc) (hT : gw_T own G s m args) (hH : gw_H G A H0 H locs ad w) (i t0 : Nat) {cA : ClassId} {r : vw_C} {n : Nat} {f : Nat → Option Nat} (he : w i = some (.inl (cA, n, .inr (.inr (.inr (.inr f)))))) (ht : (gw_ty G)[t0]? = some (cA, .object r.1)) (j : Nat) {ci : Nat} {vs : List Value} (hj : w j = some (.inr (ci, vs))) (hc : gw_cl[ci]? = some r) {x : Int32} (k : Nat) (hi : x = nI k) (hk : k < n) (hn : n < 2 ^ 31) (hd : decode cc pc = .ok (.aastore, 1))
    (kk : ∀ (H1 : Heap) (locs1 : List Loc), gw_H G A H0 H1 locs1 ad (va_up w i (some (.inl (cA, n, .inr (.inr (.inr (.inr (va_up f k (some (ad j)))))))))) → W p l e R s m args below meth c H1 locs1 cells slots Q (F0 m (pc + 1) ls rest)) : W p l e R s m args below meth c H locs cells slots Q (F0 m pc ls (.ref (ad j) :: .int x :: .ref (ad i) :: rest)) := by
  obtain ⟨h1, h2⟩ := gw_nI hi hk hn
  obtain ⟨q0, hq⟩ := gw_ix hH.2.1 he
  obtain ⟨qk, hqk⟩ := gw_ix hH.2.1 hj
  exact va_astq hx hb hT.2.2.1 (gw_lP hH.1) (gw_lD hH.2.1) hH.2.2 q0 t0 qk ci hq ht hqk hc h1 hd (fun H1 locs1 hP1 _ hS1 => kk H1 locs1 (gw_set hH.2.1 he hq (by rw [h2] at hP1; exact hP1) hS1))
theorem gw_aastM (hx : p.tables.exec = Jvm.exec) (hb : c.code = cc) (hT : gw_T own G s m args) (hH : gw_H G A H0 H locs ad w) (i t0 : Nat) {cA : ClassId} {C : String} {n v : Nat} {f : Nat → Option Nat} (he : w i = some (.inl (cA, n, .inr (.inr (.inr (.inr f)))))) (ht : (gw_ty G)[t0]? = some (cA, .object C)) (hr : va_Any C s H v) {x : Int32} (k : Nat) (hi : x = nI k) (hk : k < n) (hn : n < 2 ^ 31) (hd : decode cc pc = .ok (.aastore, 1))
    (kk : ∀ (H1 : Heap) (locs1 : List Loc), gw_H G A H0 H1 locs1 ad (va_up w i (some (.inl (cA, n, .inr (.inr (.inr (.inr (va_up f k (some v))))))))) → W p l e R s m args below meth c H1 locs1 cells slots Q (F0 m (pc + 1) ls rest)) : W p l e R s m args below meth c H locs cells slots Q (F0 m pc ls (.ref v :: .int x :: .ref (ad i) :: rest)) := by
  obtain ⟨h1, h2⟩ := gw_nI hi hk hn
  obtain ⟨q0, hq⟩ := gw_ix hH.2.1 he
  exact va_astqM hx hb hT.2.2.1 (gw_lP hH.1) (gw_lD hH.2.1) hH.2.2 q0 t0 hq ht hr h1 hd (fun H1 locs1 hP1 _ hS1 => kk H1 locs1 (gw_set hH.2.1 he hq (by rw [h2] at hP1; exact hP1) hS1))
end GN
theorem gw_recv {s : State} {H : Heap} {G : gw_G} {ad : Nat → Nat} {w : gw_W} {i ci : Nat} {q : vw_C} {fs : List Value} (hK : gw_K G s) (hP : gw_P G ad w H) (hi : w i = some (.inr (ci, fs))) (hc : gw_cl[ci]? = some q) : ∃ cell : Cell, H[ad i]? = some cell ∧ cell.vm.isStatics = false ∧ s.vm.findClass q.1 = some cell.cls :=
  va_recv (q := q) hK.1 (gw_one hP hi) (ci := ci) (q0 := 0) hc rfl
