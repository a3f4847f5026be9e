/-! handlers, array copies -/
theorem ex_self (vm : Vm) (c : ClassId) : vm.assignable c c = true := by
  show vm.assignableAux 256 c c = true
  unfold Vm.assignableAux
  rw [show (c == c) = true from beq_self_eq_true c, Bool.true_or]
/-- the handler that a thrown exception of the kind k finds -/
def ex_hit (pc k : Nat) (cls : Nat → Nat) : List (Nat × Nat × Nat × Nat) → Option Nat
  | [] => none
  | (a, b, h, t) :: r => if a ≤ pc ∧ pc < b then (if cls t = k then some h else ex_hit pc k cls r) else ex_hit pc k cls r
theorem ex_find {e : Env} {s T : State} {args : Array Value} {f : JFrame} {a k h : Nat} {own : String} {cls : Nat → Nat} (hpl : e.platform.magicAccessors = ({} : Platform).magicAccessors) (hown : s.vm.findClass own = some f.method.cls) (hts : ∀ w ∈ lw_all, w.before args s = true) (hN : ex_N s) (hI : ex_IsS (ex_X k) a s T.heap) :
    ∀ (hh : List (Nat × Nat × Nat × Nat)) (es : List ExceptionTableEntry), es.map (fun h => (h.startPc, h.endPc, h.handlerPc, h.catchType)) = hh → (∀ x ∈ hh, x.2.2.2 ≠ 0 ∧ Cond.classLink own x.2.2.2 (ex_X (cls x.2.2.2)) ∈ lw_all ∧ (cls x.2.2.2 = k ∨ (1 ≤ k ∧ k < 6 ∧ 1 ≤ cls x.2.2.2 ∧ cls x.2.2.2 < 6))) → ex_hit f.pc k cls hh = some h → ex_S e s T f a es (.found h)
  | [], es, _, _, hh => by cases hh
  | (sp, ep, hp, ct) :: r, [], hm, _, _ => by cases hm
  | (sp, ep, hp, ct) :: r, x :: t, hm, hw, hh => by
    obtain ⟨cell, g1, g2, g3⟩ := hI
    rw [List.map_cons] at hm
    injection hm with hx hr
    injection hx with e1 hx
    injection hx with e2 hx
    injection hx with e3 e4
    obtain ⟨w1, w2, w3⟩ := hw _ List.mem_cons_self
    obtain ⟨ks, hks⟩ := Vm.classAt_of_findClass g3
    rw [ex_hit] at hh
    by_cases hc : sp ≤ f.pc ∧ f.pc < ep
    · rw [if_pos hc] at hh
      have hcov : covers x f.pc = true := by
        rw [covers, e1, e2, Bool.and_eq_true, decide_eq_true_eq, decide_eq_true_eq]
        exact hc
      by_cases hk : cls ct = k
      · rw [if_pos hk] at hh
        have hh2 := Option.some.inj hh
        rw [← hh2, ← e3]
        refine ex_S_hit (args := args) (own := own) (C := ex_X k) hpl hcov (by rw [e4]; exact w1) hown (by rw [e4]; have := hts _ w2; dsimp only at this; rw [hk] at this; exact this) g3 g1 g2 hks (ex_self _ _)
      · rw [if_neg hk] at hh
        rcases w3 with w3 | ⟨k1, k2, k3, k4⟩
        · exact absurd w3 hk
        obtain ⟨c1, t1, h1, h2, h3⟩ := hN k k2 (cls ct) k4 k1 k3 (Ne.symm hk)
        rw [g3] at h1
        obtain rfl := Option.some.inj h1
        exact ex_S_pass (args := args) (own := own) (C := ex_X (cls ct)) hpl hcov (by rw [e4]; exact w1) hown (by rw [e4]; exact hts _ w2) h2 g1 g2 hks h3 (ex_find hpl hown hts hN ⟨cell, g1, g2, g3⟩ r t hr (fun y hy => hw y (List.mem_cons_of_mem _ hy)) hh)
    · rw [if_neg hc] at hh
      have hcov : covers x f.pc = false := by
        rw [covers, e1, e2]
        rcases Nat.lt_or_ge f.pc sp with q | q
        · rw [decide_eq_false (by omega), Bool.false_and]
        · rw [decide_eq_false (show ¬ f.pc < ep by omega), Bool.and_false]
      exact ex_S_skip hcov (ex_find hpl hown hts hN ⟨cell, g1, g2, g3⟩ r t hr (fun y hy => hw y (List.mem_cons_of_mem _ hy)) hh)
/-- a whole array of the system is laid anew -/
def xs_af (σ : xS) (k : Nat) (g : Nat → Int32) : xS := ((σ.1.1, va_up σ.1.2 k g), σ.2)
theorem xs_af_s (σ : xS) (k : Nat) (g : Nat → Int32) : (xs_af σ k g).1.2 k = g := by
  show va_up σ.1.2 k g k = g
  simp only [va_up, if_true]
theorem xs_af_o {σ : xS} {k j : Nat} {g : Nat → Int32} (h : j ≠ k) : (xs_af σ k g).1.2 j = σ.1.2 j := by
  show va_up σ.1.2 k g j = _
  simp only [va_up, if_neg h]
theorem xx_upF {G : gw_G} {ad wk : Nat → Nat} {σ : xS} {k : Nat} (hk : xx_len k ≠ 0) (g : Nat → Int32) : va_up (xx_w G ad wk σ) k (some (.inl (G.2 (xx_ct k), xx_len k, .inl g))) = xx_w G ad wk (xs_af σ k g) := by
  have hK := xx_lenK hk
  funext i
  by_cases hi : i = k
  · subst hi
    rw [xx_as, xx_arr hk (by omega), xs_af_s]
  · rw [xx_at hi]
    have hne : ∀ j, j ≠ k → (xs_af σ k g).1.2 j = σ.1.2 j := fun j hj => xs_af_o hj
    refine xx_cg i rfl rfl (fun _ => rfl) (fun _ => rfl) (fun _ => rfl) (fun _ => rfl) (fun _ => rfl) (fun h1 h2 h3 => (hne i hi).symm) (hne 5 (by omega)).symm (fun d _ _ => ?_) (fun d _ _ => ?_) (fun d _ _ => ?_)
    · unfold xx_fs5
      rw [hne 5 (by omega), hne 7 (by omega), hne 8 (by omega), hne 9 (by omega)]
    · unfold xx_fs6
      rw [hne 12 (by omega), hne 13 (by omega), hne 14 (by omega), hne 15 (by omega)]
    · unfold xx_fs7
      rw [hne 16 (by omega)]
section XLL
variable {p : Program} {l : Launch} {e : Env} {R : Room} {s : State} {m : MethodId} {args : Array Value} {below : List Frame} {meth : Method} {c : Code} {H : Heap} {locs : List Loc} {cells slots : Nat} {Q : State → Prop}
variable {cc : ByteArray} {pc nL : Nat} {ls : Array Slot} {rest st : List Value} {G : gw_G} {A : Nat → Prop} {H0 : Heap} {ad wk : Nat → Nat} {σ : xS} {own cls : String} {ic inw idx : Nat}
/-- four numbers from the array i to the array j -/
theorem xx_copy4 (hx : p.tables.exec = Jvm.exec) (hb : c.code = cc) (hml : c.maxLocals = ls.size) (hT : gw_T own G s m args) (hlk : Cond.methodLink own idx arraycopyName ∈ lw_all) (hH : xx_H G A H0 H locs ad wk σ) {i j : Nat} (hi : xx_len i = 4) (hj : xx_len j = 4) (hi8 : 7 < i ∧ i < 40) (hj8 : 7 < j ∧ j < 40) (ti : xx_ct i = 0) (tj : xx_ct j = 0)
    (hf : 1 ≤ R.frames) (hlo : (rest.map fun v => v.category).sum + (nativeFrameWords "java/lang/System" "arraycopy" 5 + 11) ≤ R.locals) (hdg : decode cc pc = .ok (.invokestatic idx, 3))
    (kk : ∀ (H1 : Heap) (locs1 : List Loc), xx_H G A H0 H1 locs1 ad wk (xs_af σ j (va_cpy (σ.1.2 i) (σ.1.2 j) 0 0 4)) → W p l e R s m args below meth c H1 locs1 cells slots Q (F0 m (pc + 3) ls rest)) : W p l e R s m args below meth c H locs cells slots Q (F0 m pc ls (.int 4 :: .int 0 :: .ref (ad j) :: .int 0 :: .ref (ad i) :: rest)) := by
  have wi : xx_w G ad wk σ i = some (.inl (G.2 0, 4, .inl (σ.1.2 i))) := by rw [xx_arr (by omega) hi8, ti, hi]
  have wj : xx_w G ad wk σ j = some (.inl (G.2 0, 4, .inl (σ.1.2 j))) := by rw [xx_arr (by omega) hj8, tj, hj]
  obtain ⟨q0, h0⟩ := gw_ix hH.2.1 wi
  obtain ⟨q1, h1⟩ := gw_ix hH.2.1 wj
  refine va_copyi hx hb hml hT.1 (hT.2.1 _ hlk) (hT.2.1 _ q682) (hT.2.1 _ q681) (hT.2.1 _ q51) hT.2.2.1 (gw_lP hH.1) (gw_lD hH.2.1) hH.2.2 q0 q1 0 0 h0 h1 rfl rfl rfl (by decide) (by decide) (by decide) (by decide) (by decide) (fun _ _ => rfl) hf hlo hdg (fun H1 locs1 hP1 _ hS1 => kk H1 locs1 ?_)
  have h := gw_set hH.2.1 wj h1 (x1 := .inl (G.2 0, 4, .inl (va_cpy (σ.1.2 i) (σ.1.2 j) 0 0 4))) hP1 hS1
  show gw_H G A H0 H1 locs1 ad (xx_w G ad wk (xs_af σ j (va_cpy (σ.1.2 i) (σ.1.2 j) 0 0 4)))
  rw [← xx_upF (by omega), tj, hj]
  exact h
theorem ex_thr0H (hx : p.tables.exec = Jvm.exec) (hb : c.code = cc) (hfl : l.flags = pinnedFlags ++ [noTraceFlag]) (ho : s.vm.findClass own = some m.cls) (hcls : Bundle.fit cls = true)
    (hat : ∀ a ∈ Bundle.ownAtoms0 own ic cls ex_up2, a.before args s = true) (hcl : (Cond.classLink own inw cls).before args s = true) (hini : (Cond.initialized cls).before args s = true) (hins : (Cond.instantiable cls 6).before args s = true)
    (hE : ∀ y ∈ c.exceptionTable.toList, covers y (pc + 3 + 1 + 3) = false) (hlocks : meth.locks = false) (hsz : ls.size = c.maxLocals) (d0 : decode cc pc = .ok (.new inw, 3)) (d3 : decode cc (pc + 3) = .ok (.dup, 1)) (d4 : decode cc (pc + 3 + 1) = .ok (.invokespecial ic, 3)) (d7 : decode cc (pc + 3 + 1 + 3) = .ok (.athrow, 1))
    (hRf : 6 ≤ R.frames) (hRl : (st.map fun v => v.category).sum + 81 ≤ R.locals) (hRc : 1 ≤ R.cells) (hRs : 6 ≤ R.slots) :
    W p l e R s m args below meth c s.heap [] 0 0 (fun t => t.status = .running ∧ ∃ a, Ended t below (.threw a) ∧ s.WarmedH t.vm ∧ s.sameButNew ({ t with vm := s.vm } : State) [] 1 6 ∧ ∃ cell : Cell, t.heap[a]? = some cell ∧ cell.vm.isStatics = false ∧ s.vm.findClass cls = some cell.cls) (F0 m pc ls st) := by
  refine W.newc hx hb ho hcl hins hini rfl d0 (by omega) (by omega) fun cC kC h1 h2 h3 h4 => ?_
  refine lv_dup hx hb d3 rfl ?_
  intro T hT X
  have hcell : T.heap[s.heap.size]? = some (freshCell cC kC) := by
    rw [hT]
    simp
  obtain ⟨U, hsteps, hrun, hend, hW, hsame, ce, hce, K⟩ := X.ctorThrow0 hx (ex_troff hfl X.admits) (own := own) (cls := cls) (names := ex_up2) (ic := ic) ho hcls (by decide +kernel) hat (fun y hy => by cases hy) h1 h2 hcell (Nat.le_refl _)
    (g := F0 m (pc + 3 + 1) ls (.ref s.heap.size :: .ref s.heap.size :: st)) rfl hsz rfl rfl (rest := st) rfl (by rw [hb]; exact d4) (by rw [hb]; exact d7) hE (by show 2 + 3 < R.frames; omega)
    (by
      show 2 * 0 + ((Value.ref s.heap.size :: st).map fun v => v.category).sum + (13 * (2 + 1) + 41) ≤ R.locals
      rw [List.map_cons, List.sum_cons, show (Value.ref s.heap.size).category = 1 from rfl]
      omega) (hlocks := hlocks)
  exact ⟨U, hsteps, hrun, _, hend, hW, hsame, ce, hce, by rw [K.vm]; rfl, K.cls⟩
/-- at any point of a walk, of a method with handlers that don't cover it: it makes an exception and throws it -/
theorem ex_thrH {Qc : Array Value → State → Outcome → State → Prop} {free : Addr → Prop} (hx : p.tables.exec = Jvm.exec) (hb : c.code = cc) (hfl : l.flags = pinnedFlags ++ [noTraceFlag]) (ho : s.vm.findClass own = some m.cls) (hts : ∀ w ∈ lw_all, w.before args s = true) (hcls : Bundle.fit cls = true)
    (hat : ∀ U : State, U.heap = H → s.WarmedH U.vm → ∀ a ∈ Bundle.ownAtoms0 own ic cls ex_up2, a.before args U = true) (hcl : Cond.classLink own inw cls ∈ lw_all) (hini : Cond.initialized cls ∈ lw_all) (hins : Cond.instantiable cls 6 ∈ lw_all)
    (hE : ∀ y ∈ c.exceptionTable.toList, covers y (pc + 3 + 1 + 3) = false) (hlocks : meth.locks = false) (hml : c.maxLocals = nL) (hsz : ls.size = nL) (d0 : decode cc pc = .ok (.new inw, 3)) (d3 : decode cc (pc + 3) = .ok (.dup, 1)) (d4 : decode cc (pc + 3 + 1) = .ok (.invokespecial ic, 3)) (d7 : decode cc (pc + 3 + 1 + 3) = .ok (.athrow, 1))
    (hRf : 6 ≤ R.frames) (hRl : (st.map fun v => v.category).sum + 81 ≤ R.locals) (hRc : cells + 1 ≤ R.cells) (hRs : slots + 6 ≤ R.slots)
    (hq : ∀ (t : State) (a : Nat), H.size ≤ t.heap.size → (∀ q : Nat, q < H.size → t.heap[q]? = H[q]?) → s.WarmedH t.vm → ex_Is cls a t → Qc args s (.threw a) t) (hf : ∀ q ∈ locs, free q.base) :
    W p l e R s m args below meth c H locs cells slots (ex_MQ below Qc args s (cells + 1) (slots + 6) free) (F0 m pc ls st) := by
  intro T hT X
  have X' := ex_rebase X (by omega) (by omega)
  have hW0 : s.WarmedH (T.setFrames (.invoking m args :: below)).vm := X.warmed
  obtain ⟨t, hst, hrun, a, hend, hW, hsame, cell, h1, h2, h3⟩ := ex_thr0H (R := { frames := R.frames, cells := R.cells - cells, slots := R.slots - slots, locals := R.locals }) (s := T.setFrames (.invoking m args :: below)) (args := args) (ls := ls) (st := st) hx hb hfl (by show T.vm.findClass own = _; rw [X.warmed.alike.findClass]; exact ho) hcls (hat _ hT hW0) (ex_wd hts hW0 hcl) (ex_wd hts hW0 hini) (ex_wd hts hW0 hins) hE hlocks (hsz.trans hml.symm) d0 d3 d4 d7 hRf hRl (by show 1 ≤ R.cells - cells; omega) (by show 6 ≤ R.slots - slots; omega) T rfl X'
  have hk := ex_cells hsame
  have hW2 : T.WarmedH t.vm := hW
  have hs := ex_since X hsame
  rw [List.append_nil] at hs
  refine ⟨t, hst, .threw a, hrun, hend, hq t a (by rw [← hT]; exact hk.1) (fun q hq' => ?_) (State.WarmedH.trans X.warmed hW2) ⟨cell, h1, h2, ?_⟩, locs, ⟨State.WarmedH.trans X.warmed hW2, hs⟩, hf⟩
  · rw [← hT] at hq' ⊢
    exact hk.2 q hq'
  · rw [hW2.alike.findClass]
    exact h3
end XLL
