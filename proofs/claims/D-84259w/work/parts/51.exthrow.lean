/-! a point of a walk as a start of its own; 'new X; dup; X.<init>(); athrow'; the search for a handler -/
theorem ex_troff {l : Launch} {e : Env} (hf : l.flags = pinnedFlags ++ [noTraceFlag]) (ha : l.admits e) : e.platform.stackTraces = false := by
  obtain ⟨-, -, -, -, hp, -⟩ := ha
  rw [hp]
  show l.stackTraces = false
  unfold Launch.stackTraces
  rw [hf]
  decide
theorem ex_hears {s T : State} (hW : s.WarmedH T.vm) (fs below : List Frame) (m : MethodId) : (T.setFrames fs).hears m below = s.hears m below := by
  have hmeth : ∀ q, (T.setFrames fs).vm.method? q = s.vm.method? q := fun q => hW.alike.method? q
  have hcode : ∀ q, (T.setFrames fs).code? q = s.code? q := fun q => by rw [State.code?_eq, State.code?_eq, hmeth]
  rcases below with _ | ⟨y, r⟩
  · simp only [State.hears, hmeth]
  · cases y <;> simp only [State.hears, hmeth, hcode]
section EX3
variable {p : Program} {l : Launch} {e : Env} {R : Room} {s : State} {m : MethodId} {args : Array Value} {below : List Frame} {meth : Method} {c : Code} {T : State} {locs : List Loc} {cells slots : Nat}
theorem ex_rebase (X : Stand p l e R s m args below meth c T locs cells slots) (hc : cells ≤ R.cells) (hs : slots ≤ R.slots) :
    Stand p l e ({ frames := R.frames, cells := R.cells - cells, slots := R.slots - slots, locals := R.locals } : Room) (T.setFrames (.invoking m args :: below)) m args below meth c T [] 0 0 := by
  obtain ⟨g₀, hfr⟩ := X.frames_eq
  have hcur : T.cur < T.threads.size := State.cur_lt_of_frames hfr
  have hf' : (T.setFrames (.invoking m args :: below)).frames = .invoking m args :: below := State.frames_setFrames _ hcur
  have hm' : (T.setFrames (.invoking m args :: below)).vm.method? m = some meth := X.method'
  refine ⟨X.admits, X.cas, X.clock, hf', ?_, by rw [ex_hears X.warmed]; exact X.hears, hm', X.code, X.here, X.tail, State.WarmedH.refl (T.setFrames (.invoking m args :: below)), by rw [State.stackLimits_setFrames], by rw [State.stackBytes_setFrames], ?_⟩
  · have hr := X.room
    have h1 := X.heapSize
    have h2 := X.used
    have hb : T.slotsTrue = true := X.book
    have hl1 := State.localsInUse_invoking X.frames X.method X.code
    have hl2 := State.localsInUse_invoking hf' hm' X.code
    have hfl : s.frames.length = (T.setFrames (.invoking m args :: below)).frames.length := by rw [X.frames, hf']
    simp only [State.hasRoom, Bool.and_eq_true, decide_eq_true_eq] at hr ⊢
    rw [hl1, hfl] at hr
    rw [hl2, State.stackLimits_setFrames, State.stackBytes_setFrames, X.limits, X.bytes]
    obtain ⟨⟨⟨⟨a1, a2⟩, a3⟩, a4⟩, -⟩ := hr
    refine ⟨⟨⟨⟨a1, a2⟩, ?_⟩, ?_⟩, hb⟩
    · show T.heap.size + (R.cells - cells) ≤ _
      omega
    · show T.slotsUsed + (R.slots - slots) ≤ _
      omega
  · obtain ⟨th, hth, -⟩ := State.frames_cons hfr
    obtain ⟨th', hth', -⟩ := State.frames_cons hf'
    have h := (State.sameButNew.refl (T.setFrames (.invoking m args :: below)) hth').setFrames T.frames (State.cur_lt_of_frames hf')
    rw [State.setFrames_setFrames, State.setFrames_self hth] at h
    exact h
/-- what has been done from a point on, added to what was done up to it -/
theorem ex_since (X : Stand p l e R s m args below meth c T locs cells slots) {t : State} {L : List Loc} {k n : Nat} (h : (T.setFrames (.invoking m args :: below)).sameButNew ({ t with vm := (T.setFrames (.invoking m args :: below)).vm } : State) L k n) : s.sameButNew ({ t with vm := s.vm } : State) (locs ++ L) (cells + k) (slots + n) := by
  obtain ⟨g₀, hfr⟩ := X.frames_eq
  have hcur : T.cur < T.threads.size := State.cur_lt_of_frames hfr
  obtain ⟨th, hth, -⟩ := State.frames_cons hfr
  have h0 := (State.sameButNew.refl T hth).setFrames (.invoking m args :: below) hcur
  have h1 := h0.trans h
  have h2 := X.same.trans (h1.setVm s.vm)
  rw [List.nil_append, Nat.zero_add, Nat.zero_add] at h2
  exact h2
/-- nothing old was written: the old cells are as they were -/
theorem ex_cells {s t : State} {k n : Nat} (h : s.sameButNew t [] k n) : s.heap.size ≤ t.heap.size ∧ ∀ q : Nat, q < s.heap.size → t.heap[q]? = s.heap[q]? := by
  refine ⟨h.2.1, fun q hq => ?_⟩
  have hc : s.heap[q]? = some s.heap[q] := Array.getElem?_eq_getElem hq
  obtain ⟨c', h1, h2, h3, h4⟩ := h.2.2.2.2.2 q _ hc
  have h5 : c'.slots = s.heap[q].slots := Array.ext_getElem? (fun i => h4 i (by simp))
  rw [h1, hc, h2, h5]
end EX3
/-- an object of the class C, being thrown -/
def ex_Is (C : String) (a : Nat) (t : State) : Prop := ∃ cell : Cell, t.heap[a]? = some cell ∧ cell.vm.isStatics = false ∧ t.vm.findClass C = some cell.cls
section EX4
variable {p : Program} {l : Launch} {e : Env} {R : Room} {s : State} {m : MethodId} {args : Array Value} {below : List Frame} {meth : Method} {c : Code} {H : Heap} {locs : List Loc} {cells slots : Nat}
variable {cc : ByteArray} {pc nL : Nat} {ls : Array Slot} {st : List Value} {own cls : String} {ic inw : Nat}
abbrev ex_up2 : List String := ["java/lang/RuntimeException", "java/lang/Exception"]
theorem ex_thr0 (hx : p.tables.exec = Jvm.exec) (hb : c.code = cc) (hfl : l.flags = pinnedFlags ++ [noTraceFlag]) (ho : s.vm.findClass own = some m.cls) (hcls : Bundle.fit cls = true)
    (hat : ∀ a ∈ Bundle.ownAtoms0 own ic cls ex_up2, a.before args s = true) (hcl : (Cond.classLink own inw cls).before args s = true) (hini : (Cond.initialized cls).before args s = true) (hins : (Cond.instantiable cls 6).before args s = true)
    (hE : c.exceptionTable.toList = []) (hlocks : meth.locks = false) (hsz : ls.size = c.maxLocals) (d0 : decode cc pc = .ok (.new inw, 3)) (d3 : decode cc (pc + 3) = .ok (.dup, 1)) (d4 : decode cc (pc + 3 + 1) = .ok (.invokespecial ic, 3)) (d7 : decode cc (pc + 3 + 1 + 3) = .ok (.athrow, 1))
    (hRf : 6 ≤ R.frames) (hRl : (st.map fun v => v.category).sum + 81 ≤ R.locals) (hRc : 1 ≤ R.cells) (hRs : 6 ≤ R.slots) :
    W p l e R s m args below meth c s.heap [] 0 0 (fun t => t.status = .running ∧ ∃ a, Ended t below (.threw a) ∧ s.WarmedH t.vm ∧ s.sameButNew ({ t with vm := s.vm } : State) [] 1 6 ∧ ∃ cell : Cell, t.heap[a]? = some cell ∧ cell.vm.isStatics = false ∧ s.vm.findClass cls = some cell.cls) (F0 m pc ls st) := by
  refine W.newc hx hb ho hcl hins hini rfl d0 (by omega) (by omega) fun cC kC h1 h2 h3 h4 => ?_
  refine lv_dup hx hb d3 rfl ?_
  intro T hT X
  have hcell : T.heap[s.heap.size]? = some (freshCell cC kC) := by
    rw [hT]
    simp
  obtain ⟨U, hsteps, hrun, hend, hW, hsame, ce, hce, K⟩ := X.ctorThrow0 hx (ex_troff hfl X.admits) (own := own) (cls := cls) (names := ex_up2) (ic := ic) ho hcls (by decide +kernel) hat (fun y hy => by cases hy) h1 h2 hcell (Nat.le_refl _)
    (g := F0 m (pc + 3 + 1) ls (.ref s.heap.size :: .ref s.heap.size :: st)) rfl hsz rfl rfl (rest := st) rfl (by rw [hb]; exact d4) (by rw [hb]; exact d7) (fun y hy => by rw [hE] at hy; cases hy) (by show 2 + 3 < R.frames; omega)
    (by
      show 2 * 0 + ((Value.ref s.heap.size :: st).map fun v => v.category).sum + (13 * (2 + 1) + 41) ≤ R.locals
      rw [List.map_cons, List.sum_cons, show (Value.ref s.heap.size).category = 1 from rfl]
      omega) (hlocks := hlocks)
  exact ⟨U, hsteps, hrun, _, hend, hW, hsame, ce, hce, by rw [K.vm]; rfl, K.cls⟩
/-- at any point of a walk: the method makes an exception and throws it -/
theorem ex_thr {Qc : Array Value → State → Outcome → State → Prop} {free : Addr → Prop} (hx : p.tables.exec = Jvm.exec) (hb : c.code = cc) (hfl : l.flags = pinnedFlags ++ [noTraceFlag]) (ho : s.vm.findClass own = some m.cls) (hts : ∀ w ∈ lw_all, w.before args s = true) (hcls : Bundle.fit cls = true)
    (hat : ∀ U : State, U.heap = H → s.WarmedH U.vm → ∀ a ∈ Bundle.ownAtoms0 own ic cls ex_up2, a.before args U = true) (hcl : Cond.classLink own inw cls ∈ lw_all) (hini : Cond.initialized cls ∈ lw_all) (hins : Cond.instantiable cls 6 ∈ lw_all)
    (hE : c.exceptionTable.toList = []) (hlocks : meth.locks = false) (hml : c.maxLocals = nL) (hsz : ls.size = nL) (d0 : decode cc pc = .ok (.new inw, 3)) (d3 : decode cc (pc + 3) = .ok (.dup, 1)) (d4 : decode cc (pc + 3 + 1) = .ok (.invokespecial ic, 3)) (d7 : decode cc (pc + 3 + 1 + 3) = .ok (.athrow, 1))
    (hRf : 6 ≤ R.frames) (hRl : (st.map fun v => v.category).sum + 81 ≤ R.locals) (hRc : cells + 1 ≤ R.cells) (hRs : slots + 6 ≤ R.slots)
    (hq : ∀ (t : State) (a : Nat), H.size ≤ t.heap.size → (∀ q : Nat, q < H.size → t.heap[q]? = H[q]?) → s.WarmedH t.vm → ex_Is cls a t → Qc args s (.threw a) t) (hf : ∀ q ∈ locs, free q.base) :
    W p l e R s m args below meth c H locs cells slots (ex_MQ below Qc args s (cells + 1) (slots + 6) free) (F0 m pc ls st) := by
  intro T hT X
  have X' := ex_rebase X (by omega) (by omega)
  have hW0 : s.WarmedH (T.setFrames (.invoking m args :: below)).vm := X.warmed
  obtain ⟨t, hst, hrun, a, hend, hW, hsame, cell, h1, h2, h3⟩ := ex_thr0 (R := { frames := R.frames, cells := R.cells - cells, slots := R.slots - slots, locals := R.locals }) (s := T.setFrames (.invoking m args :: below)) (args := args) (ls := ls) (st := st) hx hb hfl (by show T.vm.findClass own = _; rw [X.warmed.alike.findClass]; exact ho) hcls (hat _ hT hW0) (ex_wd hts hW0 hcl) (ex_wd hts hW0 hini) (ex_wd hts hW0 hins) hE hlocks (hsz.trans hml.symm) d0 d3 d4 d7 hRf hRl (by show 1 ≤ R.cells - cells; omega) (by show 6 ≤ R.slots - slots; omega) T rfl X'
  have hk := ex_cells hsame
  have hW2 : T.WarmedH t.vm := hW
  have hs := ex_since X hsame
  rw [List.append_nil] at hs
  refine ⟨t, hst, .threw a, hrun, hend, hq t a (by rw [← hT]; exact hk.1) (fun q hq' => ?_) (State.WarmedH.trans X.warmed hW2) ⟨cell, h1, h2, ?_⟩, locs, ⟨State.WarmedH.trans X.warmed hW2, hs⟩, hf⟩
  · rw [← hT] at hq' ⊢
    exact hk.2 q hq'
  · rw [hW2.alike.findClass]
    exact h3
/-- athrow of an object that is there -/
theorem ex_athrow {Q : State → Prop} (hx : p.tables.exec = Jvm.exec) (hb : c.code = cc) {a : Nat} (hd : decode cc pc = .ok (.athrow, 1)) (k : WT p l e R s m args below meth c H locs cells slots Q (F0 m pc ls st) a) : W p l e R s m args below meth c H locs cells slots Q (F0 m pc ls (.ref a :: st)) := by
  intro T hT X
  obtain ⟨t, h1, h2⟩ := k T hT X
  refine ⟨t, ?_, h2⟩
  jvm_step X.here [X.here.top, hx, hb, hd, athrow.wp_sem]
  exact h1
end EX4
/-! the search through the handlers -/
section EX5
variable {e : Env} {f : JFrame} {a : Addr} {s : State}
theorem ex_go_cold {E : CtlPost} {d : Bool} {acts : List Action} {Q : Handler → Pre} {T : State} {x : ExceptionTableEntry} {t : List ExceptionTableEntry} {c : ClassId} {cell : Cell} {vm' : Vm} (hx : covers x f.pc = true) (h0 : x.catchType ≠ 0)
    (hg : (Jvm.resolveClass f.method.cls x.catchType).Gives e.toSetting T.vm (.ok c) vm') (hsz : vm'.classes.size ≤ T.vm.classes.size) (hcell : T.heap[a]? = some cell) (hobj : ∀ k, cell.vm ≠ .statics k)
    (hk : ∃ k, vm'.classes[cell.cls]? = some k) (hc : ∃ k, vm'.classes[c]? = some k) :
    wp (findHandler.go f a (x :: t)) Q E e d acts T ↔
      if vm'.assignable cell.cls c = true then Q (.found x.handlerPc) d acts (T.setVm vm') else wp (findHandler.go f a t) Q E e d acts (T.setVm vm') := by
  simp only [covers] at hx
  obtain ⟨ha, ht⟩ := hg.op (op := VmOp.resolveClass f.method.cls x.catchType) rfl
  cases hfit : vm'.assignable cell.cls c <;>
    simp [findHandler.go, hx, h0, ha, ht, hsz, hcell, hobj, hk, hc, hfit, VmOp.dirties, VmOp.acts]
/-- from any warmer tables the search through es ends with h, the tables still warmer -/
def ex_S (e : Env) (s T : State) (f : JFrame) (a : Addr) (es : List ExceptionTableEntry) (h : Handler) : Prop :=
  ∀ vm₁ : Vm, s.WarmedH vm₁ → ∃ vm₂ : Vm, s.WarmedH vm₂ ∧ ∀ (Q : Handler → Pre) (E : CtlPost) (d : Bool) (acts : List Action), wp (findHandler.go f a es) Q E e d acts (T.setVm vm₁) ↔ Q h d acts (T.setVm vm₂)
theorem ex_S_skip {T : State} {x : ExceptionTableEntry} {t : List ExceptionTableEntry} {h : Handler} (hx : covers x f.pc = false) (k : ex_S e s T f a t h) : ex_S e s T f a (x :: t) h := by
  intro vm₁ hW
  obtain ⟨vm₂, h1, h2⟩ := k vm₁ hW
  exact ⟨vm₂, h1, fun Q E d acts => (W.findHandler_go_skip hx).trans (h2 Q E d acts)⟩
theorem ex_S_row {T : State} {args : Array Value} {x : ExceptionTableEntry} {t : List ExceptionTableEntry} {own C : String} {cC : ClassId} {cell : Cell} {ks : Class} (hpl : e.platform.magicAccessors = ({} : Platform).magicAccessors) (hx : covers x f.pc = true) (h0 : x.catchType ≠ 0) (hown : s.vm.findClass own = some f.method.cls) (hlink : (Cond.classLink own x.catchType C).before args s = true)
    (hC : s.vm.findClass C = some cC) (hcell : T.heap[a]? = some cell) (hobj : cell.vm.isStatics = false) (hks : s.vm.classes[cell.cls]? = some ks) :
    ∀ vm₁ : Vm, s.WarmedH vm₁ → ∃ vm₂ : Vm, s.WarmedH vm₂ ∧ ∀ (Q : Handler → Pre) (E : CtlPost) (d : Bool) (acts : List Action), wp (findHandler.go f a (x :: t)) Q E e d acts (T.setVm vm₁) ↔ if s.vm.assignable cell.cls cC = true then Q (.found x.handlerPc) d acts (T.setVm vm₂) else wp (findHandler.go f a t) Q E e d acts (T.setVm vm₂) := by
  intro vm₁ hW
  obtain ⟨c', hc', hcl⟩ := Cond.classLink_spec hown hlink e.platform hpl
  cases hC.symm.trans hc'
  obtain ⟨dk, _, _, kt, hd, _, _, _, _, hkt, _, hopen⟩ := hcl.here
  have hcl₀ := hW.classLinks hcl
  have hW' : s.WarmedH (vm₁.noted f.method.cls x.catchType (.cls cC)) := hW.noted hd hopen (State.rightAt_cls hcl)
  obtain ⟨ks', hks', -⟩ := hW'.alike.2.2 _ _ hks
  obtain ⟨kt', hkt', -⟩ := hW'.alike.2.2 _ _ hkt
  refine ⟨_, hW', fun Q E d acts => ?_⟩
  rw [ex_go_cold (T := T.setVm vm₁) hx h0 (resolveClass_links e.toSetting hcl₀) (by rw [Vm.size_noted]; exact Nat.le_refl _) hcell (VmData.ne_statics_of hobj) ⟨_, hks'⟩ ⟨_, hkt'⟩]
  show (if (vm₁.noted f.method.cls x.catchType (.cls cC)).assignable cell.cls cC = true then Q (.found x.handlerPc) d acts (T.setVm (vm₁.noted f.method.cls x.catchType (.cls cC))) else wp (findHandler.go f a t) Q E e d acts (T.setVm (vm₁.noted f.method.cls x.catchType (.cls cC)))) ↔ _
  rw [hW'.alike.assignable]
theorem ex_S_hit {T : State} {args : Array Value} {x : ExceptionTableEntry} {t : List ExceptionTableEntry} {own C : String} {cC : ClassId} {cell : Cell} {ks : Class} (hpl : e.platform.magicAccessors = ({} : Platform).magicAccessors) (hx : covers x f.pc = true) (h0 : x.catchType ≠ 0) (hown : s.vm.findClass own = some f.method.cls) (hlink : (Cond.classLink own x.catchType C).before args s = true)
    (hC : s.vm.findClass C = some cC) (hcell : T.heap[a]? = some cell) (hobj : cell.vm.isStatics = false) (hks : s.vm.classes[cell.cls]? = some ks) (hfit : s.vm.assignable cell.cls cC = true) : ex_S e s T f a (x :: t) (.found x.handlerPc) := by
  intro vm₁ hW
  obtain ⟨vm₂, h1, h2⟩ := ex_S_row (t := t) hpl hx h0 hown hlink hC hcell hobj hks vm₁ hW
  exact ⟨vm₂, h1, fun Q E d acts => by rw [h2, if_pos hfit]⟩
theorem ex_S_pass {T : State} {args : Array Value} {x : ExceptionTableEntry} {t : List ExceptionTableEntry} {own C : String} {cC : ClassId} {cell : Cell} {ks : Class} {h : Handler} (hpl : e.platform.magicAccessors = ({} : Platform).magicAccessors) (hx : covers x f.pc = true) (h0 : x.catchType ≠ 0) (hown : s.vm.findClass own = some f.method.cls) (hlink : (Cond.classLink own x.catchType C).before args s = true)
    (hC : s.vm.findClass C = some cC) (hcell : T.heap[a]? = some cell) (hobj : cell.vm.isStatics = false) (hks : s.vm.classes[cell.cls]? = some ks) (hfit : s.vm.assignable cell.cls cC = false) (k : ex_S e s T f a t h) : ex_S e s T f a (x :: t) h := by
  intro vm₁ hW
  obtain ⟨vm₂, h1, h2⟩ := ex_S_row (t := t) hpl hx h0 hown hlink hC hcell hobj hks vm₁ hW
  obtain ⟨vm₃, h3, h4⟩ := k vm₂ h1
  exact ⟨vm₃, h3, fun Q E d acts => by rw [h2, if_neg (by rw [hfit]; decide)]; exact h4 Q E d acts⟩
theorem ex_catch_step {r : List Frame} {pc : Nat} {vm' : Vm} (hfind : ∀ (Q : Handler → Pre) (E : CtlPost) (d : Bool) (acts : List Action), wp (findHandler f a) Q E e d acts s ↔ Q (.found pc) d acts (s.setVm vm')) :
    (stepThrowing e s a (.java f :: r)).1 = ((s.setVm vm').setFrames (.java { f with pc := pc, stack := [.ref a] } :: r)) := by
  simp only [stepThrowing, searchFrame, vmDo]
  generalize hr : Sem.go _ e false [] s = res
  obtain ⟨as, rfl, ha⟩ := Sem.eq_ok_of hr (a := Handler.found pc) (s' := s.setVm vm') (acts' := []) (by simp [hfind])
  rfl
end EX5
section EX6
variable {p : Program} {l : Launch} {e : Env} {R : Room} {s : State} {m : MethodId} {args : Array Value} {below : List Frame} {meth : Method} {c : Code} {H : Heap} {locs : List Loc} {cells slots : Nat} {Q : State → Prop}
/-- caught: on at the handler -/
theorem WT.caught {g : JFrame} {x : Addr} {pc : Nat} (hg : g.method = m) (hS : ∀ T : State, T.heap = H → e.platform.magicAccessors = ({} : Platform).magicAccessors → ex_S e s T g x c.exceptionTable.toList (.found pc))
    (k : W p l e R s m args below meth c H locs cells slots Q { g with pc := pc, stack := [.ref x] }) : WT p l e R s m args below meth c H locs cells slots Q g x := by
  intro T hT X
  have hpl : e.platform.magicAccessors = ({} : Platform).magicAccessors := by rw [X.admits.platform]
  have hh : ((T.setTop g).pushFrame (.throwing x)).heap = H := by rw [Stand.throwing_heap]; exact hT
  obtain ⟨vm₂, hW, hf⟩ := hS ((T.setTop g).pushFrame (.throwing x)) hh hpl T.vm X.warmed
  have X2 := X.noted hW
  obtain ⟨t, h1, h2⟩ := k (T.setVm vm₂) hT X2
  refine ⟨t, ?_, h2⟩
  have hat : At T g.method c below := by rw [hg]; exact X.here
  obtain ⟨hgo, hw⟩ := hat.throwing x
  refine Steps.head hgo hw ?_
  have hvm : ((T.setTop g).pushFrame (.throwing x)).setVm T.vm = (T.setTop g).pushFrame (.throwing x) := by
    have h3 : ((T.setTop g).pushFrame (.throwing x)).vm = T.vm := Stand.throwing_vm T g x
    rw [← h3]
    rfl
  rw [hvm] at hf
  rw [stepThread_throwing (frames_entered hat.top _), ex_catch_step (s := (T.setTop g).pushFrame (.throwing x)) (pc := pc) (vm' := vm₂) (fun Q E d acts => (W.findHandler_eq (meth := meth) (code := c) (by rw [Stand.throwing_vm, hg]; exact X.method') X.code).trans (hf Q E d acts))]
  obtain ⟨g₀, hg0⟩ := Option.isSome_iff_exists.mp hat.top
  obtain ⟨r, hr⟩ := State.topJava?_eq_some.mp hg0
  rw [State.setTop_of_frames _ (show (T.setVm vm₂).frames = .java g₀ :: r from hr)] at h1
  have e9 : ∀ F F' : List Frame, ((T.setFrames F').setVm vm₂).setFrames F = (T.setVm vm₂).setFrames F := fun F F' => by
    show ((T.setFrames F').setFrames F).setVm vm₂ = (T.setFrames F).setVm vm₂
    rw [State.setFrames_setFrames]
  rw [State.pushFrame, State.setTop_of_frames _ hr, State.setFrames_setFrames, hr, e9]
  exact h1
end EX6
