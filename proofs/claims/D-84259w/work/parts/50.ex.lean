/-! EXCEPTIONS: contracts of methods that return or throw; calls of them; the search for a handler, cold or warm -/
def ex_FE (first t : State) (L : List Loc) (k n : Nat) : Prop := first.WarmedH t.vm ∧ first.sameButNew ({ t with vm := first.vm } : State) L k n
def ex_Met (l : Launch) (y : MethodName) (ws : List Cond) (rm : Room) (Pc : Array Value → State → Prop) (Qc : Array Value → State → Outcome → State → Prop) (mc ms : Nat) (free : Addr → Prop) : Prop :=
  MetFree l y (headSpec ws rm) Pc (fun _ _ _ _ _ => True) (fun a st o t => Qc a st o t ∧ ∃ L, ex_FE st t L mc ms ∧ ∀ q ∈ L, free q.base)
def ex_MQ (below : List Frame) (Qc : Array Value → State → Outcome → State → Prop) (a : Array Value) (s : State) (mc ms : Nat) (free : Addr → Prop) : State → Prop := fun t =>
  ∃ o, t.status = .running ∧ Ended t below o ∧ Qc a s o t ∧ ∃ L, ex_FE s t L mc ms ∧ ∀ q ∈ L, free q.base
def ex_PostOf (Qc : Array Value → State → Outcome → State → Prop) (mc ms : Nat) (free : Addr → Prop) : Pt → Array Value → Outcome → Pt → Prop := fun A a o B =>
  ∃ (g : JFrame) (mk : MethodId) (t : State) (L : List Loc), B.U.heap = t.heap ∧ B.U.vm = t.vm ∧ Qc a (A.U.calling g mk a) o t ∧ B.locs = A.locs ++ L ∧ (∀ q ∈ L, free q.base) ∧ B.cells = A.cells + mc ∧ B.slots = A.slots + ms
def ex_Back (l : Launch) (R : Room) (p : Program) (e : Env) (below : List Frame) (s : State) (sargs : Array Value) (y : MethodName) (len W : Nat) (Pre : Pt → Array Value → Prop) (Post : Pt → Array Value → Outcome → Pt → Prop) : Prop :=
  ∀ (m : MethodId) (meth : Method) (c : Code) (A : Pt) (g : JFrame) (ig : Instr) (mk : MethodId) (a : Array Value),
    Stand p l e R s m sargs below meth c A.U A.locs A.cells A.slots → g.method = m → g.locals.size = c.maxLocals → decode c.code g.pc = .ok (ig, len) →
    2 * g.monitorRoom + (g.stack.map fun v => v.category).sum ≤ W → A.U.methodNamed? y = some mk → Pre A a →
    ∃ (o : Outcome) (B : Pt), Stand p l e R s m sargs below meth c B.U B.locs B.cells B.slots ∧ Post A a o B ∧
      (∀ v, o = .returned v → Steps p.tables e below (doInvoke e (A.U.setTop g) [] mk a).1 (B.U.setTop { g with pc := g.pc + len, stack := v.toList ++ g.stack })) ∧
      (∀ x, o = .threw x → Steps p.tables e below (doInvoke e (A.U.setTop g) [] mk a).1 ((B.U.setTop g).pushFrame (.throwing x)))
/-- what a method's word of code says wherever the tables are warmer -/
def ex_code (s : State) (y : MethodName) (maxL : Nat) : Prop := ∀ (U : State) (mk : MethodId), s.WarmedH U.vm → U.methodNamed? y = some mk → ∃ (methY : Method) (cY : Code), U.vm.method? mk = some methY ∧ methY.code = some cY ∧ cY.maxLocals = maxL ∧ parseMethodDescriptor y.desc = some methY.sig
theorem ex_wd {args a' : Array Value} {s U : State} (hts : ∀ w ∈ lw_all, w.before args s = true) (hW : s.WarmedH U.vm) {w : Cond} (h : w ∈ lw_all) : w.before a' U = true := word_at hW (lw_self w h).2 (hts w h)
theorem ex_code_of {args : Array Value} {s : State} (hts : ∀ w ∈ lw_all, w.before args s = true) {y : MethodName} {b : ByteArray} {maxL : Nat} {ret : Option FieldType} (h : Cond.code y b maxL ret ∈ lw_all) : ex_code s y maxL := by
  intro U mk hW hn
  obtain ⟨methY, cY, h1, h2, -, h4, -, -, -, h8⟩ := Cond.code_spec hn (ex_wd (a' := #[]) hts hW h)
  exact ⟨methY, cY, h1, h2, h4, h8⟩
theorem ex_code_ofW {args : Array Value} {s : State} (hts : ∀ w ∈ lw_all, w.before args s = true) {y : MethodName} {b : ByteArray} {maxL : Nat} {ret : Option FieldType} {hh : List (Nat × Nat × Nat × Nat)} (h : Cond.codeWith y b maxL ret hh ∈ lw_all) : ex_code s y maxL := by
  intro U mk hW hn
  obtain ⟨m9, methY, cY, h0, h1, h2, -, h4, -, -, -, h8⟩ := Cond.codeWith_spec (ex_wd (a' := #[]) hts hW h)
  cases hn.symm.trans h0
  exact ⟨methY, cY, h1, h2, h4, h8⟩
section EX1
variable {l : Launch} {R : Room} {p : Program} {e : Env} {below : List Frame} {s : State} {sargs : Array Value} {y : MethodName} {len W0 : Nat}
theorem ex_of {ws : List Cond} {rm : Room} {Pc : Array Value → State → Prop} {Qc : Array Value → State → Outcome → State → Prop} {mc ms : Nat} {free : Addr → Prop} (h : Met l y ws rm Pc Qc mc ms free) : ex_Met l y ws rm Pc Qc mc ms free := by
  intro p e ha hc hk s m args below hf happ hP hK
  obtain ⟨n, o, h1, h2, h3, h4, L, h5, h6⟩ := h p e ha hc hk s m args below hf happ hP hK
  exact ⟨n, o, h1, h2, h3, h4, L, ⟨h5.2.1, h5.2.2⟩, h6⟩
theorem ex_back_of {ws : List Cond} {rm : Room} {Pc : Array Value → State → Prop} {Qc : Array Value → State → Outcome → State → Prop} {mc ms : Nat} {free : Addr → Prop} {maxL : Nat}
    (hM : ex_Met l y ws rm Pc Qc mc ms free) (hblind : FrameBlind Pc) (hrc : rm.cells = mc) (hrs : rm.slots = ms)
    (hframes : rm.frames + 1 ≤ R.frames) (hlocals : W0 + (maxL + 11) + rm.locals ≤ R.locals)
    (hws : ∀ w ∈ ws, ∀ a' U, s.WarmedH U.vm → w.before a' U = true) (hcode : ex_code s y maxL) (hinit : ∀ a' U, s.WarmedH U.vm → (Cond.initialized y.cls).before a' U = true) :
    ex_Back l R p e below s sargs y len W0 (PreOf R mc ms Pc) (ex_PostOf Qc mc ms free) := by
  intro m meth c A g ig mk a X hg hsize hdg hW hn hp
  obtain ⟨U, Ls, c0, s0⟩ := A
  dsimp only [Pt.U, Pt.locs, Pt.cells, Pt.slots] at X hn ⊢
  obtain ⟨hp1, hp2, hp3⟩ := hp
  dsimp only [Pt.U, Pt.cells, Pt.slots] at hp1 hp2 hp3
  obtain ⟨methY, cY, hmY, hcY, hlY, -⟩ := hcode U mk X.warmed hn
  obtain ⟨kY, hkY, -⟩ := className_of_methodNamed hn
  have hinitY : kY.init = .initialized := Cond.initialized_spec (findClass_of_methodNamed hn) hkY (hinit a U X.warmed)
  have h : At U g.method c below := by rw [hg]; exact X.here
  have happ : (headSpec ws rm).appliesLoose y e.platform (U.calling g mk a) = true :=
    Spec.appliesLoose_calling (g := g) h hdg hn hkY hinitY
      (X.room_calling (g := g) (R' := (headSpec ws rm).room) hsize hmY hcY hframes (by rw [hlY]; exact Nat.le_trans (Nat.add_le_add_right (Nat.add_le_add_right hW _) _) hlocals) (by rw [show (headSpec ws rm).room.cells = mc from hrc]; exact hp1) (by rw [show (headSpec ws rm).room.slots = ms from hrs]; exact hp2)) (atoms_intro fun w hw => hws w hw _ _ X.warmed)
  obtain ⟨mid, hmid⟩ := h.above
  have hfr : (U.setTop g).frames = (.java g :: mid) ++ below := by rw [State.frames_setTop' g h.top, hmid]; rfl
  obtain ⟨o, s₂, hsteps, -, hend, hq⟩ := Steps.callFree hM p X.admits X.cas X.clock (acts := []) hfr happ (hblind _ _ _ _ hp3) trivial
  rw [State.frames_setTop' g h.top, X.tail] at hend
  obtain ⟨hq1, L, hfe, hL⟩ := hq
  cases o with
  | returned v =>
    obtain ⟨T', X', -, -, ht⟩ := X.outOf hg hdg hend hfe.1 hfe.2
    refine ⟨.returned v, ⟨T', Ls ++ L, c0 + mc, s0 + ms⟩, X', ⟨g, mk, s₂, L, ?_, ?_, hq1, rfl, hL, rfl, rfl⟩, fun v' hv => ?_, fun x hx => by cases hx⟩
    · rw [ht]; rfl
    · rw [ht]; rfl
    · cases hv
      show Steps p.tables e below _ (T'.setTop _)
      rw [← ht]
      exact hsteps
  | threw x =>
    obtain ⟨T', X', -, -, ht⟩ := X.outOfThrown hg hend hfe.1 hfe.2
    refine ⟨.threw x, ⟨T', Ls ++ L, c0 + mc, s0 + ms⟩, X', ⟨g, mk, s₂, L, ?_, ?_, hq1, rfl, hL, rfl, rfl⟩, (fun v' hv => by cases hv), fun x' hx => ?_⟩
    · rw [ht]; rfl
    · rw [ht]; rfl
    · cases hx
      show Steps p.tables e below _ ((T'.setTop g).pushFrame _)
      rw [← ht]
      exact hsteps
end EX1
section EX2
variable {p : Program} {l : Launch} {e : Env} {R : Room} {s : State} {m : MethodId} {args : Array Value} {below : List Frame} {meth : Method} {c : Code} {H : Heap} {locs : List Loc} {cells slots : Nat} {Q : State → Prop}
theorem ex_up {g : JFrame} {Qc : Array Value → State → Outcome → State → Prop} {a : Array Value} {mc ms : Nat} {free : Addr → Prop} (k : W p l e R s m args below meth c H locs cells slots (MQ below Qc a s mc ms free) g) : W p l e R s m args below meth c H locs cells slots (ex_MQ below Qc a s mc ms free) g := by
  intro T hT X
  obtain ⟨t, h1, o, h2, h3, h4, L, h5, h6⟩ := k T hT X
  exact ⟨t, h1, o, h2, h3, h4, L, ⟨h5.2.1, h5.2.2⟩, h6⟩
theorem ex_ofW {y : MethodName} {ws ws' : List Cond} {rm : Room} {Pc : Array Value → State → Prop} {Qc : Array Value → State → Outcome → State → Prop} {mc ms : Nat} {free : Addr → Prop} {cc : ByteArray} {maxL : Nat} {ret : Option FieldType}
    (hy : plainName y.cls = true) (hw : ws = Cond.code y cc maxL ret :: ws')
    (body : ∀ p e s m args below meth c s₁, BodyLoose p l y (headSpec ws rm) cc maxL ret e s m args below meth c s₁ → c.maxLocals = maxL → c.exceptionTable.toList = [] → Pc args s →
      W p l e (headSpec ws rm).room s m args below meth c s.heap [] 0 0 (ex_MQ below Qc args s mc ms free) (entryFrame m args maxL)) : ex_Met l y ws rm Pc Qc mc ms free := by
  refine MetFree.of_bodyS (code := cc) (maxLocals := maxL) (ret := ret) hy ?_ ?_
  · intro args s m h hn
    obtain ⟨meth, c, h1, h2, h3, h4, h5, h6, -, -⟩ := Cond.code_spec hn (atoms_spec (ws := ws) h _ (by rw [hw]; exact List.mem_cons_self))
    exact ⟨meth, c, h1, h2, h3, h4, h5, h6⟩
  · intro p e s m args below meth c s₁ B hml hP _
    have hh0 : s₁.heap = s.heap := by rw [B.state]; rfl
    have hE : c.exceptionTable.isEmpty = true := B.noHandlers (atoms_spec (ws := ws) B.pre _ (by rw [hw]; exact List.mem_cons_self))
    have h0 : c.exceptionTable.size = 0 := by simpa [Array.isEmpty] using hE
    obtain ⟨t, a1, o, b1, b2, b3⟩ := body p e s m args below meth c s₁ B hml (List.eq_nil_of_length_eq_zero (by simpa using h0)) hP s₁ hh0 (Stand.of_body B)
    exact ⟨t, o, a1, b1, b2, ⟨b3.1, b3.2⟩⟩
theorem ex_ofWW {y : MethodName} {ws ws' : List Cond} {rm : Room} {Pc : Array Value → State → Prop} {Qc : Array Value → State → Outcome → State → Prop} {mc ms : Nat} {free : Addr → Prop} {cc : ByteArray} {maxL : Nat} {ret : Option FieldType} {hh : List (Nat × Nat × Nat × Nat)}
    (hy : plainName y.cls = true) (hw : ws = Cond.codeWith y cc maxL ret hh :: ws')
    (body : ∀ p e s m args below meth c s₁, BodyLoose p l y (headSpec ws rm) cc maxL ret e s m args below meth c s₁ → c.maxLocals = maxL → c.exceptionTable.toList.map (fun h => (h.startPc, h.endPc, h.handlerPc, h.catchType)) = hh → Pc args s →
      W p l e (headSpec ws rm).room s m args below meth c s.heap [] 0 0 (ex_MQ below Qc args s mc ms free) (entryFrame m args maxL)) : ex_Met l y ws rm Pc Qc mc ms free := by
  refine MetFree.of_bodyS (code := cc) (maxLocals := maxL) (ret := ret) hy ?_ ?_
  · intro args s m h hn
    obtain ⟨m9, meth, c, hn9, h1, h2, h3, h4, -, h5, h6, -⟩ := Cond.codeWith_spec (atoms_spec (ws := ws) h _ (by rw [hw]; exact List.mem_cons_self))
    cases hn.symm.trans hn9
    exact ⟨meth, c, h1, h2, h3, h4, h5, h6⟩
  · intro p e s m args below meth c s₁ B hml hP _
    have hh0 : s₁.heap = s.heap := by rw [B.state]; rfl
    obtain ⟨m9, meth9, c9, hn9, h1, h2, -, -, h5, -⟩ := Cond.codeWith_spec (atoms_spec (ws := ws) B.pre _ (by rw [hw]; exact List.mem_cons_self))
    cases B.named.symm.trans hn9
    cases B.method.symm.trans h1
    cases (Stand.of_body B).code.symm.trans h2
    obtain ⟨t, a1, o, b1, b2, b3⟩ := body p e s m args below meth c s₁ B hml h5 hP s₁ hh0 (Stand.of_body B)
    exact ⟨t, o, a1, b1, b2, ⟨b3.1, b3.2⟩⟩
/-- the machine with the note 'x is being thrown' over the frame g comes to a state with Q -/
def WT (p : Program) (l : Launch) (e : Env) (R : Room) (s : State) (m : MethodId) (args : Array Value) (below : List Frame) (meth : Method) (c : Code) (H : Heap) (locs : List Loc) (cells slots : Nat) (Q : State → Prop) (g : JFrame) (x : Addr) : Prop :=
  ∀ T : State, T.heap = H → Stand p l e R s m args below meth c T locs cells slots → ∃ t, Steps p.tables e below ((T.setTop g).pushFrame (.throwing x)) t ∧ Q t
theorem WT.widen {g : JFrame} {x : Addr} {k n : Nat} (h1 : cells ≤ k) (h2 : slots ≤ n) (kk : WT p l e R s m args below meth c H locs k n Q g x) : WT p l e R s m args below meth c H locs cells slots Q g x := fun T hT X => kk T hT (stand_widen X h1 h2)
/-- out of the method -/
theorem WT.out {Qc : Array Value → State → Outcome → State → Prop} {free : Addr → Prop} {x : Addr} {pc : Nat} {ls : Array Slot} {st : List Value} (hlocks : meth.locks = false) (hE : c.exceptionTable.toList = [])
    (hq : ∀ t : State, t.heap = H → s.WarmedH t.vm → Qc args s (.threw x) t) (hf : ∀ q ∈ locs, free q.base) : WT p l e R s m args below meth c H locs cells slots (ex_MQ below Qc args s cells slots free) (F0 m pc ls st) x := by
  intro T hT X
  obtain ⟨h1, h2, h3, h4, h5⟩ := X.leaveThrown x (g := F0 m pc ls st) rfl rfl rfl (fun y hy => by rw [hE] at hy; cases hy) (hlocks := hlocks)
  exact ⟨_, h1, .threw x, h2, h3, hq _ hT h4, locs, ⟨h4, h5⟩, hf⟩
/-- a call: it comes back, or throws -/
def ex_Run (p : Program) (l : Launch) (e : Env) (R : Room) (s : State) (m : MethodId) (args : Array Value) (below : List Frame) (meth : Method) (c : Code) (H : Heap) (locs : List Loc) (cells slots mc ms : Nat) (g : JFrame) (rest : List Value) (Qa : State → Outcome → State → Prop) (free : Addr → Prop) : Prop :=
  ∀ T : State, T.heap = H → Stand p l e R s m args below meth c T locs cells slots → ∃ (o : Outcome) (st₀ t T' : State) (L : List Loc), st₀.heap = H ∧ Stand p l e R s m args below meth c T' (locs ++ L) (cells + mc) (slots + ms) ∧ (∀ q ∈ L, free q.base) ∧ T'.heap = t.heap ∧ T'.vm = t.vm ∧ Qa st₀ o t ∧
    (∀ v, o = .returned v → Goes p e below T g T' { g with pc := g.pc + 3, stack := v.toList ++ rest }) ∧
    (∀ x, o = .threw x → ∀ tg, Steps p.tables e below ((T'.setTop { g with stack := rest }).pushFrame (.throwing x)) tg → Steps p.tables e below (T.setTop g) tg)
variable {y : MethodName} {cc : ByteArray} {maxL nL mc ms n index : Nat} {w0 : Cond} {rm : Room} {Pc : Array Value → State → Prop} {Qc : Array Value → State → Outcome → State → Prop} {free : Addr → Prop} {own C : String} {b : Addr} {As rest : List Value} {g : JFrame}
/-- what every call asks of the tables and of the room -/
abbrev ex_CB (R : Room) (s : State) (args : Array Value) (own : String) (index : Nat) (y : MethodName) (maxL : Nat) (w0 : Cond) (rm : Room) (mc ms n : Nat) : Prop :=
  rm.cells = mc ∧ rm.slots = ms ∧ rm.frames + 1 ≤ R.frames ∧ 8 + (maxL + 11) + rm.locals ≤ R.locals ∧ w0 ∈ lw_all ∧ ex_code s y maxL ∧ Cond.initialized y.cls ∈ lw_all ∧ (y.cls ≠ "java/lang/invoke/MethodHandle" ∧ y.cls ≠ "java/lang/invoke/VarHandle" ∧ (parseMethodDescriptor y.desc).map (fun d => d.parameters.length) = some n) ∧ Cond.methodLink own index y ∈ lw_all
theorem ex_bk (hts : ∀ w ∈ lw_all, w.before args s = true) (cb : ex_CB R s args own index y maxL w0 rm mc ms n) (hM : ex_Met l y (w0 :: lw_all) rm Pc Qc mc ms free) (hbl : FrameBlind Pc) : ex_Back l R p e below s args y 3 8 (PreOf R mc ms Pc) (ex_PostOf Qc mc ms free) := by
  obtain ⟨hrc, hrs, hfr, hlo, hw0, hcode, hini, -, -⟩ := cb
  refine ex_back_of hM hbl hrc hrs hfr hlo (fun w hw a' U hW => ?_) hcode (fun a' U hW => ex_wd hts hW hini)
  rcases List.mem_cons.mp hw with h | h
  · rw [h]; exact ex_wd hts hW hw0
  · exact ex_wd hts hW h
theorem ex_runV (hx : p.tables.exec = Jvm.exec) (hb : c.code = cc) (hml : c.maxLocals = nL) (ho : s.vm.findClass own = some m.cls) (hts : ∀ w ∈ lw_all, w.before args s = true) (hM : ex_Met l y (w0 :: lw_all) rm Pc Qc mc ms free) (cb : ex_CB R s args own index y maxL w0 rm mc ms n) (hin : Cond.instanceMethod y ∈ lw_all) (hse : Cond.selects C y y ∈ lw_all) (hp : PreV s H C b Pc As)
    (hg : g.method = m) (hn : As.length = n) (hsize : g.locals.size = nL) (hstack : g.stack = As.reverse ++ .ref b :: rest) (hW : 2 * g.monitorRoom + (rest.map fun v => v.category).sum ≤ 8) (hdg : decode cc g.pc = .ok (.invokevirtual index, 3)) (hf : cells + mc ≤ R.cells ∧ slots + ms ≤ R.slots) :
    ex_Run p l e R s m args below meth c H locs cells slots mc ms g rest (Qc (Value.ref b :: As).toArray) free := by
  have hK := ex_bk (p := p) (l := l) (e := e) (below := below) hts cb hM hp.1
  obtain ⟨-, -, -, -, -, hcode, -, hy, hl⟩ := cb
  obtain ⟨-, ⟨cellB, hcB, hoB, hclB⟩, hPc⟩ := hp
  intro T hT X
  have hy2 := And.intro hy.1 hy.2.1
  obtain ⟨mk, methM, hnamed, hmethM, hstM, habM⟩ := Cond.instanceMethod_spec (hts _ hin)
  obtain ⟨methM', cM, hmethM', -, -, hsigM⟩ := hcode s mk (State.WarmedH.refl s) hnamed
  cases hmethM.symm.trans hmethM'
  obtain ⟨c2, r2, m2, q1, q2, q3, q4, kP, hkP, hkPi⟩ := Cond.selects_spec (hts _ hse)
  cases hclB.symm.trans q1
  cases (State.methodFound?_of_named hnamed hy2).symm.trans q2
  cases hnamed.symm.trans q3
  have hselP : selectMethod e.platform s.vm cellB.cls mk = .method mk := by rw [Launch.admits_selectMethod X.admits]; exact q4
  have hlen : As.length = methM.sig.parameters.length := by
    have h2 := hy.2.2
    rw [hsigM] at h2
    rw [hn]
    exact (Option.some.inj h2).symm
  obtain ⟨vm₁, X₁, hstep₁⟩ := X.invokevirtual hx ho (hts _ hl) hnamed hmethM hstM hkP hkPi hy2 (a := b) (cell := cellB) (by rw [hT]; exact hcB)
    (fun z h => by rw [h] at hoB; cases hoB) hselP hmethM habM hkP hkPi (g := g) hg (argsL := As) (rest := rest) hlen hstack (by rw [hb]; exact hdg)
  obtain ⟨o, B, X', ⟨g', mk', t, L, e1, e2, hq, h1, hL, h2, h3⟩, hs1, hs2⟩ := hK m meth c ⟨T.setVm vm₁, locs, cells, slots⟩ { g with stack := rest } (.invokevirtual index) mk (Value.ref b :: As).toArray X₁ hg (hsize.trans hml.symm) (by rw [hb]; exact hdg) hW (X₁.named hnamed) ⟨hf.1, hf.2, hPc (T.setVm vm₁) hT X₁.warmed⟩
  obtain ⟨U', l2, c2', s2⟩ := B
  dsimp only [Pt.U, Pt.locs, Pt.cells, Pt.slots] at X' e1 e2 h1 h2 h3 hs1 hs2
  subst h1; subst h2; subst h3
  refine ⟨o, (T.setVm vm₁).calling g' mk' (Value.ref b :: As).toArray, t, U', L, hT, X', hL, e1, e2, hq, fun v hv target h => hstep₁ _ fun acts => ?_, fun x hx' target h => hstep₁ _ fun acts => ?_⟩
  · rw [doInvoke_state]; exact (hs1 v hv).trans h
  · rw [doInvoke_state]; exact (hs2 x hx').trans h
theorem ex_runS (hx : p.tables.exec = Jvm.exec) (hb : c.code = cc) (hml : c.maxLocals = nL) (ho : s.vm.findClass own = some m.cls) (hts : ∀ w ∈ lw_all, w.before args s = true) (hM : ex_Met l y (w0 :: lw_all) rm Pc Qc mc ms free) (cb : ex_CB R s args own index y maxL w0 rm mc ms n) (hst : Cond.static y ∈ lw_all) (hp : PreS s H Pc As)
    (hg : g.method = m) (hn : As.length = n) (hsize : g.locals.size = nL) (hstack : g.stack = As.reverse ++ rest) (hW : 2 * g.monitorRoom + (rest.map fun v => v.category).sum ≤ 8) (hdg : decode cc g.pc = .ok (.invokestatic index, 3)) (hf : cells + mc ≤ R.cells ∧ slots + ms ≤ R.slots) (hnm : ∃ mk, s.methodNamed? y = some mk) :
    ex_Run p l e R s m args below meth c H locs cells slots mc ms g rest (Qc As.toArray) free := by
  have hK := ex_bk (p := p) (l := l) (e := e) (below := below) hts cb hM hp.1
  obtain ⟨-, -, -, -, -, hcode, hini, hy, hl⟩ := cb
  intro T hT X
  have hy2 := And.intro hy.1 hy.2.1
  obtain ⟨mk, hnamed⟩ := hnm
  obtain ⟨methM, cM, hmethM, -, -, hsigM⟩ := hcode s mk (State.WarmedH.refl s) hnamed
  have hstatic : methM.isStatic = true := Cond.static_spec hnamed hmethM (hts _ hst)
  obtain ⟨kP, hkP, -⟩ := className_of_methodNamed hnamed
  have hinitP : kP.init = .initialized := Cond.initialized_spec (findClass_of_methodNamed hnamed) hkP (hts _ hini)
  have hlen : As.length = methM.sig.parameters.length := by
    have h2 := hy.2.2
    rw [hsigM] at h2
    rw [hn]
    exact (Option.some.inj h2).symm
  obtain ⟨vm₁, X₁, hstep₁⟩ := X.invokestatic hx ho (hts _ hl) hnamed hmethM hstatic hkP hinitP hy2 (g := g) hg (argsL := As) (rest := rest) hlen hstack (by rw [hb]; exact hdg)
  obtain ⟨o, B, X', ⟨g', mk', t, L, e1, e2, hq, h1, hL, h2, h3⟩, hs1, hs2⟩ := hK m meth c ⟨T.setVm vm₁, locs, cells, slots⟩ { g with stack := rest } (.invokestatic index) mk As.toArray X₁ hg (hsize.trans hml.symm) (by rw [hb]; exact hdg) hW (X₁.named hnamed) ⟨hf.1, hf.2, hp.2 (T.setVm vm₁) hT X₁.warmed⟩
  obtain ⟨U', l2, c2', s2⟩ := B
  dsimp only [Pt.U, Pt.locs, Pt.cells, Pt.slots] at X' e1 e2 h1 h2 h3 hs1 hs2
  subst h1; subst h2; subst h3
  refine ⟨o, (T.setVm vm₁).calling g' mk' As.toArray, t, U', L, hT, X', hL, e1, e2, hq, fun v hv target h => hstep₁ _ fun acts => ?_, fun x hx' target h => hstep₁ _ fun acts => ?_⟩
  · rw [doInvoke_state]; exact (hs1 v hv).trans h
  · rw [doInvoke_state]; exact (hs2 x hx').trans h
end EX2
theorem ex_named {args : Array Value} {s : State} {y : MethodName} {b : ByteArray} {maxL : Nat} {ret : Option FieldType} (h : (Cond.code y b maxL ret).before args s = true) : ∃ mk, s.methodNamed? y = some mk := Cond.code_named h
theorem ex_namedW {args : Array Value} {s : State} {y : MethodName} {b : ByteArray} {maxL : Nat} {ret : Option FieldType} {hh : List (Nat × Nat × Nat × Nat)} (h : (Cond.codeWith y b maxL ret hh).before args s = true) : ∃ mk, s.methodNamed? y = some mk := by
  obtain ⟨m9, -, -, h0, -⟩ := Cond.codeWith_spec h
  exact ⟨m9, h0⟩
