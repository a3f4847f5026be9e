/-! CONTRACTS OF THE SYSTEM'S METHODS -/
abbrev xx_rm (d mc ms : Nat) : Room := { frames := d, cells := mc, slots := ms, locals := 60 * d }
def xm_v (j : Nat) : Int32 := ([100, 1000, 0, 100] : List Int32).getD j 0
/-- Reader.MOST -/
def xm (A : Nat → Prop) (U : State) (H : Heap) : Prop := ∃ mo : Nat, va_Z RX2 "MOST" "[I" (.ref mo) A U H ∧ va_T .int mo 4 (fun j => .int (xm_v j)) A U H
/-- what stands around the system's world: the exceptions' tables and statics, the words' texts, MOST -/
def xc (A : Nat → Prop) (wk wv : Nat → Nat) (U : State) (H : Heap) : Prop := ex_K U ∧ ex_Z A U H ∧ kc_S wk wv A U H ∧ xm A U H
theorem xc.go {A : Nat → Prop} {wk wv : Nat → Nat} {u U : State} {H : Heap} (h : xc A wk wv u H) (hK : ex_K U) (hvm : u.vm.Alike U.vm) : xc A wk wv U H :=
  ⟨hK, ⟨h.2.1.1.moved hvm, h.2.1.2.moved hvm⟩, fun i hi => (h.2.2.1 i hi).moved hvm, let ⟨mo, h1, h2⟩ := h.2.2.2; ⟨mo, h1.moved hvm, h2.moved hvm⟩⟩
theorem xc.kept {A : Nat → Prop} {wk wv : Nat → Nat} {U : State} {H H1 : Heap} (h : xc A wk wv U H) (hq : ∀ a : Nat, a < H.size → ¬ A a → H1[a]? = H[a]?) : xc A wk wv U H1 :=
  ⟨h.1, ⟨h.2.1.1.kept hq, h.2.1.2.kept hq⟩, fun i hi => (h.2.2.1 i hi).kept hq, let ⟨mo, h1, h2⟩ := h.2.2.2; ⟨mo, h1.kept hq, h2.kept hq⟩⟩
theorem xc.narrow {A B : Nat → Prop} {wk wv : Nat → Nat} {U : State} {H : Heap} (h : xc A wk wv U H) (hAB : ∀ q, B q → A q) : xc B wk wv U H :=
  ⟨h.1, ⟨h.2.1.1.narrow hAB, h.2.1.2.narrow hAB⟩, fun i hi => (h.2.2.1 i hi).narrow hAB, let ⟨mo, h1, h2⟩ := h.2.2.2; ⟨mo, h1.narrow hAB, h2.narrow hAB⟩⟩
theorem xc.at {A : Nat → Prop} {wk wv : Nat → Nat} {s U : State} {H : Heap} {locs : List Loc} (h : xc A wk wv s s.heap) (hW : s.WarmedH U.vm) (hS : va_S A s.heap H locs) (hU : U.heap = H) : xc A wk wv U U.heap := by
  rw [hU]
  exact (h.kept hS.2.1).go (h.1.warm hW) hW.alike
def xx_B (G : gw_G) (ad wk : Nat → Nat) (σ : xS) (U : State) : Prop := gw_P G ad (xx_w G ad wk σ) U.heap ∧ gw_D (fun _ => True) ad (xx_w G ad wk σ) ∧ gw_K G U
def xx_U (G : gw_G) (A : Nat → Prop) (ad wk : Nat → Nat) (σ : xS) (U : State) : Prop := gw_P G ad (xx_w G ad wk σ) U.heap ∧ gw_D A ad (xx_w G ad wk σ) ∧ gw_K G U
def xx_UU (G : gw_G) (A : Nat → Prop) (ad wk wv : Nat → Nat) (σ : xS) (U : State) : Prop := xx_U G A ad wk σ U ∧ xc A wk wv U U.heap ∧ ∀ q, U.heap.size ≤ q → A q
def xx_Q (post : Option Value → xS → Prop) (thr : Nat → xS → Prop) (G : gw_G) (A : Nat → Prop) (ad wk : Nat → Nat) (σ : xS) : Array Value → State → Outcome → State → Prop := fun _ st oc t =>
  (∃ (u : xS) (ad' : Nat → Nat), (∀ i x, xx_w G ad wk σ i = some x → ad' i = ad i) ∧ xx_U G A ad' wk u t ∧ ((∃ v, oc = .returned v ∧ post v u) ∨ (∃ a k, oc = .threw a ∧ thr k u ∧ ex_Is (ex_X k) a t ∧ (k = 6 → a = ad' 2)))) ∧ va_F A st t
def xt_Q (k : Nat) : Array Value → State → Outcome → State → Prop := fun _ st oc t => ∃ a, oc = .threw a ∧ st.heap.size ≤ t.heap.size ∧ (∀ q : Nat, q < st.heap.size → t.heap[q]? = st.heap[q]?) ∧ ex_Is (ex_X k) a t
/-- a method that may change the system's state, make cells, throw -/
def xx_C (l : Launch) (y : MethodName) (w0 : Cond) (d mc ms : Nat) (av : (Nat → Nat) → List Value) (σ : xS) (post : Option Value → xS → Prop) (thr : Nat → xS → Prop) : Prop :=
  ∀ (G : gw_G) (A : Nat → Prop) (ad wk wv : Nat → Nat), ex_Met l y (w0 :: lw_all) (xx_rm d mc ms) (va_Pc (av ad) (xx_UU G A ad wk wv σ)) (xx_Q post thr G A ad wk σ) mc ms A
/-- a method that throws, and has done nothing else -/
def xt_C (l : Launch) (y : MethodName) (w0 : Cond) (d : Nat) (av : (Nat → Nat) → List Value) (σ : xS) (k : Nat) : Prop :=
  ∀ (G : gw_G) (A : Nat → Prop) (ad wk wv : Nat → Nat), ex_Met l y (w0 :: lw_all) (xx_rm d 1 6) (va_Pc (av ad) (xx_UU G A ad wk wv σ)) (xt_Q k) 1 6 (fun _ => False)
/-- a method that reads the system's state -/
def xr_C (l : Launch) (y : MethodName) (b : ByteArray) (L : Nat) (ret : Option FieldType) (d : Nat) (av : (Nat → Nat) → List Value) (σ : xS) (Post : Int32 → Prop) : Prop :=
  ∀ (G : gw_G) (ad wk : Nat → Nat), tk_Ci l y b L ret d (av ad) (xx_B G ad wk σ) Post
def xr_Qr (v : Value) : Array Value → State → Outcome → State → Prop := fun _ st oc t => oc = .returned (some v) ∧ t.heap = st.heap
def xr_Cr (l : Launch) (y : MethodName) (b : ByteArray) (L : Nat) (ret : Option FieldType) (d : Nat) (av : (Nat → Nat) → List Value) (σ : xS) (v : (Nat → Nat) → Value) : Prop :=
  ∀ (G : gw_G) (ad wk : Nat → Nat), Met l y (ws_ y b L ret) (mm_rm d) (va_Pc (av ad) (xx_B G ad wk σ)) (xr_Qr (v ad)) 0 0 (fun _ => False)
theorem xx_blindB {G : gw_G} {ad wk : Nat → Nat} {σ : xS} {av : List Value} : FrameBlind (va_Pc av (xx_B G ad wk σ)) := by
  rintro a U g mk ⟨h0, h1, h2, h3⟩
  exact ⟨h0, h1, h2, gw_K.same (s := U) (U := U.calling g mk a) rfl h3⟩
theorem xx_blind {G : gw_G} {A : Nat → Prop} {ad wk wv : Nat → Nat} {σ : xS} {av : List Value} : FrameBlind (va_Pc av (xx_UU G A ad wk wv σ)) := by
  rintro a U g mk ⟨h0, ⟨h1, h2, h3⟩, h4, h5⟩
  exact ⟨h0, ⟨h1, h2, gw_K.same (s := U) (U := U.calling g mk a) rfl h3⟩, xc.go (u := U) (U := U.calling g mk a) h4 (ex_K.same (s := U) (U := U.calling g mk a) rfl h4.1) (Vm.Alike.refl U.vm), h5⟩
theorem gw_D.all {A : Nat → Prop} {ad : Nat → Nat} {w : gw_W} (h : gw_D A ad w) : gw_D (fun _ => True) ad w := ⟨h.1, fun i x hx => ⟨(h.2 i x hx).1, trivial⟩⟩
def gx_Y (own : String) (cc : ByteArray) (nL : Nat) (ret : Option FieldType) (G : gw_G) (A : Nat → Prop) (wk wv : Nat → Nat) (p : Program) (s : State) (m : MethodId) (args : Array Value) (meth : Method) (c : Code) : Prop :=
  p.tables.exec = Jvm.exec ∧ c.code = cc ∧ c.maxLocals = nL ∧ gw_T own G s m args ∧ meth.sig.returnType = ret ∧ meth.locks = false ∧ xc A wk wv s s.heap ∧ ∀ q, s.heap.size ≤ q → A q
/-- a reader's world -/
abbrev xr_H (G : gw_G) (ad wk : Nat → Nat) (σ : xS) (H : Heap) : Prop := gw_P G ad (xx_w G ad wk σ) H ∧ gw_D (fun _ => True) ad (xx_w G ad wk σ) ∧ True
abbrev xx_H (G : gw_G) (A : Nat → Prop) (H0 H : Heap) (locs : List Loc) (ad wk : Nat → Nat) (σ : xS) : Prop := gw_H G A H0 H locs ad (xx_w G ad wk σ)
section XO
variable {l : Launch} {y : MethodName} {b : ByteArray} {L d mc ms : Nat} {ret : Option FieldType} {av : (Nat → Nat) → List Value} {σ : xS}
theorem xx_of {post : Option Value → xS → Prop} {thr : Nat → xS → Prop} (hy : plainName y.cls = true) (hL : ∀ ad, (lg_sl (av ad)).length ≤ L)
    (body : ∀ (p : Program) (e : Env) (s : State) (m : MethodId) (args : Array Value) (below : List Frame) (meth : Method) (c : Code) (G : gw_G) (A : Nat → Prop) (ad wk wv : Nat → Nat) (ls : Array Slot), gx_Y y.cls b L ret G A wk wv p s m args meth c → c.exceptionTable.toList = [] → xx_H G A s.heap s.heap [] ad wk σ → lv_has ls L (lv_args 0 (av ad)) →
      W p l e (xx_rm d mc ms) s m args below meth c s.heap [] 0 0 (ex_MQ below (xx_Q post thr G A ad wk σ) args s mc ms A) (F0 m 0 ls [])) : xx_C l y (Cond.code y b L ret) d mc ms av σ post thr := by
  intro G A ad wk wv
  refine ex_ofW (cc := b) (maxL := L) (ret := ret) hy rfl ?_
  intro p e s m args below meth c s₁ B hml hE hv
  obtain ⟨rfl, ⟨hP, hD, hK⟩, hX, hA⟩ := hv
  have hts := atoms_spec (ws := ws_ y b L ret) B.pre
  have hl := lv_entry (av ad) (n := L) (hL ad)
  rw [lg_entry_eq]
  exact body p e s m _ below meth c G A ad wk wv _ ⟨B.exec, B.bytes, hml, ⟨findClass_of_methodNamed B.named, fun w h => hts w (List.mem_cons_of_mem _ h), hK⟩, B.returns, B.notSynchronized, hX, hA⟩ hE ⟨hP, hD, va_S.rf⟩ hl
theorem xx_ofW {hh : List (Nat × Nat × Nat × Nat)} {post : Option Value → xS → Prop} {thr : Nat → xS → Prop} (hy : plainName y.cls = true) (hL : ∀ ad, (lg_sl (av ad)).length ≤ L)
    (body : ∀ (p : Program) (e : Env) (s : State) (m : MethodId) (args : Array Value) (below : List Frame) (meth : Method) (c : Code) (G : gw_G) (A : Nat → Prop) (ad wk wv : Nat → Nat) (ls : Array Slot), gx_Y y.cls b L ret G A wk wv p s m args meth c → c.exceptionTable.toList.map (fun h => (h.startPc, h.endPc, h.handlerPc, h.catchType)) = hh → xx_H G A s.heap s.heap [] ad wk σ → lv_has ls L (lv_args 0 (av ad)) →
      W p l e (xx_rm d mc ms) s m args below meth c s.heap [] 0 0 (ex_MQ below (xx_Q post thr G A ad wk σ) args s mc ms A) (F0 m 0 ls [])) : xx_C l y (Cond.codeWith y b L ret hh) d mc ms av σ post thr := by
  intro G A ad wk wv
  refine ex_ofWW (cc := b) (maxL := L) (ret := ret) (hh := hh) hy rfl ?_
  intro p e s m args below meth c s₁ B hml hE hv
  obtain ⟨rfl, ⟨hP, hD, hK⟩, hX, hA⟩ := hv
  have hts := atoms_spec (ws := wsW_ y b L ret hh) B.pre
  have hl := lv_entry (av ad) (n := L) (hL ad)
  rw [lg_entry_eq]
  exact body p e s m _ below meth c G A ad wk wv _ ⟨B.exec, B.bytes, hml, ⟨findClass_of_methodNamed B.named, fun w h => hts w (List.mem_cons_of_mem _ h), hK⟩, B.returns, B.notSynchronized, hX, hA⟩ hE ⟨hP, hD, va_S.rf⟩ hl
theorem xt_of {k : Nat} (hy : plainName y.cls = true) (hL : ∀ ad, (lg_sl (av ad)).length ≤ L)
    (body : ∀ (p : Program) (e : Env) (s : State) (m : MethodId) (args : Array Value) (below : List Frame) (meth : Method) (c : Code) (G : gw_G) (A : Nat → Prop) (ad wk wv : Nat → Nat) (ls : Array Slot), gx_Y y.cls b L ret G A wk wv p s m args meth c → c.exceptionTable.toList = [] → xx_H G A s.heap s.heap [] ad wk σ → lv_has ls L (lv_args 0 (av ad)) →
      W p l e (xx_rm d 1 6) s m args below meth c s.heap [] 0 0 (ex_MQ below (xt_Q k) args s 1 6 (fun _ => False)) (F0 m 0 ls [])) : xt_C l y (Cond.code y b L ret) d av σ k := by
  intro G A ad wk wv
  refine ex_ofW (cc := b) (maxL := L) (ret := ret) hy rfl ?_
  intro p e s m args below meth c s₁ B hml hE hv
  obtain ⟨rfl, ⟨hP, hD, hK⟩, hX, hA⟩ := hv
  have hts := atoms_spec (ws := ws_ y b L ret) B.pre
  have hl := lv_entry (av ad) (n := L) (hL ad)
  rw [lg_entry_eq]
  exact body p e s m _ below meth c G A ad wk wv _ ⟨B.exec, B.bytes, hml, ⟨findClass_of_methodNamed B.named, fun w h => hts w (List.mem_cons_of_mem _ h), hK⟩, B.returns, B.notSynchronized, hX, hA⟩ hE ⟨hP, hD, va_S.rf⟩ hl
theorem xr_ofi {Post : Int32 → Prop} (hy : plainName y.cls = true) (hL : ∀ ad, (lg_sl (av ad)).length ≤ L)
    (body : ∀ (p : Program) (e : Env) (s : State) (m : MethodId) (args : Array Value) (below : List Frame) (meth : Method) (c : Code) (G : gw_G) (ad wk : Nat → Nat) (ls : Array Slot), gx_X y.cls b L ret G p s m args meth c → xr_H G ad wk σ s.heap → lv_has ls L (lv_args 0 (av ad)) →
      W p l e (mm_rm d) s m args below meth c s.heap [] 0 0 (MQ below (vp_Si Post) args s 0 0 (fun _ => False)) (F0 m 0 ls [])) : xr_C l y b L ret d av σ Post := by
  intro G ad wk
  refine Met.ofW (cc := b) (maxL := L) (ret := ret) hy rfl ?_
  intro p e s m args below meth c s₁ B hml hv
  obtain ⟨rfl, hP, hD, hK⟩ := hv
  have hts := atoms_spec (ws := ws_ y b L ret) B.pre
  have hl := lv_entry (av ad) (n := L) (hL ad)
  rw [lg_entry_eq]
  exact body p e s m _ below meth c G ad wk _ ⟨B.exec, B.bytes, hml, ⟨findClass_of_methodNamed B.named, fun w h => hts w (List.mem_cons_of_mem _ h), hK⟩, B.returns, B.notSynchronized⟩ ⟨hP, hD, trivial⟩ hl
theorem xr_ofr {v : (Nat → Nat) → Value} (hy : plainName y.cls = true) (hL : ∀ ad, (lg_sl (av ad)).length ≤ L)
    (body : ∀ (p : Program) (e : Env) (s : State) (m : MethodId) (args : Array Value) (below : List Frame) (meth : Method) (c : Code) (G : gw_G) (ad wk : Nat → Nat) (ls : Array Slot), gx_X y.cls b L ret G p s m args meth c → xr_H G ad wk σ s.heap → lv_has ls L (lv_args 0 (av ad)) →
      W p l e (mm_rm d) s m args below meth c s.heap [] 0 0 (MQ below (xr_Qr (v ad)) args s 0 0 (fun _ => False)) (F0 m 0 ls [])) : xr_Cr l y b L ret d av σ v := by
  intro G ad wk
  refine Met.ofW (cc := b) (maxL := L) (ret := ret) hy rfl ?_
  intro p e s m args below meth c s₁ B hml hv
  obtain ⟨rfl, hP, hD, hK⟩ := hv
  have hts := atoms_spec (ws := ws_ y b L ret) B.pre
  have hl := lv_entry (av ad) (n := L) (hL ad)
  rw [lg_entry_eq]
  exact body p e s m _ below meth c G ad wk _ ⟨B.exec, B.bytes, hml, ⟨findClass_of_methodNamed B.named, fun w h => hts w (List.mem_cons_of_mem _ h), hK⟩, B.returns, B.notSynchronized⟩ ⟨hP, hD, trivial⟩ hl
end XO
section XC
variable {p : Program} {l : Launch} {e : Env} {R : Room} {s : State} {m : MethodId} {args : Array Value} {below : List Frame} {meth : Method} {c : Code} {H : Heap} {locs : List Loc} {cells slots : Nat} {Q : State → Prop}
variable {cc : ByteArray} {pc nL : Nat} {ls : Array Slot} {rest st : List Value} {G : gw_G} {A : Nat → Prop} {ad ad0 wk wv : Nat → Nat} {σ u : xS} {y : MethodName} {b : ByteArray} {L d idx n mc ms : Nat} {ret : Option FieldType} {own : String} {ty : FieldType} {as : List Value} {w0 : Cond}
/-! ends -/
theorem xx_ri {post : Option Value → xS → Prop} {thr : Nat → xS → Prop} (hx : p.tables.exec = Jvm.exec) (hb : c.code = cc) (hr : meth.sig.returnType = some ty) (hlocks : meth.locks = false) (hT : gw_T own G s m args) (hH : xx_H G A s.heap H locs ad wk u) (hext : ∀ i x, xx_w G ad0 wk σ i = some x → ad i = ad0 i) {v : Int32} (hn : narrow ty (.int v) = .int v) (hd : decode cc pc = .ok (.ireturn, 1)) (hp : post (some (.int v)) u) (h1 : cells ≤ mc) (h2 : slots ≤ ms) :
    W p l e R s m args below meth c H locs cells slots (ex_MQ below (xx_Q post thr G A ad0 wk σ) args s mc ms A) (F0 m pc ls [.int v]) :=
  W.widen h1 h2 (ex_up (W.zret hx hb hr hn (fun t ht hW => ⟨⟨u, ad, hext, ⟨by rw [ht]; exact hH.1, hH.2.1, hT.2.2.warm hW⟩, Or.inl ⟨_, rfl, hp⟩⟩, hH.2.2.F ht⟩) hH.2.2.2.2 hd))
theorem xx_rv {post : Option Value → xS → Prop} {thr : Nat → xS → Prop} (hx : p.tables.exec = Jvm.exec) (hb : c.code = cc) (hr : meth.sig.returnType = none) (hlocks : meth.locks = false) (hT : gw_T own G s m args) (hH : xx_H G A s.heap H locs ad wk u) (hext : ∀ i x, xx_w G ad0 wk σ i = some x → ad i = ad0 i) (hd : decode cc pc = .ok (.return_, 1)) (hp : post none u) (h1 : cells ≤ mc) (h2 : slots ≤ ms) :
    W p l e R s m args below meth c H locs cells slots (ex_MQ below (xx_Q post thr G A ad0 wk σ) args s mc ms A) (F0 m pc ls []) :=
  W.widen h1 h2 (ex_up (W.vret hx hb hr (fun t ht hW => ⟨⟨u, ad, hext, ⟨by rw [ht]; exact hH.1, hH.2.1, hT.2.2.warm hW⟩, Or.inl ⟨_, rfl, hp⟩⟩, hH.2.2.F ht⟩) hH.2.2.2.2 hd))
theorem xr_rr {v : Value} {C : String} (hx : p.tables.exec = Jvm.exec) (hb : c.code = cc) (hr : meth.sig.returnType = some (.object C)) (hlocks : meth.locks = false) {a : Nat} (hv : v = .ref a) (hd : decode cc pc = .ok (.areturn, 1)) :
    W p l e R s m args below meth c s.heap [] 0 0 (MQ below (xr_Qr v) args s 0 0 (fun _ => False)) (F0 m pc ls [.ref a]) := by
  subst hv
  exact W.aret hx hb hr (Or.inl ⟨_, rfl⟩) (Or.inr ⟨_, rfl⟩) (fun t ht hW => ⟨rfl, ht⟩) (fun q h => by cases h) hd
/-- a thrown end, the world as it was at H -/
theorem xx_tq {post : Option Value → xS → Prop} {thr : Nat → xS → Prop} (hT : gw_T own G s m args) (hH : xx_H G A s.heap H locs ad wk u) (hext : ∀ i x, xx_w G ad0 wk σ i = some x → ad i = ad0 i) {k : Nat} (hk : k ≠ 6) (hthr : thr k u) (t : State) (a : Nat) (h1 : H.size ≤ t.heap.size) (h2 : ∀ q : Nat, q < H.size → t.heap[q]? = H[q]?) (hW : s.WarmedH t.vm) (hI : ex_Is (ex_X k) a t) : xx_Q post thr G A ad0 wk σ args s (.threw a) t :=
  ⟨⟨u, ad, hext, ⟨fun i x hx => (hH.1 i x hx).kept (h2 _ (hH.1 i x hx).lt), hH.2.1, hT.2.2.warm hW⟩, Or.inr ⟨a, k, rfl, hthr, hI, fun e => absurd e hk⟩⟩, Nat.le_trans hH.2.2.1 h1, fun q hq hA => (h2 q (Nat.lt_of_lt_of_le hq hH.2.2.1)).trans (hH.2.2.2.1 q hq hA)⟩
theorem xt_tq {k : Nat} (t : State) (a : Nat) (h1 : s.heap.size ≤ t.heap.size) (h2 : ∀ q : Nat, q < s.heap.size → t.heap[q]? = s.heap[q]?) (hW : s.WarmedH t.vm) (hI : ex_Is (ex_X k) a t) : xt_Q k args s (.threw a) t := ⟨a, rfl, h1, h2, hI⟩
/-! calls -/
theorem xt_call {Qc : Array Value → State → Outcome → State → Prop} {free : Addr → Prop} {k : Nat} {a0 : Array Value} (hr : ex_Run p l e R s m args below meth c H locs cells slots 1 6 (F0 m pc ls st) rest (xt_Q k a0) (fun _ => False)) (hlocks : meth.locks = false) (hE : c.exceptionTable.toList = [])
    (hq : ∀ (t : State) (a : Nat), H.size ≤ t.heap.size → (∀ q : Nat, q < H.size → t.heap[q]? = H[q]?) → s.WarmedH t.vm → ex_Is (ex_X k) a t → Qc args s (.threw a) t) (hf : ∀ q ∈ locs, free q.base) (h1 : cells + 1 ≤ mc) (h2 : slots + 6 ≤ ms) : W p l e R s m args below meth c H locs cells slots (ex_MQ below Qc args s mc ms free) (F0 m pc ls st) := by
  intro T hT X
  obtain ⟨o, st₀, t, T', L, h0, X', hL, e1, e2, ⟨a, ho, g1, g2, cell, g3, g4, g5⟩, -, ht⟩ := hr T hT X
  subst ho
  rw [h0] at g1 g2
  have X2 := Stand.forget X' (fun q h => (hL q h).elim)
  have key : WT p l e R s m args below meth c t.heap locs (cells + 1) (slots + 6) (ex_MQ below Qc args s mc ms free) (F0 m pc ls rest) a :=
    WT.widen h1 h2 (WT.out hlocks hE (fun t' ht' hW' => hq t' a (by rw [ht']; exact g1) (fun q h => by rw [ht']; exact g2 q h) hW' ⟨cell, by rw [ht']; exact g3, g4, by
      rw [hW'.alike.findClass, ← X'.warmed.alike.findClass, e2]
      exact g5⟩) hf)
  obtain ⟨t2, s1, q1⟩ := key T' e1 X2
  exact ⟨t2, ht a rfl t2 s1, q1⟩
/-- an object of the class C, by the tables of the start -/
def ex_IsS (C : String) (a : Nat) (s : State) (H : Heap) : Prop := ∃ cell : Cell, H[a]? = some cell ∧ cell.vm.isStatics = false ∧ s.vm.findClass C = some cell.cls
theorem xx_callG {A0 : Nat → Prop} {H0 : Heap} {post : Option Value → xS → Prop} {thr : Nat → xS → Prop} {a0 : Array Value} (hr : ex_Run p l e R s m args below meth c H locs cells slots mc ms (F0 m pc ls st) rest (xx_Q post thr G A ad wk u a0) A) (hS : va_S A0 H0 H locs) (hA : ∀ q, A q → A0 q)
    (kr : ∀ (v : Option Value) (u' : xS) (ad' : Nat → Nat) (t : State) (H1 : Heap) (locs1 : List Loc), t.heap = H1 → s.vm.Alike t.vm → (∀ i x, xx_w G ad wk u i = some x → ad' i = ad i) → gw_P G ad' (xx_w G ad' wk u') H1 → gw_D A ad' (xx_w G ad' wk u') → post v u' → H.size ≤ H1.size → (∀ q : Nat, q < H.size → ¬ A q → H1[q]? = H[q]?) → va_S A0 H0 H1 locs1 → W p l e R s m args below meth c H1 locs1 (cells + mc) (slots + ms) Q (F0 m (pc + 3) ls (v.toList ++ rest)))
    (kt : ∀ (a k : Nat) (u' : xS) (ad' : Nat → Nat) (t : State) (H1 : Heap) (locs1 : List Loc), t.heap = H1 → s.vm.Alike t.vm → (∀ i x, xx_w G ad wk u i = some x → ad' i = ad i) → gw_P G ad' (xx_w G ad' wk u') H1 → gw_D A ad' (xx_w G ad' wk u') → thr k u' → ex_IsS (ex_X k) a s H1 → (k = 6 → a = ad' 2) → H.size ≤ H1.size → (∀ q : Nat, q < H.size → ¬ A q → H1[q]? = H[q]?) → va_S A0 H0 H1 locs1 → WT p l e R s m args below meth c H1 locs1 (cells + mc) (slots + ms) Q (F0 m pc ls rest) a) :
    W p l e R s m args below meth c H locs cells slots Q (F0 m pc ls st) := by
  intro T hT X
  obtain ⟨o, st₀, t, T', L, h0, X', hL, e1, e2, ⟨⟨u', ad', hext, ⟨hP, hD, -⟩, ho⟩, hz, hk⟩, hg, ht⟩ := hr T hT X
  rw [h0] at hz hk
  have hS1 : va_S A0 H0 T'.heap (locs ++ L) := ⟨Nat.le_trans hS.1 (by rw [e1]; exact hz), fun q h1 h2 => by rw [e1, hk q (Nat.lt_of_lt_of_le h1 hS.1) (fun z => h2 (hA q z))]; exact hS.2.1 q h1 h2, fun q hq => by
      rcases List.mem_append.mp hq with h | h
      · exact hS.2.2 q h
      · exact hA _ (hL q h)⟩
  have hal : s.vm.Alike t.vm := by rw [← e2]; exact X'.warmed.alike
  rcases ho with ⟨v, ho, hp⟩ | ⟨a, k, ho, hp, ⟨cell, g3, g4, g5⟩, h6⟩
  · subst ho
    obtain ⟨t2, a1, b1⟩ := kr v u' ad' t T'.heap (locs ++ L) e1.symm hal hext (by rw [e1]; exact hP) hD hp (by rw [e1]; exact hz) (fun q h1 h2 => by rw [e1]; exact hk q h1 h2) hS1 T' rfl X'
    exact ⟨t2, hg v rfl t2 a1, b1⟩
  · subst ho
    obtain ⟨t2, a1, b1⟩ := kt a k u' ad' t T'.heap (locs ++ L) e1.symm hal hext (by rw [e1]; exact hP) hD hp ⟨cell, by rw [e1]; exact g3, g4, by rw [← hal.findClass]; exact g5⟩ h6 (by rw [e1]; exact hz) (fun q h1 h2 => by rw [e1]; exact hk q h1 h2) hS1 T' rfl X'
    exact ⟨t2, ht a rfl t2 a1, b1⟩
/-- within the system -/
theorem xx_call {post : Option Value → xS → Prop} {thr : Nat → xS → Prop} {a0 : Array Value} (hr : ex_Run p l e R s m args below meth c H locs cells slots mc ms (F0 m pc ls st) rest (xx_Q post thr G A ad wk u a0) A) (hH : xx_H G A s.heap H locs ad wk u)
    (kr : ∀ (v : Option Value) (u' : xS) (ad' : Nat → Nat) (H : Heap) (locs : List Loc), (∀ i x, xx_w G ad wk u i = some x → ad' i = ad i) → xx_H G A s.heap H locs ad' wk u' → post v u' → W p l e R s m args below meth c H locs (cells + mc) (slots + ms) Q (F0 m (pc + 3) ls (v.toList ++ rest)))
    (kt : ∀ (a k : Nat) (u' : xS) (ad' : Nat → Nat) (H : Heap) (locs : List Loc), (∀ i x, xx_w G ad wk u i = some x → ad' i = ad i) → xx_H G A s.heap H locs ad' wk u' → thr k u' → ex_IsS (ex_X k) a s H → (k = 6 → a = ad' 2) → WT p l e R s m args below meth c H locs (cells + mc) (slots + ms) Q (F0 m pc ls rest) a) :
    W p l e R s m args below meth c H locs cells slots Q (F0 m pc ls st) :=
  xx_callG hr hH.2.2 (fun q h => h) (fun v u' ad' t H1 locs1 _ _ hext hP hD hp _ _ hS1 => kr v u' ad' H1 locs1 hext ⟨hP, hD, hS1⟩ hp) (fun a k u' ad' t H1 locs1 _ _ hext hP hD hp hI h6 _ _ hS1 => kt a k u' ad' H1 locs1 hext ⟨hP, hD, hS1⟩ hp hI h6)
/-- a call through an object of the system -/
theorem yy_V {Qc : Array Value → State → Outcome → State → Prop} {free : Addr → Prop} (i : Nat) {ci : Nat} {fs : List Value} {q : vw_C} (hM : ex_Met l y (w0 :: lw_all) (xx_rm d mc ms) (va_Pc (.ref (ad i) :: as) (xx_UU G A ad wk wv u)) Qc mc ms free) (hx : p.tables.exec = Jvm.exec) (hb : c.code = cc) (hml : c.maxLocals = nL) (hT : gw_T own G s m args) (hX : xc A wk wv s s.heap) (hA : ∀ q, s.heap.size ≤ q → A q) (hH : xx_H G A s.heap H locs ad wk u)
    (hi : xx_w G ad wk u i = some (.inr (ci, fs))) (hc : gw_cl[ci]? = some q) (hw0 : w0 ∈ lw_all) (hcode : ex_code s y L) (hin : Cond.instanceMethod y ∈ lw_all) (hse : Cond.selects q.1 y y ∈ lw_all) (hini : Cond.initialized y.cls ∈ lw_all) (hl : Cond.methodLink own idx y ∈ lw_all)
    (hd : y.cls ≠ "java/lang/invoke/MethodHandle" ∧ y.cls ≠ "java/lang/invoke/VarHandle" ∧ (parseMethodDescriptor y.desc).map (fun d => d.parameters.length) = some n) (hR : d + 1 ≤ R.frames ∧ 8 + (L + 11) + 60 * d ≤ R.locals) (hn : as.length = n) (hsz : ls.size = nL) (hst : st = as.reverse ++ .ref (ad i) :: rest) (hcat : (rest.map fun v => v.category).sum ≤ 8) (hdg : decode cc pc = .ok (.invokevirtual idx, 3)) (hf : cells + mc ≤ R.cells ∧ slots + ms ≤ R.slots) :
    ex_Run p l e R s m args below meth c H locs cells slots mc ms (F0 m pc ls st) rest (Qc (Value.ref (ad i) :: as).toArray) free :=
  ex_runV (maxL := L) (n := n) hx hb hml hT.1 hT.2.1 hM ⟨rfl, rfl, hR.1, hR.2, hw0, hcode, hini, hd, hl⟩ hin hse ⟨xx_blind, gw_recv hT.2.2 hH.1 hi hc, fun U hU hW => ⟨rfl, ⟨by rw [hU]; exact hH.1, hH.2.1, hT.2.2.warm hW⟩, hX.at hW hH.2.2 hU, fun q hq => hA q (Nat.le_trans (by rw [hU]; exact hH.2.2.1) hq)⟩⟩ rfl hn hsz hst (lv_room hcat) hdg hf
theorem yy_S {Qc : Array Value → State → Outcome → State → Prop} {free : Addr → Prop} (hM : ex_Met l y (w0 :: lw_all) (xx_rm d mc ms) (va_Pc as (xx_UU G A ad wk wv u)) Qc mc ms free) (hx : p.tables.exec = Jvm.exec) (hb : c.code = cc) (hml : c.maxLocals = nL) (hT : gw_T own G s m args) (hX : xc A wk wv s s.heap) (hA : ∀ q, s.heap.size ≤ q → A q) (hH : xx_H G A s.heap H locs ad wk u)
    (hw0 : w0 ∈ lw_all) (hcode : ex_code s y L) (hnm : ∃ mk, s.methodNamed? y = some mk) (hstt : Cond.static y ∈ lw_all) (hini : Cond.initialized y.cls ∈ lw_all) (hl : Cond.methodLink own idx y ∈ lw_all)
    (hd : y.cls ≠ "java/lang/invoke/MethodHandle" ∧ y.cls ≠ "java/lang/invoke/VarHandle" ∧ (parseMethodDescriptor y.desc).map (fun d => d.parameters.length) = some n) (hR : d + 1 ≤ R.frames ∧ 8 + (L + 11) + 60 * d ≤ R.locals) (hn : as.length = n) (hsz : ls.size = nL) (hst : st = as.reverse ++ rest) (hcat : (rest.map fun v => v.category).sum ≤ 8) (hdg : decode cc pc = .ok (.invokestatic idx, 3)) (hf : cells + mc ≤ R.cells ∧ slots + ms ≤ R.slots) :
    ex_Run p l e R s m args below meth c H locs cells slots mc ms (F0 m pc ls st) rest (Qc as.toArray) free :=
  ex_runS (maxL := L) (n := n) hx hb hml hT.1 hT.2.1 hM ⟨rfl, rfl, hR.1, hR.2, hw0, hcode, hini, hd, hl⟩ hstt ⟨xx_blind, fun U hU hW => ⟨rfl, ⟨by rw [hU]; exact hH.1, hH.2.1, hT.2.2.warm hW⟩, hX.at hW hH.2.2 hU, fun q hq => hA q (Nat.le_trans (by rw [hU]; exact hH.2.2.1) hq)⟩⟩ rfl hn hsz hst (lv_room hcat) hdg hf hnm
/-! readers -/
theorem xr_V {Post : Int32 → Prop} (i : Nat) {ci : Nat} {fs : List Value} {q : vw_C} {A' : Nat → Prop} (hC : tk_Ci l y b L ret d (.ref (ad i) :: as) (xx_B G ad wk u) Post) (hx : p.tables.exec = Jvm.exec) (hb : c.code = cc) (hml : c.maxLocals = nL) (hT : gw_T own G s m args) (hP : gw_P G ad (xx_w G ad wk u) H) (hD : gw_D A' ad (xx_w G ad wk u)) (hi : xx_w G ad wk u i = some (.inr (ci, fs))) (hc : gw_cl[ci]? = some q)
    (hq : GoodIn lw_all (wsV own idx q.1 y (ws_ y b L ret))) (hd : y.cls = q.1 ∧ y.cls ≠ "java/lang/invoke/MethodHandle" ∧ y.cls ≠ "java/lang/invoke/VarHandle" ∧ (parseMethodDescriptor y.desc).map (fun d => d.parameters.length) = some n) (hR : d + 1 ≤ R.frames ∧ 8 + (L + 11) + 60 * d ≤ R.locals) (hn : as.length = n) (hsz : ls.size = nL) (hst : st = as.reverse ++ .ref (ad i) :: rest) (hcat : (rest.map fun v => v.category).sum ≤ 8) (hdg : decode cc pc = .ok (.invokevirtual idx, 3)) (hf : cells ≤ R.cells ∧ slots ≤ R.slots)
    (kk : ∀ (r : Int32), Post r → W p l e R s m args below meth c H locs cells slots Q (F0 m (pc + 3) ls (.int r :: rest))) : W p l e R s m args below meth c H locs cells slots Q (F0 m pc ls st) :=
  tk_cV hC hx hb hml hT.1 hT.2.1 xx_blindB (fun U hU hW => ⟨by rw [hU]; exact hP, hD.all, hT.2.2.warm hW⟩) (gw_recv hT.2.2 hP hi hc) hq hd hR hn hsz hst hcat hdg hf kk
theorem xr_Vr (i : Nat) {ci : Nat} {fs : List Value} {q : vw_C} {A' : Nat → Prop} {v : Value} (hC : Met l y (ws_ y b L ret) (mm_rm d) (va_Pc (.ref (ad i) :: as) (xx_B G ad wk u)) (xr_Qr v) 0 0 (fun _ => False)) (hx : p.tables.exec = Jvm.exec) (hb : c.code = cc) (hml : c.maxLocals = nL) (hT : gw_T own G s m args) (hP : gw_P G ad (xx_w G ad wk u) H) (hD : gw_D A' ad (xx_w G ad wk u)) (hi : xx_w G ad wk u i = some (.inr (ci, fs))) (hc : gw_cl[ci]? = some q)
    (hq : GoodIn lw_all (wsV own idx q.1 y (ws_ y b L ret))) (hd : y.cls = q.1 ∧ y.cls ≠ "java/lang/invoke/MethodHandle" ∧ y.cls ≠ "java/lang/invoke/VarHandle" ∧ (parseMethodDescriptor y.desc).map (fun d => d.parameters.length) = some n) (hR : d + 1 ≤ R.frames ∧ 8 + (L + 11) + 60 * d ≤ R.locals) (hn : as.length = n) (hsz : ls.size = nL) (hst : st = as.reverse ++ .ref (ad i) :: rest) (hcat : (rest.map fun v => v.category).sum ≤ 8) (hdg : decode cc pc = .ok (.invokevirtual idx, 3)) (hf : cells ≤ R.cells ∧ slots ≤ R.slots)
    (kk : W p l e R s m args below meth c H locs cells slots Q (F0 m (pc + 3) ls (v :: rest))) : W p l e R s m args below meth c H locs cells slots Q (F0 m pc ls st) := by
  have hr := va_runV (H := H) (locs := locs) (cells := cells) (slots := slots) (below := below) (e := e) (meth := meth) (g := F0 m pc ls st) (As := as) (rest := rest) ⟨hx, hb, hml, hT.1, hT.2.1⟩ hC (cwV n hT.2.1 hq rfl rfl rfl hd hR) ⟨xx_blindB, gw_recv hT.2.2 hP hi hc, fun U hU hW => ⟨rfl, by rw [hU]; exact hP, hD.all, hT.2.2.warm hW⟩⟩ rfl hn hsz hst (lv_room hcat) hdg hf
  intro T hTT X
  obtain ⟨v, st₀, t, T', L, h0, X', hL, e1, e2, ⟨hv, hh⟩, stp⟩ := hr T hTT X
  cases hv
  obtain ⟨t2, a1, b1⟩ := kk T' (by rw [e1, hh, h0]) (Stand.forget X' (fun q h => (hL q h).elim))
  exact ⟨t2, stp t2 a1, b1⟩
end XC
