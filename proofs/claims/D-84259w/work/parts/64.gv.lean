/-! CONSTRUCTORS: contracts over any indexed world -/
theorem va_up_s {w : gw_W} {i : Nat} {x y : Option va_E} : va_up (va_up w i x) i y = va_up w i y := by
  funext j
  by_cases h : j = i
  · subst h; rw [xx_as, xx_as]
  · rw [xx_at h, xx_at h, xx_at h]
theorem va_up_f {w : gw_W} {a b : Nat} (hab : a ≠ b) {x y z : Option va_E} : va_up (va_up (va_up w a x) b y) a z = va_up (va_up w b y) a z := by
  funext j
  by_cases h : j = a
  · subst h; rw [xx_as, xx_as]
  · rw [xx_at h, xx_at h]
    by_cases h2 : j = b
    · subst h2; rw [xx_as, xx_as]
    · rw [xx_at h2, xx_at h2, xx_at h]
def gv_V (G : gw_G) (A : Nat → Prop) (u : (Nat → Nat) × gw_W) (t : State) : Prop := gw_P G u.1 u.2 t.heap ∧ gw_D A u.1 u.2 ∧ gw_K G t
def gv_U (G : gw_G) (A : Nat → Prop) (ad wk wv : Nat → Nat) (w : gw_W) (U : State) : Prop := gv_V G A (ad, w) U ∧ xc A wk wv U U.heap ∧ ∀ q, U.heap.size ≤ q → A q
def gv_C (l : Launch) (y : MethodName) (b : ByteArray) (L d mc ms : Nat) (av : List Value) (G : gw_G) (A : Nat → Prop) (ad wk wv : Nat → Nat) (w : gw_W) (post : (Nat → Nat) × gw_W → Prop) : Prop :=
  Met l y (ws_ y b L none) (xx_rm d mc ms) (va_Pc av (gv_U G A ad wk wv w)) (va_Qv post (gv_V G A) A) mc ms A
theorem gv_blind {G : gw_G} {A : Nat → Prop} {ad wk wv : Nat → Nat} {w : gw_W} {av : List Value} : FrameBlind (va_Pc av (gv_U G A ad wk wv w)) := by
  rintro a U g mk ⟨h0, ⟨h1, h2, h3⟩, h4, h5⟩
  exact ⟨h0, ⟨h1, h2, gw_K.same (s := U) (U := U.calling g mk a) rfl h3⟩, xc.go (u := U) (U := U.calling g mk a) h4 (ex_K.same (s := U) (U := U.calling g mk a) rfl h4.1) (Vm.Alike.refl U.vm), h5⟩
section GVO
variable {l : Launch} {y : MethodName} {b : ByteArray} {L d mc ms : Nat} {av : List Value} {G : gw_G} {A : Nat → Prop} {ad wk wv : Nat → Nat} {w : gw_W}
theorem gv_of {post : (Nat → Nat) × gw_W → Prop} (hy : plainName y.cls = true) (hn : y.name = "<init>") (hL : (lg_sl av).length ≤ L)
    (body : ∀ (p : Program) (e : Env) (s : State) (m : MethodId) (args : Array Value) (below : List Frame) (meth : Method) (c : Code) (ls : Array Slot), gx_Y y.cls b L none G A wk wv p s m args meth c → meth.name = "<init>" → gw_H G A s.heap s.heap [] ad w → lv_has ls L (lv_args 0 av) →
      W p l e (xx_rm d mc ms) s m args below meth c s.heap [] 0 0 (MQ below (va_Qv post (gv_V G A) A) args s mc ms A) (F0 m 0 ls [])) : gv_C l y b L d mc ms av G A ad wk wv w post := by
  refine Met.ofW (cc := b) (maxL := L) (ret := none) hy rfl ?_
  intro p e s m args below meth c s₁ B hml hv
  obtain ⟨rfl, ⟨hP, hD, hK⟩, hX, hA⟩ := hv
  have hts := atoms_spec (ws := ws_ y b L none) B.pre
  have hl := lv_entry av (n := L) hL
  rw [lg_entry_eq]
  exact body p e s m _ below meth c _ ⟨B.exec, B.bytes, hml, ⟨findClass_of_methodNamed B.named, fun w h => hts w (List.mem_cons_of_mem _ h), hK⟩, B.returns, B.notSynchronized, hX, hA⟩ ((name_of_methodNamed B.named B.method).1.trans hn) ⟨hP, hD, va_S.rf⟩ hl
end GVO
section GVC
variable {p : Program} {l : Launch} {e : Env} {R : Room} {s : State} {m : MethodId} {args : Array Value} {below : List Frame} {meth : Method} {c : Code} {H : Heap} {locs : List Loc} {cells slots : Nat} {Q : State → Prop}
variable {cc : ByteArray} {pc nL : Nat} {ls : Array Slot} {rest st : List Value} {G : gw_G} {A : Nat → Prop} {ad wk wv : Nat → Nat} {w : gw_W} {y : MethodName} {b : ByteArray} {L d idx n mc ms : Nat} {own : String} {as : List Value}
theorem lv_ref {a a' : Nat} (h : a = a') (kk : W p l e R s m args below meth c H locs cells slots Q (F0 m pc ls (.ref a' :: rest))) : W p l e R s m args below meth c H locs cells slots Q (F0 m pc ls (.ref a :: rest)) := by rw [h]; exact kk
theorem lv_ref1 {a a' : Nat} {v : Value} (h : a = a') (kk : W p l e R s m args below meth c H locs cells slots Q (F0 m pc ls (v :: .ref a' :: rest))) : W p l e R s m args below meth c H locs cells slots Q (F0 m pc ls (v :: .ref a :: rest)) := by rw [h]; exact kk
theorem lv_ref2 {a a' : Nat} {v v1 : Value} (h : a = a') (kk : W p l e R s m args below meth c H locs cells slots Q (F0 m pc ls (v :: v1 :: .ref a' :: rest))) : W p l e R s m args below meth c H locs cells slots Q (F0 m pc ls (v :: v1 :: .ref a :: rest)) := by rw [h]; exact kk
theorem lv_stk {st st' : List Value} (h : st = st') (kk : W p l e R s m args below meth c H locs cells slots Q (F0 m pc ls st')) : W p l e R s m args below meth c H locs cells slots Q (F0 m pc ls st) := by rw [h]; exact kk
theorem gv_rv {post : (Nat → Nat) × gw_W → Prop} (hx : p.tables.exec = Jvm.exec) (hb : c.code = cc) (hr : meth.sig.returnType = none) (hlocks : meth.locks = false) (hT : gw_T own G s m args) (hH : gw_H G A s.heap H locs ad w) (hd : decode cc pc = .ok (.return_, 1)) (hp : post (ad, w)) (h1 : cells ≤ mc) (h2 : slots ≤ ms) :
    W p l e R s m args below meth c H locs cells slots (MQ below (va_Qv post (gv_V G A) A) args s mc ms A) (F0 m pc ls []) :=
  W.widen h1 h2 (W.vret hx hb hr (fun t ht hW => ⟨⟨(ad, w), rfl, hp, ⟨by rw [ht]; exact hH.1, hH.2.1, hT.2.2.warm hW⟩⟩, hH.2.2.F ht⟩) hH.2.2.2.2 hd)
theorem gv_I {post : (Nat → Nat) × gw_W → Prop} {i : Nat} (hC : gv_C l y b L d mc ms (.ref (ad i) :: as) G A ad wk wv w post) (hx : p.tables.exec = Jvm.exec) (hb : c.code = cc) (hml : c.maxLocals = nL) (hT : gw_T own G s m args) (hX : xc A wk wv s s.heap) (hA : ∀ q, s.heap.size ≤ q → A q) (hH : gw_H G A s.heap H locs ad w)
    (hcode : Cond.code y b L none ∈ lw_all) (hini : Cond.initialized y.cls ∈ lw_all) (hlk : Cond.methodLink own idx y ∈ lw_all) (hin : Cond.instanceMethod y ∈ lw_all) (hy1 : y.name = "<init>") (hd : y.cls ≠ "java/lang/invoke/MethodHandle" ∧ y.cls ≠ "java/lang/invoke/VarHandle" ∧ (parseMethodDescriptor y.desc).map (fun d => d.parameters.length) = some n) (hR : d + 1 ≤ R.frames ∧ 8 + (L + 11) + 60 * d ≤ R.locals)
    (hn : as.length = n) (hsz : ls.size = nL) (hst : st = as.reverse ++ .ref (ad i) :: rest) (hcat : (rest.map fun v => v.category).sum ≤ 8) (hdg : decode cc pc = .ok (.invokespecial idx, 3)) (hf : cells + mc ≤ R.cells ∧ slots + ms ≤ R.slots)
    (kk : ∀ (ad' : Nat → Nat) (w' : gw_W) (H1 : Heap) (locs1 : List Loc), post (ad', w') → gw_H G A s.heap H1 locs1 ad' w' → W p l e R s m args below meth c H1 locs1 (cells + mc) (slots + ms) Q (F0 m (pc + 3) ls rest)) : W p l e R s m args below meth c H locs cells slots Q (F0 m pc ls st) := by
  have hr := va_runI (H := H) (locs := locs) (cells := cells) (slots := slots) (below := below) (e := e) (meth := meth) (g := F0 m pc ls st) (b := ad i) (As := as) (rest := rest) ⟨hx, hb, hml, hT.1, hT.2.1⟩ hC (cwI n hT.2.1 (lw_meth hcode) rfl rfl rfl (hT.2.1 _ hini) (hT.2.1 _ hlk) (hT.2.1 _ hin) hy1 hd hR)
    ⟨gv_blind, fun U hU hW => ⟨rfl, ⟨by rw [hU]; exact hH.1, hH.2.1, hT.2.2.warm hW⟩, hX.at hW hH.2.2 hU, fun q hq => hA q (Nat.le_trans (by rw [hU]; exact hH.2.2.1) hq)⟩⟩ rfl hn hsz hst (lv_room hcat) hdg hf
  exact va_callv hr hH.2.2 (fun q _ h => h) (fun q h => h) (fun u t H1 locs1 e1 _ hp hB _ _ hS1 => kk u.1 u.2 H1 locs1 hp ⟨by rw [← e1]; exact hB.1, hB.2.1, hS1⟩)
theorem gv_IN {post : (Nat → Nat) × gw_W → Prop} {i : Nat} {host : String} (hC : gv_C l y b L d mc ms (.ref (ad i) :: as) G A ad wk wv w post) (hx : p.tables.exec = Jvm.exec) (hb : c.code = cc) (hml : c.maxLocals = nL) (hT : gw_T own G s m args) (hX : xc A wk wv s s.heap) (hA : ∀ q, s.heap.size ≤ q → A q) (hH : gw_H G A s.heap H locs ad w)
    (hcode : Cond.code y b L none ∈ lw_all) (hini : Cond.initialized y.cls ∈ lw_all) (hlk : Cond.methodLinkNest own idx y host ∈ gw_nest) (hin : Cond.instanceMethod y ∈ lw_all) (hy1 : y.name = "<init>") (hd : y.cls ≠ "java/lang/invoke/MethodHandle" ∧ y.cls ≠ "java/lang/invoke/VarHandle" ∧ (parseMethodDescriptor y.desc).map (fun d => d.parameters.length) = some n) (hR : d + 1 ≤ R.frames ∧ 8 + (L + 11) + 60 * d ≤ R.locals)
    (hn : as.length = n) (hsz : ls.size = nL) (hst : st = as.reverse ++ .ref (ad i) :: rest) (hcat : (rest.map fun v => v.category).sum ≤ 8) (hdg : decode cc pc = .ok (.invokespecial idx, 3)) (hf : cells + mc ≤ R.cells ∧ slots + ms ≤ R.slots)
    (kk : ∀ (ad' : Nat → Nat) (w' : gw_W) (H1 : Heap) (locs1 : List Loc), post (ad', w') → gw_H G A s.heap H1 locs1 ad' w' → W p l e R s m args below meth c H1 locs1 (cells + mc) (slots + ms) Q (F0 m (pc + 3) ls rest)) : W p l e R s m args below meth c H locs cells slots Q (F0 m pc ls st) := by
  have hr := va_runIN (H := H) (locs := locs) (cells := cells) (slots := slots) (below := below) (e := e) (meth := meth) (g := F0 m pc ls st) (b := ad i) (As := as) (rest := rest) ⟨hx, hb, hml, hT.1, hT.2.1⟩ hC ⟨va_cnB (host := host) n hT.2.1 (lw_meth hcode) rfl rfl rfl (hT.2.2.2.1 _ hlk) (hT.2.1 _ hini) hd hR, hy1, hT.2.1 _ hin⟩
    ⟨gv_blind, fun U hU hW => ⟨rfl, ⟨by rw [hU]; exact hH.1, hH.2.1, hT.2.2.warm hW⟩, hX.at hW hH.2.2 hU, fun q hq => hA q (Nat.le_trans (by rw [hU]; exact hH.2.2.1) hq)⟩⟩ rfl hn hsz hst (lv_room hcat) hdg hf
  exact va_callv hr hH.2.2 (fun q _ h => h) (fun q h => h) (fun u t H1 locs1 e1 _ hp hB _ _ hS1 => kk u.1 u.2 H1 locs1 hp ⟨by rw [← e1]; exact hB.1, hB.2.1, hS1⟩)
end GVC
