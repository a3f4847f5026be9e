/-! methods of the system that make no cell of its world: the addresses stay -/
def xz_Q (post : Option Value → xS → Prop) (thr : Nat → xS → Prop) (G : gw_G) (A : Nat → Prop) (ad wk : Nat → Nat) : Array Value → State → Outcome → State → Prop := fun _ st oc t =>
  (∃ u : xS, xx_U G A ad wk u t ∧ ((∃ v, oc = .returned v ∧ post v u) ∨ (∃ a k, oc = .threw a ∧ thr k u ∧ ex_Is (ex_X k) a t ∧ (k = 6 → a = ad 2)))) ∧ va_F A st t
def xz_C (l : Launch) (y : MethodName) (w0 : Cond) (d mc ms : Nat) (av : (Nat → Nat) → List Value) (σ : xS) (post : Option Value → xS → Prop) (thr : Nat → xS → Prop) : Prop :=
  ∀ (G : gw_G) (A : Nat → Prop) (ad wk wv : Nat → Nat), ex_Met l y (w0 :: lw_all) (xx_rm d mc ms) (va_Pc (av ad) (xx_UU G A ad wk wv σ)) (xz_Q post thr G A ad wk) mc ms A
section XZO
variable {l : Launch} {y : MethodName} {b : ByteArray} {L d mc ms : Nat} {ret : Option FieldType} {av : (Nat → Nat) → List Value} {σ : xS}
theorem xz_of {post : Option Value → xS → Prop} {thr : Nat → xS → Prop} (hy : plainName y.cls = true) (hL : ∀ ad, (lg_sl (av ad)).length ≤ L)
    (body : ∀ (p : Program) (e : Env) (s : State) (m : MethodId) (args : Array Value) (below : List Frame) (meth : Method) (c : Code) (G : gw_G) (A : Nat → Prop) (ad wk wv : Nat → Nat) (ls : Array Slot), gx_Y y.cls b L ret G A wk wv p s m args meth c → c.exceptionTable.toList = [] → xx_H G A s.heap s.heap [] ad wk σ → lv_has ls L (lv_args 0 (av ad)) →
      W p l e (xx_rm d mc ms) s m args below meth c s.heap [] 0 0 (ex_MQ below (xz_Q post thr G A ad wk) args s mc ms A) (F0 m 0 ls [])) : xz_C l y (Cond.code y b L ret) d mc ms av σ post thr := by
  intro G A ad wk wv
  refine ex_ofW (cc := b) (maxL := L) (ret := ret) hy rfl ?_
  intro p e s m args below meth c s₁ B hml hE hv
  obtain ⟨rfl, ⟨hP, hD, hK⟩, hX, hA⟩ := hv
  have hts := atoms_spec (ws := ws_ y b L ret) B.pre
  have hl := lv_entry (av ad) (n := L) (hL ad)
  rw [lg_entry_eq]
  exact body p e s m _ below meth c G A ad wk wv _ ⟨B.exec, B.bytes, hml, ⟨findClass_of_methodNamed B.named, fun w h => hts w (List.mem_cons_of_mem _ h), hK⟩, B.returns, B.notSynchronized, hX, hA⟩ hE ⟨hP, hD, va_S.rf⟩ hl
end XZO
section XZ
variable {p : Program} {l : Launch} {e : Env} {R : Room} {s : State} {m : MethodId} {args : Array Value} {below : List Frame} {meth : Method} {c : Code} {H : Heap} {locs : List Loc} {cells slots : Nat} {Q : State → Prop}
variable {cc : ByteArray} {pc nL : Nat} {ls : Array Slot} {rest st : List Value} {G : gw_G} {A : Nat → Prop} {ad wk wv : Nat → Nat} {u : xS} {own : String} {ty : FieldType} {mc ms : Nat}
theorem xz_ri {post : Option Value → xS → Prop} {thr : Nat → xS → Prop} (hx : p.tables.exec = Jvm.exec) (hb : c.code = cc) (hr : meth.sig.returnType = some ty) (hlocks : meth.locks = false) (hT : gw_T own G s m args) (hH : xx_H G A s.heap H locs ad wk u) {v : Int32} (hn : narrow ty (.int v) = .int v) (hd : decode cc pc = .ok (.ireturn, 1)) (hp : post (some (.int v)) u) (h1 : cells ≤ mc) (h2 : slots ≤ ms) :
    W p l e R s m args below meth c H locs cells slots (ex_MQ below (xz_Q post thr G A ad wk) args s mc ms A) (F0 m pc ls [.int v]) :=
  W.widen h1 h2 (ex_up (W.zret hx hb hr hn (fun t ht hW => ⟨⟨u, ⟨by rw [ht]; exact hH.1, hH.2.1, hT.2.2.warm hW⟩, Or.inl ⟨_, rfl, hp⟩⟩, hH.2.2.F ht⟩) hH.2.2.2.2 hd))
theorem xz_rv {post : Option Value → xS → Prop} {thr : Nat → xS → Prop} (hx : p.tables.exec = Jvm.exec) (hb : c.code = cc) (hr : meth.sig.returnType = none) (hlocks : meth.locks = false) (hT : gw_T own G s m args) (hH : xx_H G A s.heap H locs ad wk u) (hd : decode cc pc = .ok (.return_, 1)) (hp : post none u) (h1 : cells ≤ mc) (h2 : slots ≤ ms) :
    W p l e R s m args below meth c H locs cells slots (ex_MQ below (xz_Q post thr G A ad wk) args s mc ms A) (F0 m pc ls []) :=
  W.widen h1 h2 (ex_up (W.vret hx hb hr (fun t ht hW => ⟨⟨u, ⟨by rw [ht]; exact hH.1, hH.2.1, hT.2.2.warm hW⟩, Or.inl ⟨_, rfl, hp⟩⟩, hH.2.2.F ht⟩) hH.2.2.2.2 hd))
/-- the exception a of the kind k leaves the method -/
theorem xz_out {post : Option Value → xS → Prop} {thr : Nat → xS → Prop} (hlocks : meth.locks = false) (hE : c.exceptionTable.toList = []) (hT : gw_T own G s m args) (hH : xx_H G A s.heap H locs ad wk u) {a k : Nat} (hp : thr k u) (hI : ex_IsS (ex_X k) a s H) (h6 : k = 6 → a = ad 2) (h1 : cells ≤ mc) (h2 : slots ≤ ms) :
    WT p l e R s m args below meth c H locs cells slots (ex_MQ below (xz_Q post thr G A ad wk) args s mc ms A) (F0 m pc ls st) a := by
  obtain ⟨cell, g1, g2, g3⟩ := hI
  exact WT.widen h1 h2 (WT.out hlocks hE (fun t ht hW => ⟨⟨u, ⟨by rw [ht]; exact hH.1, hH.2.1, hT.2.2.warm hW⟩, Or.inr ⟨a, k, rfl, hp, ⟨cell, by rw [ht]; exact g1, g2, by rw [hW.alike.findClass]; exact g3⟩, h6⟩⟩, hH.2.2.F ht⟩) hH.2.2.2.2)
theorem xz_call {post : Option Value → xS → Prop} {thr : Nat → xS → Prop} {a0 : Array Value} (hr : ex_Run p l e R s m args below meth c H locs cells slots mc ms (F0 m pc ls st) rest (xz_Q post thr G A ad wk a0) A) (hH : xx_H G A s.heap H locs ad wk u)
    (kr : ∀ (v : Option Value) (u' : xS) (H : Heap) (locs : List Loc), xx_H G A s.heap H locs ad wk u' → post v u' → W p l e R s m args below meth c H locs (cells + mc) (slots + ms) Q (F0 m (pc + 3) ls (v.toList ++ rest)))
    (kt : ∀ (a k : Nat) (u' : xS) (H : Heap) (locs : List Loc), xx_H G A s.heap H locs ad wk u' → thr k u' → ex_IsS (ex_X k) a s H → (k = 6 → a = ad 2) → WT p l e R s m args below meth c H locs (cells + mc) (slots + ms) Q (F0 m pc ls rest) a) :
    W p l e R s m args below meth c H locs cells slots Q (F0 m pc ls st) := by
  intro T hT X
  obtain ⟨o, st₀, t, T', L, h0, X', hL, e1, e2, ⟨⟨u', ⟨hP, hD, -⟩, ho⟩, hz, hk⟩, hg, ht⟩ := hr T hT X
  rw [h0] at hz hk
  have hS := hH.2.2
  have hS1 : va_S A s.heap T'.heap (locs ++ L) := ⟨Nat.le_trans hS.1 (by rw [e1]; exact hz), fun q h1 h2 => by rw [e1, hk q (Nat.lt_of_lt_of_le h1 hS.1) h2]; exact hS.2.1 q h1 h2, fun q hq => by
      rcases List.mem_append.mp hq with h | h
      · exact hS.2.2 q h
      · exact hL q h⟩
  have hal : s.vm.Alike t.vm := by rw [← e2]; exact X'.warmed.alike
  rcases ho with ⟨v, ho, hp⟩ | ⟨a, k, ho, hp, ⟨cell, g3, g4, g5⟩, h6⟩
  · subst ho
    obtain ⟨t2, a1, b1⟩ := kr v u' T'.heap (locs ++ L) ⟨by rw [e1]; exact hP, hD, hS1⟩ hp T' rfl X'
    exact ⟨t2, hg v rfl t2 a1, b1⟩
  · subst ho
    obtain ⟨t2, a1, b1⟩ := kt a k u' T'.heap (locs ++ L) ⟨by rw [e1]; exact hP, hD, hS1⟩ hp ⟨cell, by rw [e1]; exact g3, g4, by rw [← hal.findClass]; exact g5⟩ h6 T' rfl X'
    exact ⟨t2, ht a rfl t2 a1, b1⟩
/-- a thrown end, the world as it was at H -/
theorem xz_tq {post : Option Value → xS → Prop} {thr : Nat → xS → Prop} (hT : gw_T own G s m args) (hH : xx_H G A s.heap H locs ad wk u) {k : Nat} (hk : k ≠ 6) (hthr : thr k u) (t : State) (a : Nat) (h1 : H.size ≤ t.heap.size) (h2 : ∀ q : Nat, q < H.size → t.heap[q]? = H[q]?) (hW : s.WarmedH t.vm) (hI : ex_Is (ex_X k) a t) : xz_Q post thr G A ad wk args s (.threw a) t :=
  ⟨⟨u, ⟨fun i x hx => (hH.1 i x hx).kept (h2 _ (hH.1 i x hx).lt), hH.2.1, hT.2.2.warm hW⟩, Or.inr ⟨a, k, rfl, hthr, hI, fun e => absurd e hk⟩⟩, Nat.le_trans hH.2.2.1 h1, fun q hq hA => (h2 q (Nat.lt_of_lt_of_le hq hH.2.2.1)).trans (hH.2.2.2.1 q hq hA)⟩
end XZ
