theorem ex_Zs.z {C n d : String} {A : Nat → Prop} {s : State} {H : Heap} {args : Array Value} (h : ex_Zs C n d A s H) (hini : (Cond.initialized C).before args s = true) : ∃ v : Value, (v = .null ∨ ∃ t, v = .ref t) ∧ va_Z C n d v A s H := by
  obtain ⟨c, k, i, f, a, cell, h1, h2, h3, h4, h5, h6, h7, h8, h9, h10, h11⟩ := h
  have hi := Cond.initialized_spec h1 (State.fieldFound?_spec h2).1 hini
  rcases h9 with h9 | ⟨t, h9⟩
  · exact ⟨_, Or.inl rfl, c, k, i, f, a, cell, h2, h3, hi, h4, h10, h7, h9, h11⟩
  · exact ⟨_, Or.inr ⟨t, rfl⟩, c, k, i, f, a, cell, h2, h3, hi, h4, h10, h7, h9, h11⟩
def kc_R2 (wk : Nat → Nat) (U : State) : Prop := vk_R RX2 17 "distance" (wk 0) U ∧ vk_R RX2 19 "depth" (wk 1) U ∧ vk_R RX2 21 "repair" (wk 2) U ∧ vk_R RX2 23 "free" (wk 3) U ∧ vk_R RX2 25 "hours" (wk 4) U ∧ vk_R RX2 27 "heads" (wk 5) U
theorem kc_R2.warm {wk : Nat → Nat} {s U : State} (hW : s.WarmedH U.vm) (h : kc_R2 wk s) : kc_R2 wk U := ⟨h.1.warm hW, h.2.1.warm hW, h.2.2.1.warm hW, h.2.2.2.1.warm hW, h.2.2.2.2.1.warm hW, h.2.2.2.2.2.warm hW⟩
theorem kc_R2.same {wk : Nat → Nat} {s U : State} (hv : U.vm = s.vm) (h : kc_R2 wk s) : kc_R2 wk U := ⟨h.1.same hv, h.2.1.same hv, h.2.2.1.same hv, h.2.2.2.1.same hv, h.2.2.2.2.1.same hv, h.2.2.2.2.2.same hv⟩
theorem va_strAny {a b n : Nat} {f : Nat → Int32} {A : Nat → Prop} {s : State} {H : Heap} (h : tk_S a b n f A s H) : va_Any "java/lang/String" s H a := by
  obtain ⟨cell, h1, h2, h3, -⟩ := h.1
  obtain ⟨k, hk⟩ := Vm.classAt_of_findClass h3
  exact ⟨cell, h1, h2, ⟨k, hk⟩, fun comp hc => by rw [h3] at hc; obtain rfl := Option.some.inj hc; exact ex_self _ _⟩
def gr_U (G : gw_G) (A : Nat → Prop) (ad wk wv : Nat → Nat) (w : gw_W) (U : State) : Prop := gv_U G A ad wk wv w U ∧ kc_R2 wk U
def gr_C (l : Launch) (y : MethodName) (b : ByteArray) (L d mc ms : Nat) (av : List Value) (G : gw_G) (A : Nat → Prop) (ad wk wv : Nat → Nat) (w : gw_W) (post : (Nat → Nat) × gw_W → Prop) : Prop :=
  Met l y (ws_ y b L none) (xx_rm d mc ms) (va_Pc av (gr_U G A ad wk wv w)) (va_Qv post (gv_V G A) A) mc ms A
theorem gr_blind {G : gw_G} {A : Nat → Prop} {ad wk wv : Nat → Nat} {w : gw_W} {av : List Value} : FrameBlind (va_Pc av (gr_U G A ad wk wv w)) := by
  rintro a U g mk ⟨h0, h1, h2⟩
  have h3 := gv_blind (av := av) a U g mk ⟨h0, h1⟩
  exact ⟨h0, h3.2, kc_R2.same (s := U) (U := U.calling g mk a) rfl h2⟩
theorem gr_of {l : Launch} {y : MethodName} {b : ByteArray} {L d mc ms : Nat} {av : List Value} {G : gw_G} {A : Nat → Prop} {ad wk wv : Nat → Nat} {w : gw_W} {post : (Nat → Nat) × gw_W → Prop} (hy : plainName y.cls = true) (hn : y.name = "<init>") (hL : (lg_sl av).length ≤ L)
    (body : ∀ (p : Program) (e : Env) (s : State) (m : MethodId) (args : Array Value) (below : List Frame) (meth : Method) (c : Code) (ls : Array Slot), gx_Y y.cls b L none G A wk wv p s m args meth c → meth.name = "<init>" → kc_R2 wk s → gw_H G A s.heap s.heap [] ad w → lv_has ls L (lv_args 0 av) →
      W p l e (xx_rm d mc ms) s m args below meth c s.heap [] 0 0 (MQ below (va_Qv post (gv_V G A) A) args s mc ms A) (F0 m 0 ls [])) : gr_C l y b L d mc ms av G A ad wk wv w post := by
  refine Met.ofW (cc := b) (maxL := L) (ret := none) hy rfl ?_
  intro p e s m args below meth c s₁ B hml hv
  obtain ⟨rfl, ⟨⟨hP, hD, hK⟩, hX, hA⟩, hR2⟩ := hv
  have hts := atoms_spec (ws := ws_ y b L none) B.pre
  have hl := lv_entry av (n := L) hL
  rw [lg_entry_eq]
  exact body p e s m _ below meth c _ ⟨B.exec, B.bytes, hml, ⟨findClass_of_methodNamed B.named, fun w h => hts w (List.mem_cons_of_mem _ h), hK⟩, B.returns, B.notSynchronized, hX, hA⟩ ((name_of_methodNamed B.named B.method).1.trans hn) hR2 ⟨hP, hD, va_S.rf⟩ hl
section GRC
variable {p : Program} {l : Launch} {e : Env} {R : Room} {s : State} {m : MethodId} {args : Array Value} {below : List Frame} {meth : Method} {c : Code} {H : Heap} {locs : List Loc} {cells slots : Nat} {Q : State → Prop}
variable {cc : ByteArray} {pc nL : Nat} {ls : Array Slot} {rest st : List Value} {G : gw_G} {A : Nat → Prop} {H0 : Heap} {ad wk wv : Nat → Nat} {w : gw_W} {y : MethodName} {b : ByteArray} {L d idx n mc ms : Nat} {own : String} {as : List Value}
theorem gw_putR (hx : p.tables.exec = Jvm.exec) (hb : c.code = cc) (hT : gw_T own G s m args) (hH : gw_H G A H0 H locs ad w) (i : Nat) {ci N idx : Nat} {fs : List Value} {C ref : String} {T : u_T} (he : w i = some (.inr (ci, fs))) (hc : gw_cl[ci]? = some (C, T, N)) (hin : ∀ w ∈ u_ws C T N, w ∈ lw_all) (ty : Nat → FieldType) (hty : ∀ k, k < N → parseFieldDescriptor (T k).2.2.1 = some (ty k)) (hnm : ∀ a, a < N → ∀ b, b < N → a ≠ b → (T a).2.1 ≠ (T b).2.1) (k : Nat) (hk : k < N) (hs : (T k).1 = ref) (hf : (T k).2.2.2 = false) (hl : Cond.fieldLink own idx ref (T k).2.1 (T k).2.2.1 ∈ lw_all) {v : Value} (hn : narrow (ty k) v = v) (hfit : fits (ty k) v = true) (hlen : k < fs.length) (hd : decode cc pc = .ok (.putfield idx, 3))
    (kk : ∀ (H1 : Heap) (locs1 : List Loc), gw_H G A H0 H1 locs1 ad (va_up w i (some (.inr (ci, fs.set k v)))) → W p l e R s m args below meth c H1 locs1 cells slots Q (F0 m (pc + 3) ls rest)) : W p l e R s m args below meth c H locs cells slots Q (F0 m pc ls (v :: .ref (ad i) :: rest)) := by
  obtain ⟨q0, hq⟩ := gw_ix hH.2.1 he
  exact va_put (ref := ref) hx hb hT.2.1 hin ty hty hnm hT.1 hT.2.2.1 (gw_lP hH.1) (gw_lD hH.2.1) hH.2.2 q0 hq hc k hk (hT.2.1 _ hl) (fun x h => by rw [hs] at h; exact h) hf (hty k hk) hn hfit hlen hd (fun H1 locs1 hP1 _ hS1 => kk H1 locs1 (gw_set hH.2.1 he hq hP1 hS1))
theorem gr_IN {post : (Nat → Nat) × gw_W → Prop} {i : Nat} {host : String} (hC : gr_C l y b L d mc ms (.ref (ad i) :: as) G A ad wk wv w post) (hx : p.tables.exec = Jvm.exec) (hb : c.code = cc) (hml : c.maxLocals = nL) (hT : gw_T own G s m args) (hX : xc A wk wv s s.heap) (hR2 : kc_R2 wk s) (hA : ∀ q, s.heap.size ≤ q → A q) (hH : gw_H G A s.heap H locs ad w)
    (hcode : Cond.code y b L none ∈ lw_all) (hini : Cond.initialized y.cls ∈ lw_all) (hlk : Cond.methodLinkNest own idx y host ∈ gw_nest) (hin : Cond.instanceMethod y ∈ lw_all) (hy1 : y.name = "<init>") (hd : y.cls ≠ "java/lang/invoke/MethodHandle" ∧ y.cls ≠ "java/lang/invoke/VarHandle" ∧ (parseMethodDescriptor y.desc).map (fun d => d.parameters.length) = some n) (hR : d + 1 ≤ R.frames ∧ 8 + (L + 11) + 60 * d ≤ R.locals)
    (hn : as.length = n) (hsz : ls.size = nL) (hst : st = as.reverse ++ .ref (ad i) :: rest) (hcat : (rest.map fun v => v.category).sum ≤ 8) (hdg : decode cc pc = .ok (.invokespecial idx, 3)) (hf : cells + mc ≤ R.cells ∧ slots + ms ≤ R.slots)
    (kk : ∀ (ad' : Nat → Nat) (w' : gw_W) (H1 : Heap) (locs1 : List Loc), post (ad', w') → gw_H G A s.heap H1 locs1 ad' w' → W p l e R s m args below meth c H1 locs1 (cells + mc) (slots + ms) Q (F0 m (pc + 3) ls rest)) : W p l e R s m args below meth c H locs cells slots Q (F0 m pc ls st) := by
  have hr := va_runIN (H := H) (locs := locs) (cells := cells) (slots := slots) (below := below) (e := e) (meth := meth) (g := F0 m pc ls st) (b := ad i) (As := as) (rest := rest) ⟨hx, hb, hml, hT.1, hT.2.1⟩ hC ⟨va_cnB (host := host) n hT.2.1 (lw_meth hcode) rfl rfl rfl (hT.2.2.2.1 _ hlk) (hT.2.1 _ hini) hd hR, hy1, hT.2.1 _ hin⟩
    ⟨gr_blind, fun U hU hW => ⟨rfl, ⟨⟨by rw [hU]; exact hH.1, hH.2.1, hT.2.2.warm hW⟩, hX.at hW hH.2.2 hU, fun q hq => hA q (Nat.le_trans (by rw [hU]; exact hH.2.2.1) hq)⟩, hR2.warm hW⟩⟩ rfl hn hsz hst (lv_room hcat) hdg hf
  exact va_callv hr hH.2.2 (fun q _ h => h) (fun q h => h) (fun u t H1 locs1 e1 _ hp hB _ _ hS1 => kk u.1 u.2 H1 locs1 hp ⟨by rw [← e1]; exact hB.1, hB.2.1, hS1⟩)
theorem gr_I {post : (Nat → Nat) × gw_W → Prop} {i : Nat} (hC : gr_C l y b L d mc ms (.ref (ad i) :: as) G A ad wk wv w post) (hx : p.tables.exec = Jvm.exec) (hb : c.code = cc) (hml : c.maxLocals = nL) (hT : gw_T own G s m args) (hX : xc A wk wv s s.heap) (hR2 : kc_R2 wk s) (hA : ∀ q, s.heap.size ≤ q → A q) (hH : gw_H G A s.heap H locs ad w)
    (hcode : Cond.code y b L none ∈ lw_all) (hini : Cond.initialized y.cls ∈ lw_all) (hlk : Cond.methodLink own idx y ∈ lw_all) (hin : Cond.instanceMethod y ∈ lw_all) (hy1 : y.name = "<init>") (hd : y.cls ≠ "java/lang/invoke/MethodHandle" ∧ y.cls ≠ "java/lang/invoke/VarHandle" ∧ (parseMethodDescriptor y.desc).map (fun d => d.parameters.length) = some n) (hR : d + 1 ≤ R.frames ∧ 8 + (L + 11) + 60 * d ≤ R.locals)
    (hn : as.length = n) (hsz : ls.size = nL) (hst : st = as.reverse ++ .ref (ad i) :: rest) (hcat : (rest.map fun v => v.category).sum ≤ 8) (hdg : decode cc pc = .ok (.invokespecial idx, 3)) (hf : cells + mc ≤ R.cells ∧ slots + ms ≤ R.slots)
    (kk : ∀ (ad' : Nat → Nat) (w' : gw_W) (H1 : Heap) (locs1 : List Loc), post (ad', w') → gw_H G A s.heap H1 locs1 ad' w' → W p l e R s m args below meth c H1 locs1 (cells + mc) (slots + ms) Q (F0 m (pc + 3) ls rest)) : W p l e R s m args below meth c H locs cells slots Q (F0 m pc ls st) := by
  have hr := va_runI (H := H) (locs := locs) (cells := cells) (slots := slots) (below := below) (e := e) (meth := meth) (g := F0 m pc ls st) (b := ad i) (As := as) (rest := rest) ⟨hx, hb, hml, hT.1, hT.2.1⟩ hC (cwI n hT.2.1 (lw_meth hcode) rfl rfl rfl (hT.2.1 _ hini) (hT.2.1 _ hlk) (hT.2.1 _ hin) hy1 hd hR)
    ⟨gr_blind, fun U hU hW => ⟨rfl, ⟨⟨by rw [hU]; exact hH.1, hH.2.1, hT.2.2.warm hW⟩, hX.at hW hH.2.2 hU, fun q hq => hA q (Nat.le_trans (by rw [hU]; exact hH.2.2.1) hq)⟩, hR2.warm hW⟩⟩ rfl hn hsz hst (lv_room hcat) hdg hf
  exact va_callv hr hH.2.2 (fun q _ h => h) (fun q h => h) (fun u t H1 locs1 e1 _ hp hB _ _ hS1 => kk u.1 u.2 H1 locs1 hp ⟨by rw [← e1]; exact hB.1, hB.2.1, hS1⟩)
end GRC

theorem dv_X1 : ∀ j, j < 21 → defaultValue (tyX1 j) = vp_V [.null, .null, .null, .null, .null, .null, .null, .null, .null, .null, .null, .null, .int 0, .int 0, .int 0, .int 0, .int 0, .int 0, .int 0, .int 0, .int 0] j := by
  intro j hj
  rcases (show j = 0 ∨ j = 1 ∨ j = 2 ∨ j = 3 ∨ j = 4 ∨ j = 5 ∨ j = 6 ∨ j = 7 ∨ j = 8 ∨ j = 9 ∨ j = 10 ∨ j = 11 ∨ j = 12 ∨ j = 13 ∨ j = 14 ∨ j = 15 ∨ j = 16 ∨ j = 17 ∨ j = 18 ∨ j = 19 ∨ j = 20 by omega) with rfl | rfl | rfl | rfl | rfl | rfl | rfl | rfl | rfl | rfl | rfl | rfl | rfl | rfl | rfl | rfl | rfl | rfl | rfl | rfl | rfl <;> rfl
theorem dv_X2 : ∀ j, j < 6 → defaultValue (tyX2 j) = vp_V [.null, .null, .null, .int 0, .int 0, .int 0] j := by
  intro j hj
  rcases (show j = 0 ∨ j = 1 ∨ j = 2 ∨ j = 3 ∨ j = 4 ∨ j = 5 by omega) with rfl | rfl | rfl | rfl | rfl | rfl <;> rfl
theorem dv_X3 : ∀ j, j < 7 → defaultValue (tyX3 j) = vp_V [.null, .null, .null, .null, .null, .int 0, .int 0] j := by
  intro j hj
  rcases (show j = 0 ∨ j = 1 ∨ j = 2 ∨ j = 3 ∨ j = 4 ∨ j = 5 ∨ j = 6 by omega) with rfl | rfl | rfl | rfl | rfl | rfl | rfl <;> rfl
theorem dv_X4 : ∀ j, j < 36 → defaultValue (tyX4 j) = vp_V [.int 0, .int 0, .int 0, .int 0, .int 0, .null, .null, .null, .null, .null, .int 0, .int 0, .null, .null, .null, .null, .null, .int 0, .null, .null, .null, .null, .null, .null, .int 0, .int 0, .int 0, .int 0, .int 0, .null, .null, .null, .null, .null, .int 0, .null] j := by
  intro j hj
  rcases (show j = 0 ∨ j = 1 ∨ j = 2 ∨ j = 3 ∨ j = 4 ∨ j = 5 ∨ j = 6 ∨ j = 7 ∨ j = 8 ∨ j = 9 ∨ j = 10 ∨ j = 11 ∨ j = 12 ∨ j = 13 ∨ j = 14 ∨ j = 15 ∨ j = 16 ∨ j = 17 ∨ j = 18 ∨ j = 19 ∨ j = 20 ∨ j = 21 ∨ j = 22 ∨ j = 23 ∨ j = 24 ∨ j = 25 ∨ j = 26 ∨ j = 27 ∨ j = 28 ∨ j = 29 ∨ j = 30 ∨ j = 31 ∨ j = 32 ∨ j = 33 ∨ j = 34 ∨ j = 35 by omega) with rfl | rfl | rfl | rfl | rfl | rfl | rfl | rfl | rfl | rfl | rfl | rfl | rfl | rfl | rfl | rfl | rfl | rfl | rfl | rfl | rfl | rfl | rfl | rfl | rfl | rfl | rfl | rfl | rfl | rfl | rfl | rfl | rfl | rfl | rfl | rfl <;> rfl
set_option maxHeartbeats 1000000 in
set_option maxRecDepth 100000 in
theorem c_J0_init2 (l : Launch) (G : gw_G) (A : Nat → Prop) (ad wk wv : Nat → Nat) (w : gw_W) (i : Nat) (hi : w i = some (.inr (3, [.null, .null, .null, .null, .null, .int 0, .int 0]))) : gv_C l yJ0_init_2 cJ0_init_2 5 2 0 0 [.ref (ad i), .null, .null, .int 0, .int 0] G A ad wk wv w (fun u => u = (ad, va_up w i (some (.inr (3, [.null, .null, .null, .null, .null, .int 0, .int 0]))))) := by
  refine gv_of (by decide) rfl (Nat.le_of_ble_eq_true rfl) ?_
  intro p e s m args below meth c ls X hini hH hl
  obtain ⟨hx, hb, hml, hT, hr, hlocks, hxc, hA⟩ := id X
  have hl : lv_has ls 5 [(0, .ref (ad i)), (1, .null), (2, .null), (3, .int 0), (4, .int 0)] := hl
  refine lv_aload_n hx hb dJ0_init_2_0 rfl (lv_at hl 0 rfl) ?_
  refine W.objInit hx hb hT.1 (hT.2.1 _ q102) (hT.2.1 _ q61) (hT.2.1 _ q62) rfl (by rw [hml]; exact hl.1) rfl dJ0_init_2_1 (Nat.le_of_ble_eq_true rfl) (Nat.le_of_ble_eq_true rfl) ?_
  show W p l e _ s m args below meth c _ _ _ _ _ (F0 m 4 ls [])
  refine lv_aload_n hx hb dJ0_init_2_4 rfl (lv_at hl 0 rfl) ?_
  refine lv_aload_n hx hb dJ0_init_2_5 rfl (lv_at hl 0 rfl) ?_
  refine gw_putR (C := RX3) (ref := RJ0) (T := TX3) (N := 7) (ci := 3) (fs := [.null, .null, .null, .null, .null, .int 0, .int 0]) (v := .ref (ad i)) hx hb hT hH i hi rfl in_X3 tyX3 tyX3_ok nmX3 0 (by decide) rfl rfl q138 rfl rfl (Nat.le_of_ble_eq_true rfl) dJ0_init_2_6 (fun H locs hH => ?_)
  replace hH : gw_H G A s.heap H locs ad (va_up w i (some (.inr (3, [.ref (ad i), .null, .null, .null, .null, .int 0, .int 0])))) := by exact hH
  refine lv_aload_n hx hb dJ0_init_2_9 rfl (lv_at hl 0 rfl) ?_
  obtain ⟨zv1, hz1, hZ1⟩ := hxc.2.1.1.z (hT.2.1 _ q35)
  refine va_gets (C := RJ0) (ref := RJ0) hx hb hZ1 hH.2.2 hT.1 (hT.2.1 _ q103) (fun _ h => h) dJ0_init_2_10 ?_
  refine gw_putR (C := RX3) (ref := RJ0) (T := TX3) (N := 7) (ci := 3) (fs := [.ref (ad i), .null, .null, .null, .null, .int 0, .int 0]) (v := zv1) hx hb hT hH i xx_as rfl in_X3 tyX3 tyX3_ok nmX3 1 (by decide) rfl rfl q139 (by rcases hz1 with h | ⟨t, h⟩ <;> rw [h] <;> rfl) (by rcases hz1 with h | ⟨t, h⟩ <;> rw [h] <;> rfl) (Nat.le_of_ble_eq_true rfl) dJ0_init_2_13 (fun H locs hH => ?_)
  replace hH : gw_H G A s.heap H locs ad (va_up w i (some (.inr (3, [.ref (ad i), zv1, .null, .null, .null, .int 0, .int 0])))) := by rw [va_up_s] at hH; exact hH
  refine lv_aload_n hx hb dJ0_init_2_16 rfl (lv_at hl 0 rfl) ?_
  obtain ⟨zv2, hz2, hZ2⟩ := hxc.2.1.2.z (hT.2.1 _ q35)
  refine va_gets (C := RJ0) (ref := RJ0) hx hb hZ2 hH.2.2 hT.1 (hT.2.1 _ q105) (fun _ h => h) dJ0_init_2_17 ?_
  refine gw_putR (C := RX3) (ref := RJ0) (T := TX3) (N := 7) (ci := 3) (fs := [.ref (ad i), zv1, .null, .null, .null, .int 0, .int 0]) (v := zv2) hx hb hT hH i xx_as rfl in_X3 tyX3 tyX3_ok nmX3 2 (by decide) rfl rfl q140 (by rcases hz2 with h | ⟨t, h⟩ <;> rw [h] <;> rfl) (by rcases hz2 with h | ⟨t, h⟩ <;> rw [h] <;> rfl) (Nat.le_of_ble_eq_true rfl) dJ0_init_2_20 (fun H locs hH => ?_)
  replace hH : gw_H G A s.heap H locs ad (va_up w i (some (.inr (3, [.ref (ad i), zv1, zv2, .null, .null, .int 0, .int 0])))) := by rw [va_up_s] at hH; exact hH
  refine lv_iload hx hb dJ0_init_2_23 (lv_at hl 4 rfl) ?_
  refine lv_if_eq (tgt := 36) hx hb dJ0_init_2_25 (by decide) (fun c_25 => ?_) (fun c_25 => ?_)
  · skip
    refine lv_aload_n hx hb dJ0_init_2_36 rfl (lv_at hl 0 rfl) ?_
    refine lv_null hx hb dJ0_init_2_37 ?_
    refine gw_putR (C := RX3) (ref := RJ0) (T := TX3) (N := 7) (ci := 3) (fs := [.ref (ad i), zv1, zv2, .null, .null, .int 0, .int 0]) (v := .null) hx hb hT hH i xx_as rfl in_X3 tyX3 tyX3_ok nmX3 1 (by decide) rfl rfl q139 rfl rfl (Nat.le_of_ble_eq_true rfl) dJ0_init_2_38 (fun H locs hH => ?_)
    replace hH : gw_H G A s.heap H locs ad (va_up w i (some (.inr (3, [.ref (ad i), .null, zv2, .null, .null, .int 0, .int 0])))) := by rw [va_up_s] at hH; exact hH
    refine lv_aload_n hx hb dJ0_init_2_41 rfl (lv_at hl 0 rfl) ?_
    refine lv_aload_nN hx hb dJ0_init_2_42 rfl (lv_at hl 1 rfl) ?_
    refine gw_putR (C := RX3) (ref := RJ0) (T := TX3) (N := 7) (ci := 3) (fs := [.ref (ad i), .null, zv2, .null, .null, .int 0, .int 0]) (v := .null) hx hb hT hH i xx_as rfl in_X3 tyX3 tyX3_ok nmX3 3 (by decide) rfl rfl q137 rfl rfl (Nat.le_of_ble_eq_true rfl) dJ0_init_2_43 (fun H locs hH => ?_)
    replace hH : gw_H G A s.heap H locs ad (va_up w i (some (.inr (3, [.ref (ad i), .null, zv2, .null, .null, .int 0, .int 0])))) := by rw [va_up_s] at hH; exact hH
    refine lv_aload_n hx hb dJ0_init_2_46 rfl (lv_at hl 0 rfl) ?_
    refine lv_aload_nN hx hb dJ0_init_2_47 rfl (lv_at hl 2 rfl) ?_
    refine gw_putR (C := RX3) (ref := RJ0) (T := TX3) (N := 7) (ci := 3) (fs := [.ref (ad i), .null, zv2, .null, .null, .int 0, .int 0]) (v := .null) hx hb hT hH i xx_as rfl in_X3 tyX3 tyX3_ok nmX3 0 (by decide) rfl rfl q138 rfl rfl (Nat.le_of_ble_eq_true rfl) dJ0_init_2_48 (fun H locs hH => ?_)
    replace hH : gw_H G A s.heap H locs ad (va_up w i (some (.inr (3, [.null, .null, zv2, .null, .null, .int 0, .int 0])))) := by rw [va_up_s] at hH; exact hH
    refine lv_iload_n hx hb dJ0_init_2_51 rfl (lv_at hl 3 rfl) ?_
    refine lv_if_ne (tgt := 60) hx hb dJ0_init_2_52 (by decide) (fun c_52 => ?_) (fun c_52 => ?_)
    · skip
      exact absurd c_52 (by decide)
    · skip
      refine lv_aload_n hx hb dJ0_init_2_55 rfl (lv_at hl 0 rfl) ?_
      refine lv_null hx hb dJ0_init_2_56 ?_
      refine gw_putR (C := RX3) (ref := RJ0) (T := TX3) (N := 7) (ci := 3) (fs := [.null, .null, zv2, .null, .null, .int 0, .int 0]) (v := .null) hx hb hT hH i xx_as rfl in_X3 tyX3 tyX3_ok nmX3 2 (by decide) rfl rfl q140 rfl rfl (Nat.le_of_ble_eq_true rfl) dJ0_init_2_57 (fun H locs hH => ?_)
      replace hH : gw_H G A s.heap H locs ad (va_up w i (some (.inr (3, [.null, .null, .null, .null, .null, .int 0, .int 0])))) := by rw [va_up_s] at hH; exact hH
      exact gv_rv hx hb hr hlocks hT hH dJ0_init_2_60 rfl (Nat.le_of_ble_eq_true rfl) (Nat.le_of_ble_eq_true rfl)
  · skip
    exact absurd c_25 (by decide)

set_option maxHeartbeats 1000000 in
set_option maxRecDepth 100000 in
theorem c_J1_init (l : Launch) (G : gw_G) (A : Nat → Prop) (ad wk wv : Nat → Nat) (w : gw_W) (i : Nat) (hi : w i = some (.inr (3, [.null, .null, .null, .null, .null, .int 0, .int 0]))) : gv_C l yJ1_init cJ1_init 5 3 0 0 [.ref (ad i), .null, .null, .int 0, .int 0] G A ad wk wv w (fun u => u = (ad, va_up w i (some (.inr (3, [.null, .null, .null, .null, .null, .int 0, .int 0]))))) := by
  refine gv_of (by decide) rfl (Nat.le_of_ble_eq_true rfl) ?_
  intro p e s m args below meth c ls X hini hH hl
  obtain ⟨hx, hb, hml, hT, hr, hlocks, hxc, hA⟩ := id X
  have hl : lv_has ls 5 [(0, .ref (ad i)), (1, .null), (2, .null), (3, .int 0), (4, .int 0)] := hl
  refine lv_aload_n hx hb dJ1_init_0 rfl (lv_at hl 0 rfl) ?_
  refine lv_aload_nN hx hb dJ1_init_1 rfl (lv_at hl 1 rfl) ?_
  refine lv_aload_nN hx hb dJ1_init_2 rfl (lv_at hl 2 rfl) ?_
  refine lv_iload_n hx hb dJ1_init_3 rfl (lv_at hl 3 rfl) ?_
  refine lv_iload hx hb dJ1_init_4 (lv_at hl 4 rfl) ?_
  refine gv_I (n := 4) (i := i) (c_J0_init2 l G A ad wk wv w i hi) hx hb hml hT hxc hA hH q133 q35 q131 q132 rfl (by decide +kernel) ⟨Nat.le_of_ble_eq_true rfl, Nat.le_of_ble_eq_true rfl⟩ rfl hl.1 rfl (Nat.le_of_ble_eq_true rfl) dJ1_init_6 ⟨Nat.le_of_ble_eq_true rfl, Nat.le_of_ble_eq_true rfl⟩ (fun ad2 w2 H locs hp hH => ?_)
  rw [(Prod.mk.inj hp).1, (Prod.mk.inj hp).2] at hH
  exact gv_rv hx hb hr hlocks hT hH dJ1_init_9 rfl (Nat.le_of_ble_eq_true rfl) (Nat.le_of_ble_eq_true rfl)

set_option maxHeartbeats 1000000 in
set_option maxRecDepth 100000 in
theorem c_J2_init (l : Launch) (G : gw_G) (A : Nat → Prop) (ad wk wv : Nat → Nat) (w : gw_W) (i : Nat) (hi : w i = some (.inr (3, [.null, .null, .null, .null, .null, .int 0, .int 0]))) : gv_C l yJ2_init cJ2_init 5 4 0 0 [.ref (ad i), .null, .null, .int 0, .int 0] G A ad wk wv w (fun u => u = (ad, va_up w i (some (.inr (3, [.null, .null, .null, .null, .null, .int 0, .int 0]))))) := by
  refine gv_of (by decide) rfl (Nat.le_of_ble_eq_true rfl) ?_
  intro p e s m args below meth c ls X hini hH hl
  obtain ⟨hx, hb, hml, hT, hr, hlocks, hxc, hA⟩ := id X
  have hl : lv_has ls 5 [(0, .ref (ad i)), (1, .null), (2, .null), (3, .int 0), (4, .int 0)] := hl
  refine lv_aload_n hx hb dJ2_init_0 rfl (lv_at hl 0 rfl) ?_
  refine lv_aload_nN hx hb dJ2_init_1 rfl (lv_at hl 1 rfl) ?_
  refine lv_aload_nN hx hb dJ2_init_2 rfl (lv_at hl 2 rfl) ?_
  refine lv_iload_n hx hb dJ2_init_3 rfl (lv_at hl 3 rfl) ?_
  refine lv_iload hx hb dJ2_init_4 (lv_at hl 4 rfl) ?_
  refine gv_I (n := 4) (i := i) (c_J1_init l G A ad wk wv w i hi) hx hb hml hT hxc hA hH q130 q36 q128 q129 rfl (by decide +kernel) ⟨Nat.le_of_ble_eq_true rfl, Nat.le_of_ble_eq_true rfl⟩ rfl hl.1 rfl (Nat.le_of_ble_eq_true rfl) dJ2_init_6 ⟨Nat.le_of_ble_eq_true rfl, Nat.le_of_ble_eq_true rfl⟩ (fun ad2 w2 H locs hp hH => ?_)
  rw [(Prod.mk.inj hp).1, (Prod.mk.inj hp).2] at hH
  exact gv_rv hx hb hr hlocks hT hH dJ2_init_9 rfl (Nat.le_of_ble_eq_true rfl) (Nat.le_of_ble_eq_true rfl)

set_option maxHeartbeats 1000000 in
set_option maxRecDepth 100000 in
theorem c_X3_init (l : Launch) (G : gw_G) (A : Nat → Prop) (ad wk wv : Nat → Nat) (w : gw_W) (i : Nat) (hi : w i = some (.inr (3, [.null, .null, .null, .null, .null, .int 0, .int 0]))) : gv_C l yX3_init cX3_init 1 5 0 0 [.ref (ad i)] G A ad wk wv w (fun u => u = (ad, va_up w i (some (.inr (3, [.null, .null, .null, .null, .null, .int 0, .int 0]))))) := by
  refine gv_of (by decide) rfl (Nat.le_of_ble_eq_true rfl) ?_
  intro p e s m args below meth c ls X hini hH hl
  obtain ⟨hx, hb, hml, hT, hr, hlocks, hxc, hA⟩ := id X
  have hl : lv_has ls 1 [(0, .ref (ad i))] := hl
  refine lv_aload_n hx hb dX3_init_0 rfl (lv_at hl 0 rfl) ?_
  refine lv_null hx hb dX3_init_1 ?_
  refine lv_null hx hb dX3_init_2 ?_
  refine lv_iconst (v := 0) hx hb dX3_init_3 (by decide) ?_
  refine lv_iconst (v := 0) hx hb dX3_init_4 (by decide) ?_
  refine gv_I (n := 4) (i := i) (c_J2_init l G A ad wk wv w i hi) hx hb hml hT hxc hA hH q127 q37 q125 q126 rfl (by decide +kernel) ⟨Nat.le_of_ble_eq_true rfl, Nat.le_of_ble_eq_true rfl⟩ rfl hl.1 rfl (Nat.le_of_ble_eq_true rfl) dX3_init_5 ⟨Nat.le_of_ble_eq_true rfl, Nat.le_of_ble_eq_true rfl⟩ (fun ad2 w2 H locs hp hH => ?_)
  rw [(Prod.mk.inj hp).1, (Prod.mk.inj hp).2] at hH
  exact gv_rv hx hb hr hlocks hT hH dX3_init_8 rfl (Nat.le_of_ble_eq_true rfl) (Nat.le_of_ble_eq_true rfl)
