/-! String constants and the JDK's methods on them -/
def tk_F : Nat → Prop := fun _ => False
def tk_S (a b n : Nat) (f : Nat → Int32) (A : Nat → Prop) (U : State) (H : Heap) : Prop :=
  va_O "java/lang/String" a A U H ∧ va_OF "java/lang/String" "coder" "B" (.int 0) a A U H ∧ va_OF "java/lang/String" "value" "[B" (.ref b) a A U H ∧ va_T .byte b n (fun j => .int (f j)) A U H ∧ va_Z "java/lang/String" "COMPACT_STRINGS" "Z" (.int 1) A U H ∧ va_Zq "jdk/internal/util/Preconditions" "SIOOBE_FORMATTER" "Ljava/util/function/BiFunction;" A U H
theorem tk_S.moved {a b n : Nat} {f : Nat → Int32} {A : Nat → Prop} {u U : State} {H : Heap} (hvm : u.vm.Alike U.vm) (h : tk_S a b n f A u H) : tk_S a b n f A U H :=
  ⟨va_O.moved hvm h.1, va_OF.moved hvm h.2.1, va_OF.moved hvm h.2.2.1, va_T.moved hvm h.2.2.2.1, va_Z.moved hvm h.2.2.2.2.1, va_Zq.moved hvm h.2.2.2.2.2⟩
theorem tk_S.kept {a b n : Nat} {f : Nat → Int32} {A : Nat → Prop} {U : State} {H H1 : Heap} (h : tk_S a b n f A U H) (hq : ∀ a : Nat, a < H.size → ¬ A a → H1[a]? = H[a]?) : tk_S a b n f A U H1 :=
  ⟨h.1.kept hq, h.2.1.kept hq, h.2.2.1.kept hq, h.2.2.2.1.kept hq, h.2.2.2.2.1.kept hq, h.2.2.2.2.2.kept hq⟩
theorem tk_S.narrow {a b n : Nat} {f : Nat → Int32} {A B : Nat → Prop} {U : State} {H : Heap} (h : tk_S a b n f A U H) (hAB : ∀ q, B q → A q) : tk_S a b n f B U H :=
  ⟨h.1.narrow hAB, h.2.1.narrow hAB, h.2.2.1.narrow hAB, h.2.2.2.1.narrow hAB, h.2.2.2.2.1.narrow hAB, h.2.2.2.2.2.narrow hAB⟩
abbrev tk_B (a b n : Nat) (f : Nat → Int32) : State → Prop := fun U => tk_S a b n f tk_F U U.heap
def tk_Ci (l : Launch) (y : MethodName) (c : ByteArray) (L : Nat) (ret : Option FieldType) (d : Nat) (av : List Value) (B : State → Prop) (Post : Int32 → Prop) : Prop :=
  Met l y (ws_ y c L ret) (mm_rm d) (va_Pc av B) (vp_Si Post) 0 0 (fun _ => False)
def tk_Cv (l : Launch) (y : MethodName) (c : ByteArray) (L : Nat) (d : Nat) (av : List Value) (B : State → Prop) : Prop :=
  Met l y (ws_ y c L none) (mm_rm d) (va_Pc av B) (va_Sv (fun _ => True)) 0 0 (fun _ => False)
theorem tk_blind (a b n : Nat) (f : Nat → Int32) (av : List Value) : FrameBlind (va_Pc av (tk_B a b n f)) := by
  rintro x U g mk ⟨h0, h1⟩
  exact ⟨h0, tk_S.moved (u := U) (U := U.calling g mk x) (Vm.Alike.refl U.vm) h1⟩
section TK
variable {p : Program} {l : Launch} {e : Env} {R : Room} {s : State} {m : MethodId} {args : Array Value} {below : List Frame} {meth : Method} {c : Code} {H : Heap} {locs : List Loc} {cells slots : Nat} {Q : State → Prop}
variable {cc : ByteArray} {pc nL : Nat} {ls : Array Slot} {rest st : List Value} {y : MethodName} {b : ByteArray} {L d idx n : Nat} {ret : Option FieldType} {own C : String} {ty : FieldType} {av : List Value} {a : Nat} {B : State → Prop}
theorem tk_ofi {Post : Int32 → Prop} (hy : plainName y.cls = true) (hL : (lg_sl av).length ≤ L)
    (body : ∀ (p : Program) (e : Env) (s : State) (m : MethodId) (args : Array Value) (below : List Frame) (meth : Method) (c : Code) (ls : Array Slot), gx_S y.cls b L ret p s m args meth c → B s → lv_has ls L (lv_args 0 av) →
      W p l e (mm_rm d) s m args below meth c s.heap [] 0 0 (MQ below (vp_Si Post) args s 0 0 (fun _ => False)) (F0 m 0 ls [])) : tk_Ci l y b L ret d av B Post := by
  refine Met.ofW (cc := b) (maxL := L) (ret := ret) hy rfl ?_
  intro p e s m args below meth c s₁ B1 hml hv
  obtain ⟨rfl, hB⟩ := hv
  have hts := atoms_spec (ws := ws_ y b L ret) B1.pre
  have hl := lv_entry av (n := L) hL
  rw [lg_entry_eq]
  exact body p e s m _ below meth c _ ⟨B1.exec, B1.bytes, hml, findClass_of_methodNamed B1.named, fun w h => hts w (List.mem_cons_of_mem _ h), B1.returns, B1.notSynchronized⟩ hB hl
theorem tk_ofv (hy : plainName y.cls = true) (hL : (lg_sl av).length ≤ L)
    (body : ∀ (p : Program) (e : Env) (s : State) (m : MethodId) (args : Array Value) (below : List Frame) (meth : Method) (c : Code) (ls : Array Slot), gx_S y.cls b L none p s m args meth c → B s → lv_has ls L (lv_args 0 av) →
      W p l e (mm_rm d) s m args below meth c s.heap [] 0 0 (MQ below (va_Sv (fun _ => True)) args s 0 0 (fun _ => False)) (F0 m 0 ls [])) : tk_Cv l y b L d av B := by
  refine Met.ofW (cc := b) (maxL := L) (ret := none) hy rfl ?_
  intro p e s m args below meth c s₁ B1 hml hv
  obtain ⟨rfl, hB⟩ := hv
  have hts := atoms_spec (ws := ws_ y b L none) B1.pre
  have hl := lv_entry av (n := L) hL
  rw [lg_entry_eq]
  exact body p e s m _ below meth c _ ⟨B1.exec, B1.bytes, hml, findClass_of_methodNamed B1.named, fun w h => hts w (List.mem_cons_of_mem _ h), B1.returns, B1.notSynchronized⟩ hB hl
theorem tk_rv (hx : p.tables.exec = Jvm.exec) (hb : c.code = cc) (hr : meth.sig.returnType = none) (hlocks : meth.locks = false) (hd : decode cc pc = .ok (.return_, 1)) :
    W p l e R s m args below meth c s.heap [] 0 0 (MQ below (va_Sv (fun _ => True)) args s 0 0 (fun _ => False)) (F0 m pc ls []) :=
  W.vret hx hb hr (fun t ht hW => ⟨rfl, trivial, ht⟩) (fun q h => by cases h) hd
theorem tk_cS {Post : Int32 → Prop} (hC : tk_Ci l y b L ret d av B Post) (hx : p.tables.exec = Jvm.exec) (hb : c.code = cc) (hml : c.maxLocals = nL) (ho : s.vm.findClass own = some m.cls) (hts : ∀ w ∈ lw_all, w.before args s = true) (hbl : FrameBlind (va_Pc av B)) (hB : ∀ U : State, U.heap = H → s.WarmedH U.vm → B U)
    (hq : GoodIn lw_all (va_wsS own idx y (ws_ y b L ret))) (hd : y.cls ≠ "java/lang/invoke/MethodHandle" ∧ y.cls ≠ "java/lang/invoke/VarHandle" ∧ (parseMethodDescriptor y.desc).map (fun d => d.parameters.length) = some n) (hR : d + 1 ≤ R.frames ∧ 8 + (L + 11) + 60 * d ≤ R.locals) (hn : av.length = n) (hsz : ls.size = nL) (hst : st = av.reverse ++ rest) (hcat : (rest.map fun v => v.category).sum ≤ 8) (hdg : decode cc pc = .ok (.invokestatic idx, 3)) (hf : cells ≤ R.cells ∧ slots ≤ R.slots)
    (kk : ∀ (r : Int32), Post r → W p l e R s m args below meth c H locs cells slots Q (F0 m (pc + 3) ls (.int r :: rest))) : W p l e R s m args below meth c H locs cells slots Q (F0 m pc ls st) := by
  have hr := va_runS (H := H) (locs := locs) (cells := cells) (slots := slots) (below := below) (e := e) (meth := meth) (g := F0 m pc ls st) (As := av) (rest := rest) ⟨hx, hb, hml, ho, hts⟩ hC (va_cwS n hts hq rfl rfl rfl hd hR) ⟨hbl, fun U hU hW => ⟨rfl, hB U hU hW⟩⟩ rfl hn hsz hst (lv_room hcat) hdg hf
  intro T hTT X
  obtain ⟨v, st₀, t, T', L, h0, X', hL, e1, e2, ⟨r, hv, hp, hh⟩, stp⟩ := hr T hTT X
  cases hv
  obtain ⟨t2, a1, b1⟩ := kk r hp T' (by rw [e1, hh, h0]) (Stand.forget X' (fun q h => (hL q h).elim))
  exact ⟨t2, stp t2 a1, b1⟩
theorem tk_cSv (hC : tk_Cv l y b L d av B) (hx : p.tables.exec = Jvm.exec) (hb : c.code = cc) (hml : c.maxLocals = nL) (ho : s.vm.findClass own = some m.cls) (hts : ∀ w ∈ lw_all, w.before args s = true) (hbl : FrameBlind (va_Pc av B)) (hB : ∀ U : State, U.heap = H → s.WarmedH U.vm → B U)
    (hq : GoodIn lw_all (va_wsS own idx y (ws_ y b L none))) (hd : y.cls ≠ "java/lang/invoke/MethodHandle" ∧ y.cls ≠ "java/lang/invoke/VarHandle" ∧ (parseMethodDescriptor y.desc).map (fun d => d.parameters.length) = some n) (hR : d + 1 ≤ R.frames ∧ 8 + (L + 11) + 60 * d ≤ R.locals) (hn : av.length = n) (hsz : ls.size = nL) (hst : st = av.reverse ++ rest) (hcat : (rest.map fun v => v.category).sum ≤ 8) (hdg : decode cc pc = .ok (.invokestatic idx, 3)) (hf : cells ≤ R.cells ∧ slots ≤ R.slots)
    (kk : W p l e R s m args below meth c H locs cells slots Q (F0 m (pc + 3) ls rest)) : W p l e R s m args below meth c H locs cells slots Q (F0 m pc ls st) := by
  have hr := va_runS (H := H) (locs := locs) (cells := cells) (slots := slots) (below := below) (e := e) (meth := meth) (g := F0 m pc ls st) (As := av) (rest := rest) ⟨hx, hb, hml, ho, hts⟩ hC (va_cwS n hts hq rfl rfl rfl hd hR) ⟨hbl, fun U hU hW => ⟨rfl, hB U hU hW⟩⟩ rfl hn hsz hst (lv_room hcat) hdg hf
  intro T hTT X
  obtain ⟨v, st₀, t, T', L, h0, X', hL, e1, e2, ⟨hv, -, hh⟩, stp⟩ := hr T hTT X
  cases hv
  obtain ⟨t2, a1, b1⟩ := kk T' (by rw [e1, hh, h0]) (Stand.forget X' (fun q h => (hL q h).elim))
  exact ⟨t2, stp t2 a1, b1⟩
theorem tk_cV {Post : Int32 → Prop} (hC : tk_Ci l y b L ret d (.ref a :: av) B Post) (hx : p.tables.exec = Jvm.exec) (hb : c.code = cc) (hml : c.maxLocals = nL) (ho : s.vm.findClass own = some m.cls) (hts : ∀ w ∈ lw_all, w.before args s = true) (hbl : FrameBlind (va_Pc (.ref a :: av) B)) (hB : ∀ U : State, U.heap = H → s.WarmedH U.vm → B U) (hrec : ∃ cell : Cell, H[a]? = some cell ∧ cell.vm.isStatics = false ∧ s.vm.findClass C = some cell.cls)
    (hq : GoodIn lw_all (wsV own idx C y (ws_ y b L ret))) (hd : y.cls = C ∧ y.cls ≠ "java/lang/invoke/MethodHandle" ∧ y.cls ≠ "java/lang/invoke/VarHandle" ∧ (parseMethodDescriptor y.desc).map (fun d => d.parameters.length) = some n) (hR : d + 1 ≤ R.frames ∧ 8 + (L + 11) + 60 * d ≤ R.locals) (hn : av.length = n) (hsz : ls.size = nL) (hst : st = av.reverse ++ .ref a :: rest) (hcat : (rest.map fun v => v.category).sum ≤ 8) (hdg : decode cc pc = .ok (.invokevirtual idx, 3)) (hf : cells ≤ R.cells ∧ slots ≤ R.slots)
    (kk : ∀ (r : Int32), Post r → W p l e R s m args below meth c H locs cells slots Q (F0 m (pc + 3) ls (.int r :: rest))) : W p l e R s m args below meth c H locs cells slots Q (F0 m pc ls st) := by
  have hr := va_runV (H := H) (locs := locs) (cells := cells) (slots := slots) (below := below) (e := e) (meth := meth) (g := F0 m pc ls st) (As := av) (rest := rest) ⟨hx, hb, hml, ho, hts⟩ hC (cwV n hts hq rfl rfl rfl hd hR) ⟨hbl, hrec, fun U hU hW => ⟨rfl, hB U hU hW⟩⟩ rfl hn hsz hst (lv_room hcat) hdg hf
  intro T hTT X
  obtain ⟨v, st₀, t, T', L, h0, X', hL, e1, e2, ⟨r, hv, hp, hh⟩, stp⟩ := hr T hTT X
  cases hv
  obtain ⟨t2, a1, b1⟩ := kk r hp T' (by rw [e1, hh, h0]) (Stand.forget X' (fun q h => (hL q h).elim))
  exact ⟨t2, stp t2 a1, b1⟩
end TK

set_option maxHeartbeats 1000000 in
set_option maxRecDepth 100000 in
theorem c_J7_coder (l : Launch) (a b n : Nat) (f : Nat → Int32) : tk_Ci l yJ7_coder cJ7_coder 1 (some .byte) 1 [.ref a] (tk_B a b n f) (fun r => 0 = r) := by
  refine tk_ofi (by decide) (Nat.le_of_ble_eq_true rfl) ?_
  intro p e s m args below meth c ls X hB hl
  obtain ⟨hx, hb, hml, ho, hts, hr, hlocks⟩ := X
  have hl : lv_has ls 1 [(0, .ref a)] := hl
  refine va_gets (A := tk_F) (v := .int 1) hx hb hB.2.2.2.2.1 va_S.rf ho (hts _ q703) (fun _ h => h) dJ7_coder_0 ?_
  refine lv_if_eq (tgt := 13) hx hb dJ7_coder_3 (by decide) (fun c_3 => ?_) (fun c_3 => ?_)
  · skip
    exact absurd c_3 (by decide)
  · skip
    refine lv_aload_n hx hb dJ7_coder_6 rfl (lv_at hl 0 rfl) ?_
    refine vk_getf (A := tk_F) (v := .int 0) hx hb hB.2.1 va_S.rf ho (hts _ q1114) (fun _ h => h) dJ7_coder_7 ?_
    refine lv_goto (tgt := 14) hx hb dJ7_coder_10 (by decide) ?_
    exact ss_ri hx hb hr hlocks rfl dJ7_coder_14 rfl

set_option maxHeartbeats 1000000 in
set_option maxRecDepth 100000 in
theorem c_J7_isLatin1 (l : Launch) (a b n : Nat) (f : Nat → Int32) : tk_Ci l yJ7_isLatin1 cJ7_isLatin1 1 (some .boolean) 1 [.ref a] (tk_B a b n f) (fun r => 1 = r) := by
  refine tk_ofi (by decide) (Nat.le_of_ble_eq_true rfl) ?_
  intro p e s m args below meth c ls X hB hl
  obtain ⟨hx, hb, hml, ho, hts, hr, hlocks⟩ := X
  have hl : lv_has ls 1 [(0, .ref a)] := hl
  refine va_gets (A := tk_F) (v := .int 1) hx hb hB.2.2.2.2.1 va_S.rf ho (hts _ q703) (fun _ h => h) dJ7_isLatin1_0 ?_
  refine lv_if_eq (tgt := 17) hx hb dJ7_isLatin1_3 (by decide) (fun c_3 => ?_) (fun c_3 => ?_)
  · skip
    exact absurd c_3 (by decide)
  · skip
    refine lv_aload_n hx hb dJ7_isLatin1_6 rfl (lv_at hl 0 rfl) ?_
    refine vk_getf (A := tk_F) (v := .int 0) hx hb hB.2.1 va_S.rf ho (hts _ q1114) (fun _ h => h) dJ7_isLatin1_7 ?_
    refine lv_if_ne (tgt := 17) hx hb dJ7_isLatin1_10 (by decide) (fun c_10 => ?_) (fun c_10 => ?_)
    · skip
      exact absurd c_10 (by decide)
    · skip
      refine lv_iconst (v := 1) hx hb dJ7_isLatin1_13 (by decide) ?_
      refine lv_goto (tgt := 18) hx hb dJ7_isLatin1_14 (by decide) ?_
      exact ss_ri hx hb hr hlocks rfl dJ7_isLatin1_18 rfl

set_option maxHeartbeats 1000000 in
set_option maxRecDepth 100000 in
theorem c_J7_length (l : Launch) (a b n : Nat) (f : Nat → Int32) (hn : n < 2 ^ 31) : tk_Ci l yJ7_length cJ7_length 1 (some .int) 2 [.ref a] (tk_B a b n f) (fun r => nI n = r) := by
  refine tk_ofi (by decide) (Nat.le_of_ble_eq_true rfl) ?_
  intro p e s m args below meth c ls X hB hl
  obtain ⟨hx, hb, hml, ho, hts, hr, hlocks⟩ := X
  have hl : lv_has ls 1 [(0, .ref a)] := hl
  refine lv_aload_n hx hb dJ7_length_0 rfl (lv_at hl 0 rfl) ?_
  refine vk_getf (A := tk_F) (v := .ref b) hx hb hB.2.2.1 va_S.rf ho (hts _ q1113) (fun _ h => h) dJ7_length_1 ?_
  refine va_tlen (A := tk_F) (v := nI n) hx hb hB.2.2.2.1 va_S.rf rfl dJ7_length_4 ?_
  refine lv_aload_n hx hb dJ7_length_5 rfl (lv_at hl 0 rfl) ?_
  refine tk_cV (n := 0) (c_J7_coder l a b n f) hx hb hml ho hts (tk_blind a b n f _) (fun U hU hW => by show tk_S a b n f tk_F U U.heap; rw [hU]; exact hB.moved hW.alike) ⟨_, hB.1.choose_spec.1, hB.1.choose_spec.2.1, hB.1.choose_spec.2.2.1⟩ (lw_V q699 q700 q701 q45 q702) (by decide +kernel) ⟨Nat.le_of_ble_eq_true rfl, Nat.le_of_ble_eq_true rfl⟩ rfl hl.1 rfl (Nat.le_of_ble_eq_true rfl) dJ7_length_6 ⟨Nat.le_refl _, Nat.le_refl _⟩ (fun r_6 hp_6 => ?_)
  obtain rfl := hp_6
  refine lv_ishr hx hb dJ7_length_9 ?_
  refine lv_as (z := nI n) (sc_shr0 hn) ?_
  exact ss_ri hx hb hr hlocks rfl dJ7_length_10 rfl

set_option maxHeartbeats 1000000 in
set_option maxRecDepth 100000 in
theorem c_J12_checkIndexN (l : Launch) (i n : Nat) (hi : i < n) (hn : n < 2 ^ 31) : ss_Ci l yJ12_checkIndex cJ12_checkIndex 3 (some .int) 1 [.int (nI i), .int (nI n), .null] (fun r => nI i = r) := by
  refine ss_ofi (by decide) (Nat.le_of_ble_eq_true rfl) ?_
  intro p e s m args below meth c ls X hl
  obtain ⟨hx, hb, hml, ho, hts, hr, hlocks⟩ := X
  have hl : lv_has ls 3 [(0, .int (nI i)), (1, .int (nI n)), (2, .null)] := hl
  refine lv_iload_n hx hb dJ12_checkIndex_0 rfl (lv_at hl 0 rfl) ?_
  refine lv_if_lt (tgt := 9) hx hb dJ12_checkIndex_1 (by decide) (fun c_1 => ?_) (fun c_1 => ?_)
  · skip
    exact absurd c_1 (nI_pos (by omega))
  · skip
    refine lv_iload_n hx hb dJ12_checkIndex_4 rfl (lv_at hl 0 rfl) ?_
    refine lv_iload_n hx hb dJ12_checkIndex_5 rfl (lv_at hl 1 rfl) ?_
    refine lv_icmp_lt (tgt := 16) hx hb dJ12_checkIndex_6 (by decide) (fun c_6 => ?_) (fun c_6 => ?_)
    · skip
      refine lv_iload_n hx hb dJ12_checkIndex_16 rfl (lv_at hl 0 rfl) ?_
      exact ss_ri hx hb hr hlocks rfl dJ12_checkIndex_17 rfl
    · skip
      exact absurd (nI_lt hi hn) c_6

set_option maxHeartbeats 1000000 in
set_option maxRecDepth 100000 in
theorem c_J12_checkIndexR (l : Launch) (i n : Nat) (hi : i < n) (hn : n < 2 ^ 31) (t : Nat) : ss_Ci l yJ12_checkIndex cJ12_checkIndex 3 (some .int) 1 [.int (nI i), .int (nI n), .ref t] (fun r => nI i = r) := by
  refine ss_ofi (by decide) (Nat.le_of_ble_eq_true rfl) ?_
  intro p e s m args below meth c ls X hl
  obtain ⟨hx, hb, hml, ho, hts, hr, hlocks⟩ := X
  have hl : lv_has ls 3 [(0, .int (nI i)), (1, .int (nI n)), (2, .ref t)] := hl
  refine lv_iload_n hx hb dJ12_checkIndex_0 rfl (lv_at hl 0 rfl) ?_
  refine lv_if_lt (tgt := 9) hx hb dJ12_checkIndex_1 (by decide) (fun c_1 => ?_) (fun c_1 => ?_)
  · skip
    exact absurd c_1 (nI_pos (by omega))
  · skip
    refine lv_iload_n hx hb dJ12_checkIndex_4 rfl (lv_at hl 0 rfl) ?_
    refine lv_iload_n hx hb dJ12_checkIndex_5 rfl (lv_at hl 1 rfl) ?_
    refine lv_icmp_lt (tgt := 16) hx hb dJ12_checkIndex_6 (by decide) (fun c_6 => ?_) (fun c_6 => ?_)
    · skip
      refine lv_iload_n hx hb dJ12_checkIndex_16 rfl (lv_at hl 0 rfl) ?_
      exact ss_ri hx hb hr hlocks rfl dJ12_checkIndex_17 rfl
    · skip
      exact absurd (nI_lt hi hn) c_6

set_option maxHeartbeats 1000000 in
set_option maxRecDepth 100000 in
theorem c_J7_checkIndex (l : Launch) (a b n : Nat) (f : Nat → Int32) (i z : Nat) (hi : i < z) (hz2 : z < 2 ^ 31) : tk_Cv l yJ7_checkIndex cJ7_checkIndex 2 2 [.int (nI i), .int (nI z)] (tk_B a b n f) := by
  refine tk_ofv (by decide) (Nat.le_of_ble_eq_true rfl) ?_
  intro p e s m args below meth c ls X hB hl
  obtain ⟨hx, hb, hml, ho, hts, hr, hlocks⟩ := X
  have hl : lv_has ls 2 [(0, .int (nI i)), (1, .int (nI z))] := hl
  refine lv_iload_n hx hb dJ7_checkIndex_0 rfl (lv_at hl 0 rfl) ?_
  refine lv_iload_n hx hb dJ7_checkIndex_1 rfl (lv_at hl 1 rfl) ?_
  rcases hB.2.2.2.2.2 with hz | ⟨t, hz⟩
  · refine va_gets (A := tk_F) (v := .null) hx hb hz va_S.rf ho (hts _ q719) (fun _ h => h) dJ7_checkIndex_2 ?_
    refine ss_ci (n := 3) (c_J12_checkIndexN l i z hi hz2) hx hb hml ho hts (lw_S q721 q722 q53 q723) (by decide +kernel) ⟨Nat.le_of_ble_eq_true rfl, Nat.le_of_ble_eq_true rfl⟩ rfl hl.1 rfl (Nat.le_of_ble_eq_true rfl) dJ7_checkIndex_5 ⟨Nat.le_refl _, Nat.le_refl _⟩ (fun r_5 hp_5 => ?_)
    obtain rfl := hp_5
    refine lv_pop hx hb dJ7_checkIndex_8 rfl ?_
    exact tk_rv hx hb hr hlocks dJ7_checkIndex_9
  · refine va_gets (A := tk_F) (v := .ref t) hx hb hz va_S.rf ho (hts _ q719) (fun _ h => h) dJ7_checkIndex_2 ?_
    refine ss_ci (n := 3) (c_J12_checkIndexR l i z hi hz2 t) hx hb hml ho hts (lw_S q721 q722 q53 q723) (by decide +kernel) ⟨Nat.le_of_ble_eq_true rfl, Nat.le_of_ble_eq_true rfl⟩ rfl hl.1 rfl (Nat.le_of_ble_eq_true rfl) dJ7_checkIndex_5 ⟨Nat.le_refl _, Nat.le_refl _⟩ (fun r_5 hp_5 => ?_)
    obtain rfl := hp_5
    refine lv_pop hx hb dJ7_checkIndex_8 rfl ?_
    exact tk_rv hx hb hr hlocks dJ7_checkIndex_9

set_option maxHeartbeats 1000000 in
set_option maxRecDepth 100000 in
theorem c_J11_charAt (l : Launch) (a b n : Nat) (f : Nat → Int32) (i : Nat) (hi : i < n) (hn : n < 2 ^ 31) : tk_Ci l yJ11_charAt cJ11_charAt 2 (some .char) 3 [.ref b, .int (nI i)] (tk_B a b n f) (fun r => ((f i &&& 255).toUInt32 % 65536).toInt32 = r) := by
  refine tk_ofi (by decide) (Nat.le_of_ble_eq_true rfl) ?_
  intro p e s m args below meth c ls X hB hl
  obtain ⟨hx, hb, hml, ho, hts, hr, hlocks⟩ := X
  have hl : lv_has ls 2 [(0, .ref b), (1, .int (nI i))] := hl
  refine lv_iload_n hx hb dJ11_charAt_0 rfl (lv_at hl 1 rfl) ?_
  refine lv_aload_n hx hb dJ11_charAt_1 rfl (lv_at hl 0 rfl) ?_
  refine va_tlen (A := tk_F) (v := nI n) hx hb hB.2.2.2.1 va_S.rf rfl dJ11_charAt_2 ?_
  refine tk_cSv (n := 2) (c_J7_checkIndex l a b n f i n hi hn) hx hb hml ho hts (tk_blind a b n f _) (fun U hU hW => by show tk_S a b n f tk_F U U.heap; rw [hU]; exact hB.moved hW.alike) (lw_S q716 q717 q45 q718) (by decide +kernel) ⟨Nat.le_of_ble_eq_true rfl, Nat.le_of_ble_eq_true rfl⟩ rfl hl.1 rfl (Nat.le_of_ble_eq_true rfl) dJ11_charAt_3 ⟨Nat.le_refl _, Nat.le_refl _⟩ ?_
  refine lv_aload_n hx hb dJ11_charAt_6 rfl (lv_at hl 0 rfl) ?_
  refine lv_iload_n hx hb dJ11_charAt_7 rfl (lv_at hl 1 rfl) ?_
  refine va_tb (A := tk_F) (v := .int (f i)) hx hb hB.2.2.2.1 va_S.rf (vp_in_nI hi hn) (by rw [nI_clamp (by omega)]) dJ11_charAt_8 ?_
  refine lv_sipush (v := 255) hx hb dJ11_charAt_9 (by decide) ?_
  refine lv_iand hx hb dJ11_charAt_12 ?_
  refine lv_i2c (v := (((f i) &&& 255).toUInt32 % 65536).toInt32) hx hb dJ11_charAt_13 rfl ?_
  exact ss_ri hx hb hr hlocks (pk_nc _) dJ11_charAt_14 rfl

set_option maxHeartbeats 1000000 in
set_option maxRecDepth 100000 in
theorem c_J7_charAt (l : Launch) (a b n : Nat) (f : Nat → Int32) (i : Nat) (hi : i < n) (hn : n < 2 ^ 31) : tk_Ci l yJ7_charAt cJ7_charAt 2 (some .char) 4 [.ref a, .int (nI i)] (tk_B a b n f) (fun r => ((f i &&& 255).toUInt32 % 65536).toInt32 = r) := by
  refine tk_ofi (by decide) (Nat.le_of_ble_eq_true rfl) ?_
  intro p e s m args below meth c ls X hB hl
  obtain ⟨hx, hb, hml, ho, hts, hr, hlocks⟩ := X
  have hl : lv_has ls 2 [(0, .ref a), (1, .int (nI i))] := hl
  refine lv_aload_n hx hb dJ7_charAt_0 rfl (lv_at hl 0 rfl) ?_
  refine tk_cV (n := 0) (c_J7_isLatin1 l a b n f) hx hb hml ho hts (tk_blind a b n f _) (fun U hU hW => by show tk_S a b n f tk_F U U.heap; rw [hU]; exact hB.moved hW.alike) ⟨_, hB.1.choose_spec.1, hB.1.choose_spec.2.1, hB.1.choose_spec.2.2.1⟩ (lw_V q709 q710 q711 q45 q712) (by decide +kernel) ⟨Nat.le_of_ble_eq_true rfl, Nat.le_of_ble_eq_true rfl⟩ rfl hl.1 rfl (Nat.le_of_ble_eq_true rfl) dJ7_charAt_1 ⟨Nat.le_refl _, Nat.le_refl _⟩ (fun r_1 hp_1 => ?_)
  obtain rfl := hp_1
  refine lv_if_eq (tgt := 16) hx hb dJ7_charAt_4 (by decide) (fun c_4 => ?_) (fun c_4 => ?_)
  · skip
    exact absurd c_4 (by decide)
  · skip
    refine lv_aload_n hx hb dJ7_charAt_7 rfl (lv_at hl 0 rfl) ?_
    refine vk_getf (A := tk_F) (v := .ref b) hx hb hB.2.2.1 va_S.rf ho (hts _ q1113) (fun _ h => h) dJ7_charAt_8 ?_
    refine lv_iload_n hx hb dJ7_charAt_11 rfl (lv_at hl 1 rfl) ?_
    refine tk_cS (n := 2) (c_J11_charAt l a b n f i hi hn) hx hb hml ho hts (tk_blind a b n f _) (fun U hU hW => by show tk_S a b n f tk_F U U.heap; rw [hU]; exact hB.moved hW.alike) (lw_S q713 q714 q52 q715) (by decide +kernel) ⟨Nat.le_of_ble_eq_true rfl, Nat.le_of_ble_eq_true rfl⟩ rfl hl.1 rfl (Nat.le_of_ble_eq_true rfl) dJ7_charAt_12 ⟨Nat.le_refl _, Nat.le_refl _⟩ (fun r_12 hp_12 => ?_)
    obtain rfl := hp_12
    exact ss_ri hx hb hr hlocks (pk_nc _) dJ7_charAt_15 rfl
