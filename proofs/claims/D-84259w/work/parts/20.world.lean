/-! INDEXED WORLDS: a world is a partial table of cells by a code (a number); ad says where the cell of a code lies -/
abbrev gw_G : Type := va_G × (Nat → ClassId)
abbrev gw_cl : List vw_C := [(RX4, TX4, 36), (RX1, TX1, 21), (RX2, TX2, 6), (RX3, TX3, 7), (RX5, TX5, 5), (RX6, TX6, 4), (RX7, TX7, 8)]
abbrev gw_ty (G : gw_G) : List (ClassId × FieldType) := [(G.2 0, .int), (G.2 1, .byte), (G.2 2, .boolean), (G.2 3, .long), (G.2 4, .object RX5), (G.2 5, .object RX6), (G.2 6, .object RX7), (G.2 7, .object "java/lang/String")]
abbrev gw_W : Type := Nat → Option va_E
def gw_L (ad : Nat → Nat) (w : gw_W) : va_W := (List.range 512).filterMap (fun i => (w i).map (fun x => (ad i, x)))
def gw_P (G : gw_G) (ad : Nat → Nat) (w : gw_W) (H : Heap) : Prop := ∀ i x, w i = some x → va_at G.1 gw_cl (ad i, x) H
def gw_D (A : Nat → Prop) (ad : Nat → Nat) (w : gw_W) : Prop := (∀ i j x y, w i = some x → w j = some y → ad i = ad j → i = j) ∧ ∀ i x, w i = some x → i < 512 ∧ A (ad i)
def gw_H (G : gw_G) (A : Nat → Prop) (H0 H : Heap) (locs : List Loc) (ad : Nat → Nat) (w : gw_W) : Prop := gw_P G ad w H ∧ gw_D A ad w ∧ va_S A H0 H locs
theorem gw_mem {ad : Nat → Nat} {w : gw_W} {q : Nat × va_E} : q ∈ gw_L ad w ↔ ∃ i, i < 512 ∧ w i = some q.2 ∧ ad i = q.1 := by
  unfold gw_L
  rw [List.mem_filterMap]
  constructor
  · rintro ⟨i, hi, h⟩
    cases hw : w i with
    | none => rw [hw] at h; cases h
    | some x =>
      rw [hw] at h
      cases h
      exact ⟨i, List.mem_range.mp hi, hw, rfl⟩
  · rintro ⟨i, hi, h, e⟩
    refine ⟨i, List.mem_range.mpr hi, ?_⟩
    rw [h]
    show some (ad i, q.2) = some q
    rw [e]
theorem gw_lP {G : gw_G} {ad : Nat → Nat} {w : gw_W} {H : Heap} (hP : gw_P G ad w H) : va_P G.1 gw_cl (gw_L ad w) H := by
  intro k q hk
  obtain ⟨i, -, h1, h2⟩ := gw_mem.mp (List.mem_of_getElem? hk)
  have h := hP i q.2 h1
  rw [h2] at h
  exact h
theorem gw_lD {A : Nat → Prop} {ad : Nat → Nat} {w : gw_W} (hD : gw_D A ad w) : va_D A (gw_L ad w) := by
  have hp : (gw_L ad w).Pairwise (fun p q => p.1 ≠ q.1) := by
    refine List.Pairwise.filterMap (R := fun a b => a < b) _ ?_ List.pairwise_lt_range
    intro a a' haa b hb b' hb' e
    cases ha : w a with
    | none => rw [ha] at hb; cases hb
    | some x =>
      cases ha' : w a' with
      | none => rw [ha'] at hb'; cases hb'
      | some x' =>
        rw [ha] at hb
        rw [ha'] at hb'
        cases hb
        cases hb'
        exact absurd (hD.1 a a' x x' ha ha' e) (Nat.ne_of_lt haa)
  refine ⟨fun i j x y hi hj hxy => ?_, fun k q hk => ?_⟩
  · obtain ⟨li, ei⟩ := List.getElem?_eq_some_iff.mp hi
    obtain ⟨lj, ej⟩ := List.getElem?_eq_some_iff.mp hj
    rcases Nat.lt_trichotomy i j with h | h | h
    · exact absurd (by rw [ei, ej]; exact hxy) (List.pairwise_iff_getElem.mp hp i j li lj h)
    · exact h
    · exact absurd (by rw [ei, ej]; exact hxy.symm) (List.pairwise_iff_getElem.mp hp j i lj li h)
  · obtain ⟨i, -, h1, h2⟩ := gw_mem.mp (List.mem_of_getElem? hk)
    rw [← h2]
    exact (hD.2 i q.2 h1).2
theorem gw_one {G : gw_G} {ad : Nat → Nat} {w : gw_W} {H : Heap} (hP : gw_P G ad w H) {i : Nat} {x : va_E} (h : w i = some x) : va_P G.1 gw_cl [(ad i, x)] H := by
  intro k q hk
  cases k with
  | zero => cases hk; exact hP i x h
  | succ k => cases hk
theorem gw_ix {ad : Nat → Nat} {w : gw_W} {A : Nat → Prop} (hD : gw_D A ad w) {i : Nat} {x : va_E} (h : w i = some x) : ∃ q0 : Nat, (gw_L ad w)[q0]? = some (ad i, x) :=
  List.getElem?_of_mem (gw_mem.mpr ⟨i, (hD.2 i x h).1, h, rfl⟩)
theorem gw_Dup {A : Nat → Prop} {ad : Nat → Nat} {w : gw_W} (hD : gw_D A ad w) {i : Nat} {x0 x1 : va_E} (hi : w i = some x0) : gw_D A ad (va_up w i (some x1)) := by
  have key : ∀ j y, va_up w i (some x1) j = some y → ∃ z, w j = some z := by
    intro j y h
    by_cases hji : j = i
    · subst hji; exact ⟨_, hi⟩
    · simp only [va_up, if_neg hji] at h
      exact ⟨_, h⟩
  refine ⟨fun a b x y ha hb e => ?_, fun a x ha => ?_⟩
  · obtain ⟨z, hz⟩ := key a x ha
    obtain ⟨z', hz'⟩ := key b y hb
    exact hD.1 a b z z' hz hz' e
  · obtain ⟨z, hz⟩ := key a x ha
    exact hD.2 a z hz
theorem gw_set {G : gw_G} {A : Nat → Prop} {H0 H1 : Heap} {locs1 : List Loc} {ad : Nat → Nat} {w : gw_W} (hD : gw_D A ad w) {i q0 : Nat} {x0 x1 : va_E} (hi : w i = some x0) (hq : (gw_L ad w)[q0]? = some (ad i, x0)) (hP1 : va_P G.1 gw_cl ((gw_L ad w).set q0 (ad i, x1)) H1) (hS1 : va_S A H0 H1 locs1) : gw_H G A H0 H1 locs1 ad (va_up w i (some x1)) := by
  have hl := (List.getElem?_eq_some_iff.mp hq).1
  refine ⟨fun j y hy => ?_, gw_Dup hD hi, hS1⟩
  by_cases hji : j = i
  · subst hji
    simp only [va_up, if_true] at hy
    cases hy
    exact hP1 q0 _ (List.getElem?_set_self hl)
  · have hy1 : w j = some y := by simpa only [va_up, if_neg hji] using hy
    obtain ⟨r, hr⟩ := gw_ix hD hy1
    have hrq : r ≠ q0 := by
      rintro rfl
      rw [hr] at hq
      exact hji (hD.1 j i y x0 hy1 hi (congrArg Prod.fst (Option.some.inj hq)))
    exact hP1 r _ (by rw [List.getElem?_set_ne (Ne.symm hrq)]; exact hr)
/-- the words that don't ride in the lists -/
def gw_nest : List Cond := [.fieldLinkNest "DesertChannels" 262 "DesertChannels$Wrong" "place" "I" "DesertChannels", .fieldLinkNest "DesertChannels" 104 "DesertChannels$Reader" "tape" "[B" "DesertChannels", .fieldLinkNest "DesertChannels" 108 "DesertChannels$Reader" "size" "I" "DesertChannels",
  .fieldLinkNest "DesertChannels" 125 "DesertChannels$Channel" "wells" "[LDesertChannels$Well;" "DesertChannels", .fieldLinkNest "DesertChannels" 122 "DesertChannels$Channel" "many" "I" "DesertChannels", .fieldLinkNest "DesertChannels" 158 "DesertChannels$Channel" "year" "I" "DesertChannels", .fieldLinkNest "DesertChannels" 152 "DesertChannels$Channel" "order" "I" "DesertChannels", .fieldLinkNest "DesertChannels" 159 "DesertChannels$Channel" "turn" "I" "DesertChannels",
  .fieldLinkNest "DesertChannels" 170 "DesertChannels$Well" "x" "I" "DesertChannels", .fieldLinkNest "DesertChannels" 129 "DesertChannels$Well" "floor" "I" "DesertChannels", .fieldLinkNest "DesertChannels" 166 "DesertChannels$Well" "collapsed" "Z" "DesertChannels",
  .fieldLinkNest "DesertChannels" 222 "DesertChannels$Share" "channel" "LDesertChannels$Channel;" "DesertChannels", .fieldLinkNest "DesertChannels" 226 "DesertChannels$Share" "number" "I" "DesertChannels", .fieldLinkNest "DesertChannels" 213 "DesertChannels$Share" "from" "I" "DesertChannels", .fieldLinkNest "DesertChannels" 216 "DesertChannels$Share" "to" "I" "DesertChannels", .fieldLinkNest "DesertChannels" 219 "DesertChannels$Share" "owner" "I" "DesertChannels",
  .fieldLinkNest "DesertChannels" 233 "DesertChannels$Share" "tenant" "I" "DesertChannels", .fieldLinkNest "DesertChannels" 236 "DesertChannels$Share" "letFrom" "I" "DesertChannels", .fieldLinkNest "DesertChannels" 239 "DesertChannels$Share" "letTo" "I" "DesertChannels",
  .fieldLinkNest "DesertChannels$Reader" 40 "DesertChannels$Wrong" "place" "I" "DesertChannels", .fieldLinkNest "DesertChannels$Channel" 24 "DesertChannels$Well" "collapsed" "Z" "DesertChannels",
  .methodLinkNest "DesertChannels" 9 yX2_init "DesertChannels", .methodLinkNest "DesertChannels" 121 yX5_init "DesertChannels"]
theorem gw_nest_on : ∀ w ∈ gw_nest, w.onTables = true := by
  intro w hw
  simp only [gw_nest, List.mem_cons, List.not_mem_nil, or_false] at hw
  rcases hw with h | h | h | h | h | h | h | h | h | h | h | h | h | h | h | h | h | h | h | h | h | h | h <;> subst h <;> rfl
theorem gw_nest_warm {s U : State} (hW : s.WarmedH U.vm) (h : ∀ w ∈ gw_nest, va_Nw w s) : ∀ w ∈ gw_nest, va_Nw w U := by
  intro w hw
  have h1 := h w hw
  simp only [gw_nest, List.mem_cons, List.not_mem_nil, or_false] at hw
  rcases hw with h | h | h | h | h | h | h | h | h | h | h | h | h | h | h | h | h | h | h | h | h | h | h <;> subst h <;> first | exact va_Nw.warmF hW h1 | exact va_Nw.warmM hW h1
/-- what the tables say, at any state of a run -/
def gw_K (G : gw_G) (U : State) : Prop := va_K G.1 gw_cl (gw_ty G) U ∧ (∀ w ∈ gw_nest, va_Nw w U) ∧ va_AO RX5 U ∧ va_AO RX6 U ∧ va_AO RX7 U ∧ va_AO "java/lang/String" U
theorem gw_K.warm {G : gw_G} {s U : State} (hW : s.WarmedH U.vm) (h : gw_K G s) : gw_K G U := ⟨va_K.moved hW.alike h.1, gw_nest_warm hW h.2.1, va_AO.moved hW.alike h.2.2.1, va_AO.moved hW.alike h.2.2.2.1, va_AO.moved hW.alike h.2.2.2.2.1, va_AO.moved hW.alike h.2.2.2.2.2⟩
theorem gw_K.same {G : gw_G} {s U : State} (hv : s.vm = U.vm) (h : gw_K G s) : gw_K G U := by
  have ha : s.vm.Alike U.vm := by rw [hv]; exact Vm.Alike.refl _
  exact ⟨va_K.moved ha h.1, fun w hw => va_Nw.same (gw_nest_on w hw) hv (h.2.1 w hw), va_AO.moved ha h.2.2.1, va_AO.moved ha h.2.2.2.1, va_AO.moved ha h.2.2.2.2.1, va_AO.moved ha h.2.2.2.2.2⟩
/-- a method's own tables: its class, the words, the classes' numbers -/
def gw_T (own : String) (G : gw_G) (s : State) (m : MethodId) (args : Array Value) : Prop := s.vm.findClass own = some m.cls ∧ (∀ w ∈ lw_all, w.before args s = true) ∧ gw_K G s
theorem gw_nI {x : Int32} {k n : Nat} (hx : x = nI k) (hk : k < n) (hn : n < 2 ^ 31) : vp_in x n ∧ x.toNatClampNeg = k := by
  subst hx
  exact ⟨vp_in_nI hk hn, nI_clamp (Nat.lt_trans hk hn)⟩
section GW
variable {p : Program} {l : Launch} {e : Env} {R : Room} {s : State} {m : MethodId} {args : Array Value} {below : List Frame} {meth : Method} {c : Code} {H : Heap} {locs : List Loc} {cells slots : Nat} {Q : State → Prop}
variable {cc : ByteArray} {pc : Nat} {ls : Array Slot} {rest : List Value} {G : gw_G} {A : Nat → Prop} {H0 : Heap} {ad : Nat → Nat} {w : gw_W} {own : String}
theorem gw_get (hx : p.tables.exec = Jvm.exec) (hb : c.code = cc) (hT : gw_T own G s m args) (hP : gw_P G ad w H) (i : Nat) {ci N idx : Nat} {fs : List Value} {C : String} {T : u_T} (he : w i = some (.inr (ci, fs))) (hc : gw_cl[ci]? = some (C, T, N)) (hin : ∀ w ∈ u_ws C T N, w ∈ lw_all) (k : Nat) (hk : k < N) (hs : (T k).1 = C) (hl : Cond.fieldLink own idx C (T k).2.1 (T k).2.2.1 ∈ lw_all) {v : Value} (hv : fs[k]? = some v) (hd : decode cc pc = .ok (.getfield idx, 3))
    (kk : W p l e R s m args below meth c H locs cells slots Q (F0 m (pc + 3) ls (v :: rest))) : W p l e R s m args below meth c H locs cells slots Q (F0 m pc ls (.ref (ad i) :: rest)) :=
  va_get (ref := C) hx hb hT.2.1 hin hT.1 hT.2.2.1 (gw_one hP he) 0 rfl hc k hk (hT.2.1 _ hl) (fun x h => by rw [hs] at h; exact h) hv hd kk
theorem gw_getN (hx : p.tables.exec = Jvm.exec) (hb : c.code = cc) (hT : gw_T own G s m args) (hP : gw_P G ad w H) (i : Nat) {ci N idx : Nat} {fs : List Value} {C host : String} {T : u_T} (he : w i = some (.inr (ci, fs))) (hc : gw_cl[ci]? = some (C, T, N)) (hin : ∀ w ∈ u_ws C T N, w ∈ lw_all) (k : Nat) (hk : k < N) (hs : (T k).1 = C) (hl : Cond.fieldLinkNest own idx C (T k).2.1 (T k).2.2.1 host ∈ gw_nest) {v : Value} (hv : fs[k]? = some v) (hd : decode cc pc = .ok (.getfield idx, 3))
    (kk : W p l e R s m args below meth c H locs cells slots Q (F0 m (pc + 3) ls (v :: rest))) : W p l e R s m args below meth c H locs cells slots Q (F0 m pc ls (.ref (ad i) :: rest)) :=
  va_getN (ref := C) (host := host) hx hb hT.2.1 hin hT.1 hT.2.2.1 (gw_one hP he) 0 rfl hc k hk (va_Nw.use rfl (hT.2.2.2.1 _ hl)) (fun x h => by rw [hs] at h; exact h) hv hd kk
theorem gw_put (hx : p.tables.exec = Jvm.exec) (hb : c.code = cc) (hT : gw_T own G s m args) (hH : gw_H G A H0 H locs ad w) (i : Nat) {ci N idx : Nat} {fs : List Value} {C : String} {T : u_T} (he : w i = some (.inr (ci, fs))) (hc : gw_cl[ci]? = some (C, T, N)) (hin : ∀ w ∈ u_ws C T N, w ∈ lw_all) (ty : Nat → FieldType) (hty : ∀ k, k < N → parseFieldDescriptor (T k).2.2.1 = some (ty k)) (hnm : ∀ a, a < N → ∀ b, b < N → a ≠ b → (T a).2.1 ≠ (T b).2.1) (k : Nat) (hk : k < N) (hs : (T k).1 = C) (hf : (T k).2.2.2 = false) (hl : Cond.fieldLink own idx C (T k).2.1 (T k).2.2.1 ∈ lw_all) {v : Value} (hn : narrow (ty k) v = v) (hfit : fits (ty k) v = true) (hlen : k < fs.length) (hd : decode cc pc = .ok (.putfield idx, 3))
    (kk : ∀ (H1 : Heap) (locs1 : List Loc), gw_H G A H0 H1 locs1 ad (va_up w i (some (.inr (ci, fs.set k v)))) → W p l e R s m args below meth c H1 locs1 cells slots Q (F0 m (pc + 3) ls rest)) : W p l e R s m args below meth c H locs cells slots Q (F0 m pc ls (v :: .ref (ad i) :: rest)) := by
  obtain ⟨q0, hq⟩ := gw_ix hH.2.1 he
  exact va_put (ref := C) hx hb hT.2.1 hin ty hty hnm hT.1 hT.2.2.1 (gw_lP hH.1) (gw_lD hH.2.1) hH.2.2 q0 hq hc k hk (hT.2.1 _ hl) (fun x h => by rw [hs] at h; exact h) hf (hty k hk) hn hfit hlen hd (fun H1 locs1 hP1 _ hS1 => kk H1 locs1 (gw_set hH.2.1 he hq hP1 hS1))
theorem gw_putN (hx : p.tables.exec = Jvm.exec) (hb : c.code = cc) (hT : gw_T own G s m args) (hH : gw_H G A H0 H locs ad w) (i : Nat) {ci N idx : Nat} {fs : List Value} {C host : String} {T : u_T} (he : w i = some (.inr (ci, fs))) (hc : gw_cl[ci]? = some (C, T, N)) (hin : ∀ w ∈ u_ws C T N, w ∈ lw_all) (ty : Nat → FieldType) (hty : ∀ k, k < N → parseFieldDescriptor (T k).2.2.1 = some (ty k)) (hnm : ∀ a, a < N → ∀ b, b < N → a ≠ b → (T a).2.1 ≠ (T b).2.1) (k : Nat) (hk : k < N) (hs : (T k).1 = C) (hf : (T k).2.2.2 = false) (hl : Cond.fieldLinkNest own idx C (T k).2.1 (T k).2.2.1 host ∈ gw_nest) {v : Value} (hn : narrow (ty k) v = v) (hfit : fits (ty k) v = true) (hlen : k < fs.length) (hd : decode cc pc = .ok (.putfield idx, 3))
    (kk : ∀ (H1 : Heap) (locs1 : List Loc), gw_H G A H0 H1 locs1 ad (va_up w i (some (.inr (ci, fs.set k v)))) → W p l e R s m args below meth c H1 locs1 cells slots Q (F0 m (pc + 3) ls rest)) : W p l e R s m args below meth c H locs cells slots Q (F0 m pc ls (v :: .ref (ad i) :: rest)) := by
  obtain ⟨q0, hq⟩ := gw_ix hH.2.1 he
  exact va_putN (ref := C) (host := host) hx hb hT.2.1 hin ty hty hnm hT.1 hT.2.2.1 (gw_lP hH.1) (gw_lD hH.2.1) hH.2.2 q0 hq hc k hk (va_Nw.use rfl (hT.2.2.2.1 _ hl)) (fun x h => by rw [hs] at h; exact h) hf (hty k hk) hn hfit hlen hd (fun H1 locs1 hP1 _ hS1 => kk H1 locs1 (gw_set hH.2.1 he hq hP1 hS1))
theorem gw_putF (hx : p.tables.exec = Jvm.exec) (hb : c.code = cc) (hT : gw_T own G s m args) (hH : gw_H G A H0 H locs ad w) (i : Nat) {ci N idx : Nat} {fs : List Value} {T : u_T} (he : w i = some (.inr (ci, fs))) (hc : gw_cl[ci]? = some (own, T, N)) (hin : ∀ w ∈ u_ws own T N, w ∈ lw_all) (ty : Nat → FieldType) (hty : ∀ k, k < N → parseFieldDescriptor (T k).2.2.1 = some (ty k)) (hnm : ∀ a, a < N → ∀ b, b < N → a ≠ b → (T a).2.1 ≠ (T b).2.1) (k : Nat) (hk : k < N) (hs : (T k).1 = own) (hf : (T k).2.2.2 = true) (hini : meth.name = "<init>") (hl : Cond.fieldLink own idx own (T k).2.1 (T k).2.2.1 ∈ lw_all) {v : Value} (hn : narrow (ty k) v = v) (hfit : fits (ty k) v = true) (hlen : k < fs.length) (hd : decode cc pc = .ok (.putfield idx, 3))
    (kk : ∀ (H1 : Heap) (locs1 : List Loc), gw_H G A H0 H1 locs1 ad (va_up w i (some (.inr (ci, fs.set k v)))) → W p l e R s m args below meth c H1 locs1 cells slots Q (F0 m (pc + 3) ls rest)) : W p l e R s m args below meth c H locs cells slots Q (F0 m pc ls (v :: .ref (ad i) :: rest)) := by
  obtain ⟨q0, hq⟩ := gw_ix hH.2.1 he
  exact va_putF (ref := own) hx hb hT.2.1 hin ty hty hnm hT.1 hT.2.2.1 (gw_lP hH.1) (gw_lD hH.2.1) hH.2.2 q0 hq hc k hk (hT.2.1 _ hl) (fun x h => by rw [hs] at h; exact h) hf hini hs (hty k hk) hn hfit hlen hd (fun H1 locs1 hP1 _ hS1 => kk H1 locs1 (gw_set hH.2.1 he hq hP1 hS1))
theorem gw_iald (hx : p.tables.exec = Jvm.exec) (hb : c.code = cc) (hT : gw_T own G s m args) (hP : gw_P G ad w H) (i : Nat) {n : Nat} {f : Nat → Int32} (he : w i = some (.inl (G.2 0, n, .inl f))) {x : Int32} (k : Nat) (hi : x = nI k) (hk : k < n) (hn : n < 2 ^ 31) (hd : decode cc pc = .ok (.iaload, 1))
    (kk : W p l e R s m args below meth c H locs cells slots Q (F0 m (pc + 1) ls (.int (f k) :: rest))) : W p l e R s m args below meth c H locs cells slots Q (F0 m pc ls (.int x :: .ref (ad i) :: rest)) := by
  obtain ⟨h1, h2⟩ := gw_nI hi hk hn
  exact va_iald hx hb hT.2.2.1 (gw_one hP he) 0 0 rfl rfl h1 hd (by rw [h2]; exact kk)
theorem gw_bald (hx : p.tables.exec = Jvm.exec) (hb : c.code = cc) (hT : gw_T own G s m args) (hP : gw_P G ad w H) (i : Nat) {n : Nat} {f : Nat → Int32} (he : w i = some (.inl (G.2 1, n, .inl f))) {x : Int32} (k : Nat) (hi : x = nI k) (hk : k < n) (hn : n < 2 ^ 31) (hd : decode cc pc = .ok (.baload, 1))
    (kk : W p l e R s m args below meth c H locs cells slots Q (F0 m (pc + 1) ls (.int (f k) :: rest))) : W p l e R s m args below meth c H locs cells slots Q (F0 m pc ls (.int x :: .ref (ad i) :: rest)) := by
  obtain ⟨h1, h2⟩ := gw_nI hi hk hn
  exact va_bald hx hb hT.2.2.1 (gw_one hP he) 0 1 rfl rfl h1 hd (by rw [h2]; exact kk)
theorem gw_zald (hx : p.tables.exec = Jvm.exec) (hb : c.code = cc) (hT : gw_T own G s m args) (hP : gw_P G ad w H) (i : Nat) {n : Nat} {f : Nat → Int32} (he : w i = some (.inl (G.2 2, n, .inl f))) {x : Int32} (k : Nat) (hi : x = nI k) (hk : k < n) (hn : n < 2 ^ 31) (hd : decode cc pc = .ok (.baload, 1))
    (kk : W p l e R s m args below meth c H locs cells slots Q (F0 m (pc + 1) ls (.int (f k) :: rest))) : W p l e R s m args below meth c H locs cells slots Q (F0 m pc ls (.int x :: .ref (ad i) :: rest)) := by
  obtain ⟨h1, h2⟩ := gw_nI hi hk hn
  exact va_zald hx hb hT.2.2.1 (gw_one hP he) 0 2 rfl rfl h1 hd (by rw [h2]; exact kk)
theorem gw_lald (hx : p.tables.exec = Jvm.exec) (hb : c.code = cc) (hT : gw_T own G s m args) (hP : gw_P G ad w H) (i : Nat) {n : Nat} {f : Nat → Int64} (he : w i = some (.inl (G.2 3, n, .inr (.inl f)))) {x : Int32} (k : Nat) (hi : x = nI k) (hk : k < n) (hn : n < 2 ^ 31) (hd : decode cc pc = .ok (.laload, 1))
    (kk : W p l e R s m args below meth c H locs cells slots Q (F0 m (pc + 1) ls (.long (f k) :: rest))) : W p l e R s m args below meth c H locs cells slots Q (F0 m pc ls (.int x :: .ref (ad i) :: rest)) := by
  obtain ⟨h1, h2⟩ := gw_nI hi hk hn
  exact va_lald hx hb hT.2.2.1 (gw_one hP he) 0 3 rfl rfl h1 hd (by rw [h2]; exact kk)
theorem gw_aald (hx : p.tables.exec = Jvm.exec) (hb : c.code = cc) (hT : gw_T own G s m args) (hP : gw_P G ad w H) (i t0 : Nat) {cA : ClassId} {C : String} {n : Nat} {f : Nat → Option Nat} (he : w i = some (.inl (cA, n, .inr (.inr (.inr (.inr f)))))) (ht : (gw_ty G)[t0]? = some (cA, .object C)) {x : Int32} (k : Nat) (hi : x = nI k) (hk : k < n) (hn : n < 2 ^ 31) {b : Nat} (hf : f k = some b) (hd : decode cc pc = .ok (.aaload, 1))
    (kk : W p l e R s m args below meth c H locs cells slots Q (F0 m (pc + 1) ls (.ref b :: rest))) : W p l e R s m args below meth c H locs cells slots Q (F0 m pc ls (.int x :: .ref (ad i) :: rest)) := by
  obtain ⟨h1, h2⟩ := gw_nI hi hk hn
  exact va_aldq hx hb hT.2.2.1 (gw_one hP he) 0 t0 rfl ht h1 hd (by rw [h2, hf]; exact kk)
theorem gw_iast (hx : p.tables.exec = Jvm.exec) (hb : c.code = cc) (hT : gw_T own G s m args) (hH : gw_H G A H0 H locs ad w) (i : Nat) {n : Nat} {f : Nat → Int32} (he : w i = some (.inl (G.2 0, n, .inl f))) {x y : Int32} (k : Nat) (hi : x = nI k) (hk : k < n) (hn : n < 2 ^ 31) (hd : decode cc pc = .ok (.iastore, 1))
    (kk : ∀ (H1 : Heap) (locs1 : List Loc), gw_H G A H0 H1 locs1 ad (va_up w i (some (.inl (G.2 0, n, .inl (upd f k y))))) → W p l e R s m args below meth c H1 locs1 cells slots Q (F0 m (pc + 1) ls rest)) : W p l e R s m args below meth c H locs cells slots Q (F0 m pc ls (.int y :: .int x :: .ref (ad i) :: rest)) := by
  obtain ⟨h1, h2⟩ := gw_nI hi hk hn
  obtain ⟨q0, hq⟩ := gw_ix hH.2.1 he
  exact va_iast hx hb hT.2.2.1 (gw_lP hH.1) (gw_lD hH.2.1) hH.2.2 q0 0 hq rfl h1 hd (fun H1 locs1 hP1 _ hS1 => kk H1 locs1 (gw_set hH.2.1 he hq (by rw [h2] at hP1; exact hP1) hS1))
theorem gw_bast (hx : p.tables.exec = Jvm.exec) (hb : c.code = cc) (hT : gw_T own G s m args) (hH : gw_H G A H0 H locs ad w) (i : Nat) {n : Nat} {f : Nat → Int32} (he : w i = some (.inl (G.2 1, n, .inl f))) {x y : Int32} (k : Nat) (hi : x = nI k) (hk : k < n) (hn : n < 2 ^ 31) (hd : decode cc pc = .ok (.bastore, 1))
    (kk : ∀ (H1 : Heap) (locs1 : List Loc), gw_H G A H0 H1 locs1 ad (va_up w i (some (.inl (G.2 1, n, .inl (upd f k (vp_nar .byte y)))))) → W p l e R s m args below meth c H1 locs1 cells slots Q (F0 m (pc + 1) ls rest)) : W p l e R s m args below meth c H locs cells slots Q (F0 m pc ls (.int y :: .int x :: .ref (ad i) :: rest)) := by
  obtain ⟨h1, h2⟩ := gw_nI hi hk hn
  obtain ⟨q0, hq⟩ := gw_ix hH.2.1 he
  exact va_bast hx hb hT.2.2.1 (gw_lP hH.1) (gw_lD hH.2.1) hH.2.2 q0 1 hq rfl h1 hd (fun H1 locs1 hP1 _ hS1 => kk H1 locs1 (gw_set hH.2.1 he hq (by rw [h2] at hP1; exact hP1) hS1))
theorem gw_zast (hx : p.tables.exec = Jvm.exec) (hb : c.code = cc) (hT : gw_T own G s m args) (hH : gw_H G A H0 H locs ad w) (i : Nat) {n : Nat} {f : Nat → Int32} (he : w i = some (.inl (G.2 2, n, .inl f))) {x y : Int32} (k : Nat) (hi : x = nI k) (hk : k < n) (hn : n < 2 ^ 31) (hd : decode cc pc = .ok (.bastore, 1))
    (kk : ∀ (H1 : Heap) (locs1 : List Loc), gw_H G A H0 H1 locs1 ad (va_up w i (some (.inl (G.2 2, n, .inl (upd f k (vp_nar .boolean y)))))) → W p l e R s m args below meth c H1 locs1 cells slots Q (F0 m (pc + 1) ls rest)) : W p l e R s m args below meth c H locs cells slots Q (F0 m pc ls (.int y :: .int x :: .ref (ad i) :: rest)) := by
  obtain ⟨h1, h2⟩ := gw_nI hi hk hn
  obtain ⟨q0, hq⟩ := gw_ix hH.2.1 he
  exact va_zast hx hb hT.2.2.1 (gw_lP hH.1) (gw_lD hH.2.1) hH.2.2 q0 2 hq rfl h1 hd (fun H1 locs1 hP1 _ hS1 => kk H1 locs1 (gw_set hH.2.1 he hq (by rw [h2] at hP1; exact hP1) hS1))
theorem gw_last (hx : p.tables.exec = Jvm.exec) (hb : c.code = cc) (hT : gw_T own G s m args) (hH : gw_H G A H0 H locs ad w) (i : Nat) {n : Nat} {f : Nat → Int64} (he : w i = some (.inl (G.2 3, n, .inr (.inl f)))) {x : Int32} {y : Int64} (k : Nat) (hi : x = nI k) (hk : k < n) (hn : n < 2 ^ 31) (hd : decode cc pc = .ok (.lastore, 1))
    (kk : ∀ (H1 : Heap) (locs1 : List Loc), gw_H G A H0 H1 locs1 ad (va_up w i (some (.inl (G.2 3, n, .inr (.inl (vp_updL f k y)))))) → W p l e R s m args below meth c H1 locs1 cells slots Q (F0 m (pc + 1) ls rest)) : W p l e R s m args below meth c H locs cells slots Q (F0 m pc ls (.long y :: .int x :: .ref (ad i) :: rest)) := by
  obtain ⟨h1, h2⟩ := gw_nI hi hk hn
  obtain ⟨q0, hq⟩ := gw_ix hH.2.1 he
  exact va_last hx hb hT.2.2.1 (gw_lP hH.1) (gw_lD hH.2.1) hH.2.2 q0 3 hq rfl h1 hd (fun H1 locs1 hP1 _ hS1 => kk H1 locs1 (gw_set hH.2.1 he hq (by rw [h2] at hP1; exact hP1) hS1))
end GW
