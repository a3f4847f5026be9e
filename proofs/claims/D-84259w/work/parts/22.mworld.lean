/-! THE MODEL'S WORLD: one object (code 0), its arrays at the codes of their field slots; a state of it is its numbers and its arrays' contents, by slot -/
abbrev mS : Type := (Nat → Int32) × (Nat → Nat → Int32)
def mm_len (k : Nat) : Nat := match k with
  | 5 => 8 | 6 => 8 | 7 => 8 | 8 => 8 | 9 => 8 | 12 => 160 | 13 => 160 | 14 => 160 | 15 => 160 | 16 => 420 | 18 => 4 | 19 => 4 | 20 => 4 | 21 => 4 | 22 => 4 | 23 => 400 | 29 => 5 | 30 => 31 | 31 => 9 | 32 => 9 | 33 => 9 | 35 => 512
  | _ => 0
def mm_ct (k : Nat) : Nat := match k with
  | 6 => 2 | 15 => 2 | 23 => 1
  | _ => 0
def mm_fs (ad : Nat → Nat) (F : Nat → Int32) : List Value := [.int (F 0), .int (F 1), .int (F 2), .int (F 3), .int (F 4), .ref (ad 5), .ref (ad 6), .ref (ad 7), .ref (ad 8), .ref (ad 9), .int (F 10), .int (F 11), .ref (ad 12), .ref (ad 13), .ref (ad 14), .ref (ad 15), .ref (ad 16), .int (F 17), .ref (ad 18), .ref (ad 19), .ref (ad 20), .ref (ad 21), .ref (ad 22), .ref (ad 23), .int (F 24), .int (F 25), .int (F 26), .int (F 27), .int (F 28), .ref (ad 29), .ref (ad 30), .ref (ad 31), .ref (ad 32), .ref (ad 33), .int (F 34), .ref (ad 35)]
def mm_sc : List Nat := [0, 1, 2, 3, 4, 10, 11, 17, 24, 25, 26, 27, 28, 34]
def mm_w (G : gw_G) (ad : Nat → Nat) (σ : mS) : gw_W := fun i => if i = 0 then some (.inr (0, mm_fs ad σ.1)) else if mm_len i = 0 then none else some (.inl (G.2 (mm_ct i), mm_len i, .inl (σ.2 i)))
def mm_st (σ : mS) (k : Nat) (v : Int32) : mS := (va_up σ.1 k v, σ.2)
def mm_ar (σ : mS) (k n : Nat) (v : Int32) : mS := (σ.1, va_up σ.2 k (upd (σ.2 k) n v))
theorem mm_fs_set (ad : Nat → Nat) (F : Nat → Int32) {k : Nat} (hk : k ∈ mm_sc) (v : Int32) : (mm_fs ad F).set k (.int v) = mm_fs ad (va_up F k v) := by
  simp only [mm_sc, List.mem_cons, List.not_mem_nil, or_false] at hk
  rcases hk with h | h | h | h | h | h | h | h | h | h | h | h | h | h <;> subst h <;> rfl
theorem mm_w_st (G : gw_G) (ad : Nat → Nat) (σ : mS) {k : Nat} (hk : k ∈ mm_sc) (v : Int32) : va_up (mm_w G ad σ) 0 (some (.inr (0, (mm_fs ad σ.1).set k (.int v)))) = mm_w G ad (mm_st σ k v) := by
  funext i
  by_cases hi : i = 0
  · subst hi
    simp only [va_up, mm_w, if_true]
    rw [mm_fs_set ad σ.1 hk v]
    rfl
  · simp only [va_up, mm_w, if_neg hi, mm_st]
theorem mm_w_ar (G : gw_G) (ad : Nat → Nat) (σ : mS) {k : Nat} (hk : mm_len k ≠ 0) (n : Nat) (v : Int32) : va_up (mm_w G ad σ) k (some (.inl (G.2 (mm_ct k), mm_len k, .inl (upd (σ.2 k) n v)))) = mm_w G ad (mm_ar σ k n v) := by
  have hk0 : k ≠ 0 := by
    rintro rfl
    exact hk rfl
  funext i
  by_cases hi : i = k
  · subst hi
    simp only [va_up, mm_w, if_true, if_neg hk0, if_neg hk, mm_ar]
  · simp only [va_up, mm_w, if_neg hi, mm_ar]
theorem mm_w_at (G : gw_G) (ad : Nat → Nat) (σ : mS) {k : Nat} (hk : mm_len k ≠ 0) : mm_w G ad σ k = some (.inl (G.2 (mm_ct k), mm_len k, .inl (σ.2 k))) := by
  have hk0 : k ≠ 0 := by
    rintro rfl
    exact hk rfl
  simp only [mm_w, if_neg hk0, if_neg hk]
theorem mm_len_lt (k : Nat) : mm_len k < 2 ^ 31 := by
  unfold mm_len
  split <;> decide
abbrev mm_H (G : gw_G) (A : Nat → Prop) (H0 H : Heap) (locs : List Loc) (ad : Nat → Nat) (σ : mS) : Prop := gw_H G A H0 H locs ad (mm_w G ad σ)
def mm_U (G : gw_G) (A : Nat → Prop) (ad : Nat → Nat) (σ : mS) (U : State) : Prop := gw_P G ad (mm_w G ad σ) U.heap ∧ gw_D A ad (mm_w G ad σ) ∧ gw_K G U
abbrev mm_rm (d : Nat) : Room := { frames := d, cells := 0, slots := 0, locals := 60 * d }
section MR
variable {p : Program} {l : Launch} {e : Env} {R : Room} {s : State} {m : MethodId} {args : Array Value} {below : List Frame} {meth : Method} {c : Code} {H : Heap} {locs : List Loc} {cells slots : Nat} {Q : State → Prop}
variable {cc : ByteArray} {pc : Nat} {ls : Array Slot} {rest : List Value} {G : gw_G} {A : Nat → Prop} {H0 : Heap} {ad : Nat → Nat} {σ : mS}
theorem mm_get (hx : p.tables.exec = Jvm.exec) (hb : c.code = cc) (hT : gw_T RX4 G s m args) (hH : mm_H G A H0 H locs ad σ) (k : Nat) (hk : k < 36) {idx : Nat} (hs : (TX4 k).1 = RX4) (hl : Cond.fieldLink RX4 idx RX4 (TX4 k).2.1 (TX4 k).2.2.1 ∈ lw_all) {v : Value} (hv : (mm_fs ad σ.1)[k]? = some v) (hd : decode cc pc = .ok (.getfield idx, 3))
    (kk : W p l e R s m args below meth c H locs cells slots Q (F0 m (pc + 3) ls (v :: rest))) : W p l e R s m args below meth c H locs cells slots Q (F0 m pc ls (.ref (ad 0) :: rest)) :=
  gw_get (C := RX4) (T := TX4) (N := 36) (ci := 0) (fs := mm_fs ad σ.1) hx hb hT hH.1 0 rfl rfl in_X4 k hk hs hl hv hd kk
theorem mm_put (hx : p.tables.exec = Jvm.exec) (hb : c.code = cc) (hT : gw_T RX4 G s m args) (hH : mm_H G A H0 H locs ad σ) (k : Nat) (hk : k < 36) (hsc : k ∈ mm_sc) {idx : Nat} (hs : (TX4 k).1 = RX4) (hf : (TX4 k).2.2.2 = false) (hl : Cond.fieldLink RX4 idx RX4 (TX4 k).2.1 (TX4 k).2.2.1 ∈ lw_all) {x : Int32} (hty : tyX4 k = .int) (hd : decode cc pc = .ok (.putfield idx, 3))
    (kk : ∀ (H1 : Heap) (locs1 : List Loc), mm_H G A H0 H1 locs1 ad (mm_st σ k x) → W p l e R s m args below meth c H1 locs1 cells slots Q (F0 m (pc + 3) ls rest)) : W p l e R s m args below meth c H locs cells slots Q (F0 m pc ls (.int x :: .ref (ad 0) :: rest)) :=
  gw_put (C := RX4) (T := TX4) (N := 36) (ci := 0) (fs := mm_fs ad σ.1) hx hb hT hH 0 rfl rfl in_X4 tyX4 tyX4_ok nmX4 k hk hs hf hl (by rw [hty]; rfl) (by rw [hty]; rfl) hk hd (fun H1 locs1 h => kk H1 locs1 (by rw [mm_w_st G ad σ hsc x] at h; exact h))
theorem mm_ild (hx : p.tables.exec = Jvm.exec) (hb : c.code = cc) (hT : gw_T RX4 G s m args) (hH : mm_H G A H0 H locs ad σ) (k : Nat) (hk : mm_len k ≠ 0) (ht : mm_ct k = 0) {x : Int32} (n : Nat) (hi : x = nI n) (hn : n < mm_len k) {v : Int32} (hv : σ.2 k n = v) (hd : decode cc pc = .ok (.iaload, 1))
    (kk : W p l e R s m args below meth c H locs cells slots Q (F0 m (pc + 1) ls (.int v :: rest))) : W p l e R s m args below meth c H locs cells slots Q (F0 m pc ls (.int x :: .ref (ad k) :: rest)) := by
  subst hv
  exact gw_iald hx hb hT hH.1 k (by rw [← ht]; exact mm_w_at G ad σ hk) n hi hn (mm_len_lt k) hd kk
theorem mm_zld (hx : p.tables.exec = Jvm.exec) (hb : c.code = cc) (hT : gw_T RX4 G s m args) (hH : mm_H G A H0 H locs ad σ) (k : Nat) (hk : mm_len k ≠ 0) (ht : mm_ct k = 2) {x : Int32} (n : Nat) (hi : x = nI n) (hn : n < mm_len k) {v : Int32} (hv : σ.2 k n = v) (hd : decode cc pc = .ok (.baload, 1))
    (kk : W p l e R s m args below meth c H locs cells slots Q (F0 m (pc + 1) ls (.int v :: rest))) : W p l e R s m args below meth c H locs cells slots Q (F0 m pc ls (.int x :: .ref (ad k) :: rest)) := by
  subst hv
  exact gw_zald hx hb hT hH.1 k (by rw [← ht]; exact mm_w_at G ad σ hk) n hi hn (mm_len_lt k) hd kk
theorem mm_bld (hx : p.tables.exec = Jvm.exec) (hb : c.code = cc) (hT : gw_T RX4 G s m args) (hH : mm_H G A H0 H locs ad σ) (k : Nat) (hk : mm_len k ≠ 0) (ht : mm_ct k = 1) {x : Int32} (n : Nat) (hi : x = nI n) (hn : n < mm_len k) {v : Int32} (hv : σ.2 k n = v) (hd : decode cc pc = .ok (.baload, 1))
    (kk : W p l e R s m args below meth c H locs cells slots Q (F0 m (pc + 1) ls (.int v :: rest))) : W p l e R s m args below meth c H locs cells slots Q (F0 m pc ls (.int x :: .ref (ad k) :: rest)) := by
  subst hv
  exact gw_bald hx hb hT hH.1 k (by rw [← ht]; exact mm_w_at G ad σ hk) n hi hn (mm_len_lt k) hd kk
theorem mm_ist (hx : p.tables.exec = Jvm.exec) (hb : c.code = cc) (hT : gw_T RX4 G s m args) (hH : mm_H G A H0 H locs ad σ) (k : Nat) (hk : mm_len k ≠ 0) (ht : mm_ct k = 0) {x y : Int32} (n : Nat) (hi : x = nI n) (hn : n < mm_len k) (hd : decode cc pc = .ok (.iastore, 1))
    (kk : ∀ (H1 : Heap) (locs1 : List Loc), mm_H G A H0 H1 locs1 ad (mm_ar σ k n y) → W p l e R s m args below meth c H1 locs1 cells slots Q (F0 m (pc + 1) ls rest)) : W p l e R s m args below meth c H locs cells slots Q (F0 m pc ls (.int y :: .int x :: .ref (ad k) :: rest)) :=
  gw_iast hx hb hT hH k (by rw [← ht]; exact mm_w_at G ad σ hk) n hi hn (mm_len_lt k) hd (fun H1 locs1 h => kk H1 locs1 (by rw [← ht, mm_w_ar G ad σ hk n y] at h; exact h))
theorem mm_zst (hx : p.tables.exec = Jvm.exec) (hb : c.code = cc) (hT : gw_T RX4 G s m args) (hH : mm_H G A H0 H locs ad σ) (k : Nat) (hk : mm_len k ≠ 0) (ht : mm_ct k = 2) {x y z : Int32} (n : Nat) (hi : x = nI n) (hn : n < mm_len k) (hz : vp_nar .boolean y = z) (hd : decode cc pc = .ok (.bastore, 1))
    (kk : ∀ (H1 : Heap) (locs1 : List Loc), mm_H G A H0 H1 locs1 ad (mm_ar σ k n z) → W p l e R s m args below meth c H1 locs1 cells slots Q (F0 m (pc + 1) ls rest)) : W p l e R s m args below meth c H locs cells slots Q (F0 m pc ls (.int y :: .int x :: .ref (ad k) :: rest)) := by
  subst hz
  exact gw_zast hx hb hT hH k (by rw [← ht]; exact mm_w_at G ad σ hk) n hi hn (mm_len_lt k) hd (fun H1 locs1 h => kk H1 locs1 (by rw [← ht, mm_w_ar G ad σ hk n _] at h; exact h))
theorem mm_bst (hx : p.tables.exec = Jvm.exec) (hb : c.code = cc) (hT : gw_T RX4 G s m args) (hH : mm_H G A H0 H locs ad σ) (k : Nat) (hk : mm_len k ≠ 0) (ht : mm_ct k = 1) {x y z : Int32} (n : Nat) (hi : x = nI n) (hn : n < mm_len k) (hz : vp_nar .byte y = z) (hd : decode cc pc = .ok (.bastore, 1))
    (kk : ∀ (H1 : Heap) (locs1 : List Loc), mm_H G A H0 H1 locs1 ad (mm_ar σ k n z) → W p l e R s m args below meth c H1 locs1 cells slots Q (F0 m (pc + 1) ls rest)) : W p l e R s m args below meth c H locs cells slots Q (F0 m pc ls (.int y :: .int x :: .ref (ad k) :: rest)) := by
  subst hz
  exact gw_bast hx hb hT hH k (by rw [← ht]; exact mm_w_at G ad σ hk) n hi hn (mm_len_lt k) hd (fun H1 locs1 h => kk H1 locs1 (by rw [← ht, mm_w_ar G ad σ hk n _] at h; exact h))
end MR
/-! the model's contracts: whoever it is called by, over any world of it -/
def mm_Ci (l : Launch) (y : MethodName) (b : ByteArray) (L : Nat) (ret : Option FieldType) (d : Nat) (av : List Value) (σ : mS) (Post : Int32 → mS → Prop) : Prop :=
  ∀ (G : gw_G) (A : Nat → Prop) (ad : Nat → Nat), Met l y (ws_ y b L ret) (mm_rm d) (va_Pc (.ref (ad 0) :: av) (mm_U G A ad σ)) (va_Qi Post (fun u t => mm_U G A ad u t) A) 0 0 A
def mm_Cl (l : Launch) (y : MethodName) (b : ByteArray) (L : Nat) (ret : Option FieldType) (d : Nat) (av : List Value) (σ : mS) (Post : Int64 → mS → Prop) : Prop :=
  ∀ (G : gw_G) (A : Nat → Prop) (ad : Nat → Nat), Met l y (ws_ y b L ret) (mm_rm d) (va_Pc (.ref (ad 0) :: av) (mm_U G A ad σ)) (va_Ql Post (fun u t => mm_U G A ad u t) A) 0 0 A
def mm_Cv (l : Launch) (y : MethodName) (b : ByteArray) (L : Nat) (d : Nat) (av : List Value) (σ : mS) (Post : mS → Prop) : Prop :=
  ∀ (G : gw_G) (A : Nat → Prop) (ad : Nat → Nat), Met l y (ws_ y b L none) (mm_rm d) (va_Pc (.ref (ad 0) :: av) (mm_U G A ad σ)) (va_Qv Post (fun u t => mm_U G A ad u t) A) 0 0 A
/-- static methods that touch no heap -/
def ss_Ci (l : Launch) (y : MethodName) (b : ByteArray) (L : Nat) (ret : Option FieldType) (d : Nat) (av : List Value) (Post : Int32 → Prop) : Prop :=
  Met l y (ws_ y b L ret) (mm_rm d) (va_Pc av (fun _ => True)) (vp_Si Post) 0 0 (fun _ => False)
/-- what stays through a walk -/
def gx_S (own : String) (cc : ByteArray) (nL : Nat) (ret : Option FieldType) (p : Program) (s : State) (m : MethodId) (args : Array Value) (meth : Method) (c : Code) : Prop :=
  p.tables.exec = Jvm.exec ∧ c.code = cc ∧ c.maxLocals = nL ∧ s.vm.findClass own = some m.cls ∧ (∀ w ∈ lw_all, w.before args s = true) ∧ meth.sig.returnType = ret ∧ meth.locks = false
def gx_X (own : String) (cc : ByteArray) (nL : Nat) (ret : Option FieldType) (G : gw_G) (p : Program) (s : State) (m : MethodId) (args : Array Value) (meth : Method) (c : Code) : Prop :=
  p.tables.exec = Jvm.exec ∧ c.code = cc ∧ c.maxLocals = nL ∧ gw_T own G s m args ∧ meth.sig.returnType = ret ∧ meth.locks = false
theorem mm_blind {G : gw_G} {A : Nat → Prop} {ad : Nat → Nat} {σ : mS} {av : List Value} : FrameBlind (va_Pc av (mm_U G A ad σ)) := by
  rintro a U g mk ⟨h0, h1, h2, h3⟩
  exact ⟨h0, h1, h2, gw_K.same (s := U) (U := U.calling g mk a) rfl h3⟩
theorem mm_recv {s : State} {H : Heap} {G : gw_G} {ad : Nat → Nat} {σ : mS} (hK : gw_K G s) (hP : gw_P G ad (mm_w G ad σ) H) : ∃ cell : Cell, H[ad 0]? = some cell ∧ cell.vm.isStatics = false ∧ s.vm.findClass RX4 = some cell.cls :=
  va_recv (q := (RX4, TX4, 36)) hK.1 (gw_one hP (i := 0) rfl) (ci := 0) (q0 := 0) rfl rfl
theorem gx_sl (a b : Nat) (av : List Value) : (lg_sl (.ref a :: av)).length = (lg_sl (.ref b :: av)).length := rfl
section MB
variable {l : Launch} {y : MethodName} {b : ByteArray} {L d : Nat} {ret : Option FieldType} {av : List Value} {σ : mS}
theorem mm_ofi {Post : Int32 → mS → Prop} (hy : plainName y.cls = true) (hc : y.cls = RX4) (hL : (lg_sl (.ref 0 :: av)).length ≤ L)
    (body : ∀ (p : Program) (e : Env) (s : State) (m : MethodId) (args : Array Value) (below : List Frame) (meth : Method) (c : Code) (G : gw_G) (A : Nat → Prop) (ad : Nat → Nat) (ls : Array Slot), gx_X RX4 b L ret G p s m args meth c → mm_H G A s.heap s.heap [] ad σ → lv_has ls L (lv_args 0 (.ref (ad 0) :: av)) →
      W p l e (mm_rm d) s m args below meth c s.heap [] 0 0 (MQ below (va_Qi Post (fun u t => mm_U G A ad u t) A) args s 0 0 A) (F0 m 0 ls [])) : mm_Ci l y b L ret d av σ Post := by
  intro G A ad
  refine Met.ofW (cc := b) (maxL := L) (ret := ret) hy rfl ?_
  intro p e s m args below meth c s₁ B hml hv
  obtain ⟨rfl, hP, hD, hK⟩ := hv
  have hts := atoms_spec (ws := ws_ y b L ret) B.pre
  have hl := lv_entry (.ref (ad 0) :: av) (n := L) (by rw [gx_sl _ 0]; exact hL)
  rw [lg_entry_eq]
  exact body p e s m _ below meth c G A ad _ ⟨B.exec, B.bytes, hml, ⟨by rw [← hc]; exact findClass_of_methodNamed B.named, fun w h => hts w (List.mem_cons_of_mem _ h), hK⟩, B.returns, B.notSynchronized⟩ ⟨hP, hD, va_S.rf⟩ hl
theorem mm_ofl {Post : Int64 → mS → Prop} (hy : plainName y.cls = true) (hc : y.cls = RX4) (hL : (lg_sl (.ref 0 :: av)).length ≤ L)
    (body : ∀ (p : Program) (e : Env) (s : State) (m : MethodId) (args : Array Value) (below : List Frame) (meth : Method) (c : Code) (G : gw_G) (A : Nat → Prop) (ad : Nat → Nat) (ls : Array Slot), gx_X RX4 b L ret G p s m args meth c → mm_H G A s.heap s.heap [] ad σ → lv_has ls L (lv_args 0 (.ref (ad 0) :: av)) →
      W p l e (mm_rm d) s m args below meth c s.heap [] 0 0 (MQ below (va_Ql Post (fun u t => mm_U G A ad u t) A) args s 0 0 A) (F0 m 0 ls [])) : mm_Cl l y b L ret d av σ Post := by
  intro G A ad
  refine Met.ofW (cc := b) (maxL := L) (ret := ret) hy rfl ?_
  intro p e s m args below meth c s₁ B hml hv
  obtain ⟨rfl, hP, hD, hK⟩ := hv
  have hts := atoms_spec (ws := ws_ y b L ret) B.pre
  have hl := lv_entry (.ref (ad 0) :: av) (n := L) (by rw [gx_sl _ 0]; exact hL)
  rw [lg_entry_eq]
  exact body p e s m _ below meth c G A ad _ ⟨B.exec, B.bytes, hml, ⟨by rw [← hc]; exact findClass_of_methodNamed B.named, fun w h => hts w (List.mem_cons_of_mem _ h), hK⟩, B.returns, B.notSynchronized⟩ ⟨hP, hD, va_S.rf⟩ hl
theorem mm_ofv {Post : mS → Prop} (hy : plainName y.cls = true) (hc : y.cls = RX4) (hL : (lg_sl (.ref 0 :: av)).length ≤ L)
    (body : ∀ (p : Program) (e : Env) (s : State) (m : MethodId) (args : Array Value) (below : List Frame) (meth : Method) (c : Code) (G : gw_G) (A : Nat → Prop) (ad : Nat → Nat) (ls : Array Slot), gx_X RX4 b L none G p s m args meth c → mm_H G A s.heap s.heap [] ad σ → lv_has ls L (lv_args 0 (.ref (ad 0) :: av)) →
      W p l e (mm_rm d) s m args below meth c s.heap [] 0 0 (MQ below (va_Qv Post (fun u t => mm_U G A ad u t) A) args s 0 0 A) (F0 m 0 ls [])) : mm_Cv l y b L d av σ Post := by
  intro G A ad
  refine Met.ofW (cc := b) (maxL := L) (ret := none) hy rfl ?_
  intro p e s m args below meth c s₁ B hml hv
  obtain ⟨rfl, hP, hD, hK⟩ := hv
  have hts := atoms_spec (ws := ws_ y b L none) B.pre
  have hl := lv_entry (.ref (ad 0) :: av) (n := L) (by rw [gx_sl _ 0]; exact hL)
  rw [lg_entry_eq]
  exact body p e s m _ below meth c G A ad _ ⟨B.exec, B.bytes, hml, ⟨by rw [← hc]; exact findClass_of_methodNamed B.named, fun w h => hts w (List.mem_cons_of_mem _ h), hK⟩, B.returns, B.notSynchronized⟩ ⟨hP, hD, va_S.rf⟩ hl
theorem ss_ofi {Post : Int32 → Prop} (hy : plainName y.cls = true) (hL : (lg_sl av).length ≤ L)
    (body : ∀ (p : Program) (e : Env) (s : State) (m : MethodId) (args : Array Value) (below : List Frame) (meth : Method) (c : Code) (ls : Array Slot), gx_S y.cls b L ret p s m args meth c → lv_has ls L (lv_args 0 av) →
      W p l e (mm_rm d) s m args below meth c s.heap [] 0 0 (MQ below (vp_Si Post) args s 0 0 (fun _ => False)) (F0 m 0 ls [])) : ss_Ci l y b L ret d av Post := by
  refine Met.ofW (cc := b) (maxL := L) (ret := ret) hy rfl ?_
  intro p e s m args below meth c s₁ B hml hv
  obtain ⟨rfl, -⟩ := hv
  have hts := atoms_spec (ws := ws_ y b L ret) B.pre
  have hl := lv_entry av (n := L) hL
  rw [lg_entry_eq]
  exact body p e s m _ below meth c _ ⟨B.exec, B.bytes, hml, findClass_of_methodNamed B.named, fun w h => hts w (List.mem_cons_of_mem _ h), B.returns, B.notSynchronized⟩ hl
end MB
section MC
variable {p : Program} {l : Launch} {e : Env} {R : Room} {s : State} {m : MethodId} {args : Array Value} {below : List Frame} {meth : Method} {c : Code} {H : Heap} {locs : List Loc} {cells slots : Nat} {Q : State → Prop}
variable {cc : ByteArray} {pc nL : Nat} {ls : Array Slot} {rest st : List Value} {G : gw_G} {A A0 : Nat → Prop} {H0 : Heap} {ad : Nat → Nat} {σ u : mS} {y : MethodName} {b : ByteArray} {L d idx n : Nat} {ret : Option FieldType} {own : String} {ty : FieldType} {av : List Value}
theorem mm_cVi {Post : Int32 → mS → Prop} (hC : mm_Ci l y b L ret d av σ Post) (hx : p.tables.exec = Jvm.exec) (hb : c.code = cc) (hml : c.maxLocals = nL) (hT : gw_T RX4 G s m args) (hH : mm_H G A H0 H locs ad σ)
    (hq : GoodIn lw_all (wsV RX4 idx RX4 y (ws_ y b L ret))) (hd : y.cls = RX4 ∧ y.cls ≠ "java/lang/invoke/MethodHandle" ∧ y.cls ≠ "java/lang/invoke/VarHandle" ∧ (parseMethodDescriptor y.desc).map (fun d => d.parameters.length) = some n) (hR : d + 1 ≤ R.frames ∧ 8 + (L + 11) + 60 * d ≤ R.locals) (hn : av.length = n) (hsz : ls.size = nL) (hst : st = av.reverse ++ .ref (ad 0) :: rest) (hcat : (rest.map fun v => v.category).sum ≤ 8) (hdg : decode cc pc = .ok (.invokevirtual idx, 3)) (hf : cells ≤ R.cells ∧ slots ≤ R.slots)
    (kk : ∀ (r : Int32) (u : mS) (H1 : Heap) (locs1 : List Loc), Post r u → mm_H G A H0 H1 locs1 ad u → W p l e R s m args below meth c H1 locs1 cells slots Q (F0 m (pc + 3) ls (.int r :: rest))) : W p l e R s m args below meth c H locs cells slots Q (F0 m pc ls st) :=
  va_calli (va_runV (As := av) (rest := rest) ⟨hx, hb, hml, hT.1, hT.2.1⟩ (hC G A ad) (cwV n hT.2.1 hq rfl rfl rfl hd hR) ⟨mm_blind, mm_recv hT.2.2 hH.1, fun U hU hW => ⟨rfl, by rw [hU]; exact hH.1, hH.2.1, hT.2.2.warm hW⟩⟩ rfl hn hsz hst (lv_room hcat) hdg hf) hH.2.2 (fun q _ h => h) (fun q h => h)
    (fun r u t H1 locs1 ht hvm hp hB hz hk hS1 => kk r u H1 locs1 hp ⟨by rw [← ht]; exact hB.1, hB.2.1, hS1⟩)
theorem mm_cVl {Post : Int64 → mS → Prop} (hC : mm_Cl l y b L ret d av σ Post) (hx : p.tables.exec = Jvm.exec) (hb : c.code = cc) (hml : c.maxLocals = nL) (hT : gw_T RX4 G s m args) (hH : mm_H G A H0 H locs ad σ)
    (hq : GoodIn lw_all (wsV RX4 idx RX4 y (ws_ y b L ret))) (hd : y.cls = RX4 ∧ y.cls ≠ "java/lang/invoke/MethodHandle" ∧ y.cls ≠ "java/lang/invoke/VarHandle" ∧ (parseMethodDescriptor y.desc).map (fun d => d.parameters.length) = some n) (hR : d + 1 ≤ R.frames ∧ 8 + (L + 11) + 60 * d ≤ R.locals) (hn : av.length = n) (hsz : ls.size = nL) (hst : st = av.reverse ++ .ref (ad 0) :: rest) (hcat : (rest.map fun v => v.category).sum ≤ 8) (hdg : decode cc pc = .ok (.invokevirtual idx, 3)) (hf : cells ≤ R.cells ∧ slots ≤ R.slots)
    (kk : ∀ (r : Int64) (u : mS) (H1 : Heap) (locs1 : List Loc), Post r u → mm_H G A H0 H1 locs1 ad u → W p l e R s m args below meth c H1 locs1 cells slots Q (F0 m (pc + 3) ls (.long r :: rest))) : W p l e R s m args below meth c H locs cells slots Q (F0 m pc ls st) :=
  va_calll (va_runV (As := av) (rest := rest) ⟨hx, hb, hml, hT.1, hT.2.1⟩ (hC G A ad) (cwV n hT.2.1 hq rfl rfl rfl hd hR) ⟨mm_blind, mm_recv hT.2.2 hH.1, fun U hU hW => ⟨rfl, by rw [hU]; exact hH.1, hH.2.1, hT.2.2.warm hW⟩⟩ rfl hn hsz hst (lv_room hcat) hdg hf) hH.2.2 (fun q _ h => h) (fun q h => h)
    (fun r u t H1 locs1 ht hvm hp hB hz hk hS1 => kk r u H1 locs1 hp ⟨by rw [← ht]; exact hB.1, hB.2.1, hS1⟩)
theorem mm_cVv {Post : mS → Prop} (hC : mm_Cv l y b L d av σ Post) (hx : p.tables.exec = Jvm.exec) (hb : c.code = cc) (hml : c.maxLocals = nL) (hT : gw_T RX4 G s m args) (hH : mm_H G A H0 H locs ad σ)
    (hq : GoodIn lw_all (wsV RX4 idx RX4 y (ws_ y b L none))) (hd : y.cls = RX4 ∧ y.cls ≠ "java/lang/invoke/MethodHandle" ∧ y.cls ≠ "java/lang/invoke/VarHandle" ∧ (parseMethodDescriptor y.desc).map (fun d => d.parameters.length) = some n) (hR : d + 1 ≤ R.frames ∧ 8 + (L + 11) + 60 * d ≤ R.locals) (hn : av.length = n) (hsz : ls.size = nL) (hst : st = av.reverse ++ .ref (ad 0) :: rest) (hcat : (rest.map fun v => v.category).sum ≤ 8) (hdg : decode cc pc = .ok (.invokevirtual idx, 3)) (hf : cells ≤ R.cells ∧ slots ≤ R.slots)
    (kk : ∀ (u : mS) (H1 : Heap) (locs1 : List Loc), Post u → mm_H G A H0 H1 locs1 ad u → W p l e R s m args below meth c H1 locs1 cells slots Q (F0 m (pc + 3) ls rest)) : W p l e R s m args below meth c H locs cells slots Q (F0 m pc ls st) :=
  va_callv (va_runV (As := av) (rest := rest) ⟨hx, hb, hml, hT.1, hT.2.1⟩ (hC G A ad) (cwV n hT.2.1 hq rfl rfl rfl hd hR) ⟨mm_blind, mm_recv hT.2.2 hH.1, fun U hU hW => ⟨rfl, by rw [hU]; exact hH.1, hH.2.1, hT.2.2.warm hW⟩⟩ rfl hn hsz hst (lv_room hcat) hdg hf) hH.2.2 (fun q _ h => h) (fun q h => h)
    (fun u t H1 locs1 ht hvm hp hB hz hk hS1 => kk u H1 locs1 hp ⟨by rw [← ht]; exact hB.1, hB.2.1, hS1⟩)
theorem ss_ci {Post : Int32 → Prop} (hC : ss_Ci l y b L ret d av Post) (hx : p.tables.exec = Jvm.exec) (hb : c.code = cc) (hml : c.maxLocals = nL) (ho : s.vm.findClass own = some m.cls) (hts : ∀ w ∈ lw_all, w.before args s = true)
    (hq : GoodIn lw_all (va_wsS own idx y (ws_ y b L ret))) (hd : y.cls ≠ "java/lang/invoke/MethodHandle" ∧ y.cls ≠ "java/lang/invoke/VarHandle" ∧ (parseMethodDescriptor y.desc).map (fun d => d.parameters.length) = some n) (hR : d + 1 ≤ R.frames ∧ 8 + (L + 11) + 60 * d ≤ R.locals) (hn : av.length = n) (hsz : ls.size = nL) (hst : st = av.reverse ++ rest) (hcat : (rest.map fun v => v.category).sum ≤ 8) (hdg : decode cc pc = .ok (.invokestatic idx, 3)) (hf : cells ≤ R.cells ∧ slots ≤ R.slots)
    (kk : ∀ (r : Int32), Post r → W p l e R s m args below meth c H locs cells slots Q (F0 m (pc + 3) ls (.int r :: rest))) : W p l e R s m args below meth c H locs cells slots Q (F0 m pc ls st) := by
  have hr := va_runS (H := H) (locs := locs) (cells := cells) (slots := slots) (below := below) (e := e) (meth := meth) (g := F0 m pc ls st) (As := av) (rest := rest) ⟨hx, hb, hml, ho, hts⟩ hC (va_cwS n hts hq rfl rfl rfl hd hR) ⟨fun a U g mk h => h, fun U hU hW => ⟨rfl, trivial⟩⟩ rfl hn hsz hst (lv_room hcat) hdg hf
  intro T hTT X
  obtain ⟨v, st₀, t, T', L, h0, X', hL, e1, e2, ⟨r, hv, hp, hh⟩, stp⟩ := hr T hTT X
  cases hv
  obtain ⟨t2, a1, b1⟩ := kk r hp T' (by rw [e1, hh, h0]) (Stand.forget X' (fun q h => (hL q h).elim))
  exact ⟨t2, stp t2 a1, b1⟩
theorem mm_ri {Post : Int32 → mS → Prop} (hx : p.tables.exec = Jvm.exec) (hb : c.code = cc) (hr : meth.sig.returnType = some ty) (hlocks : meth.locks = false) (hT : gw_T own G s m args) (hH : mm_H G A s.heap H locs ad u) {v : Int32} (hn : narrow ty (.int v) = .int v) (hd : decode cc pc = .ok (.ireturn, 1)) (hp : Post v u) :
    W p l e R s m args below meth c H locs 0 0 (MQ below (va_Qi Post (fun u t => mm_U G A ad u t) A) args s 0 0 A) (F0 m pc ls [.int v]) :=
  W.zret hx hb hr hn (fun t ht hW => ⟨⟨v, u, rfl, hp, by rw [ht]; exact hH.1, hH.2.1, hT.2.2.warm hW⟩, hH.2.2.F ht⟩) hH.2.2.2.2 hd
theorem mm_rl {Post : Int64 → mS → Prop} (hx : p.tables.exec = Jvm.exec) (hb : c.code = cc) (hr : meth.sig.returnType = some .long) (hlocks : meth.locks = false) (hT : gw_T own G s m args) (hH : mm_H G A s.heap H locs ad u) {v : Int64} (hd : decode cc pc = .ok (.lreturn, 1)) (hp : Post v u) :
    W p l e R s m args below meth c H locs 0 0 (MQ below (va_Ql Post (fun u t => mm_U G A ad u t) A) args s 0 0 A) (F0 m pc ls [.long v]) :=
  W.lret hx hb hr (fun t ht hW => ⟨⟨v, u, rfl, hp, by rw [ht]; exact hH.1, hH.2.1, hT.2.2.warm hW⟩, hH.2.2.F ht⟩) hH.2.2.2.2 hd
theorem mm_rv {Post : mS → Prop} (hx : p.tables.exec = Jvm.exec) (hb : c.code = cc) (hr : meth.sig.returnType = none) (hlocks : meth.locks = false) (hT : gw_T own G s m args) (hH : mm_H G A s.heap H locs ad u) (hd : decode cc pc = .ok (.return_, 1)) (hp : Post u) :
    W p l e R s m args below meth c H locs 0 0 (MQ below (va_Qv Post (fun u t => mm_U G A ad u t) A) args s 0 0 A) (F0 m pc ls []) :=
  W.vret hx hb hr (fun t ht hW => ⟨⟨u, rfl, hp, by rw [ht]; exact hH.1, hH.2.1, hT.2.2.warm hW⟩, hH.2.2.F ht⟩) hH.2.2.2.2 hd
theorem ss_ri {Post : Int32 → Prop} (hx : p.tables.exec = Jvm.exec) (hb : c.code = cc) (hr : meth.sig.returnType = some ty) (hlocks : meth.locks = false) {v : Int32} (hn : narrow ty (.int v) = .int v) (hd : decode cc pc = .ok (.ireturn, 1)) (hp : Post v) :
    W p l e R s m args below meth c s.heap [] 0 0 (MQ below (vp_Si Post) args s 0 0 (fun _ => False)) (F0 m pc ls [.int v]) :=
  W.zret hx hb hr hn (fun t ht hW => ⟨v, rfl, hp, ht⟩) (fun q h => by cases h) hd
theorem lv_as {x z : Int32} (h : x = z) (kk : W p l e R s m args below meth c H locs cells slots Q (F0 m pc ls (.int z :: rest))) : W p l e R s m args below meth c H locs cells slots Q (F0 m pc ls (.int x :: rest)) := by
  subst h
  exact kk
theorem lv_asl {x z : Int64} (h : x = z) (kk : W p l e R s m args below meth c H locs cells slots Q (F0 m pc ls (.long z :: rest))) : W p l e R s m args below meth c H locs cells slots Q (F0 m pc ls (.long x :: rest)) := by
  subst h
  exact kk
end MC
