def kc_len (i : Nat) : Nat := ([8, 5, 6, 4, 5, 5] : List Nat).getD i 0
def kc_byt (i j : Nat) : Int32 := (([[100, 105, 115, 116, 97, 110, 99, 101], [100, 101, 112, 116, 104], [114, 101, 112, 97, 105, 114], [102, 114, 101, 101], [104, 111, 117, 114, 115], [104, 101, 97, 100, 115]] : List (List Int32)).getD i []).getD j 0
theorem kc_chr : ∀ i, i < 6 → ∀ j, j < 8 → ((kc_byt i j &&& 255).toUInt32 % 65536).toInt32 = kc_byt i j := by decide +kernel
theorem kc_lb : ∀ i, i < 6 → kc_len i ≤ 8 := by decide +kernel
def kc_S (adK adV : Nat → Nat) (A : Nat → Prop) (U : State) (H : Heap) : Prop := ∀ i, i < 6 → tk_S (adK i) (adV i) (kc_len i) (kc_byt i) A U H
def kc_R4 (adK : Nat → Nat) (U : State) : Prop := vk_R RX4 203 "distance" (adK 0) U ∧ vk_R RX4 212 "depth" (adK 1) U ∧ vk_R RX4 216 "repair" (adK 2) U ∧ vk_R RX4 214 "free" (adK 3) U ∧ vk_R RX4 220 "hours" (adK 4) U ∧ vk_R RX4 218 "heads" (adK 5) U
theorem kc_R4.warm {adK : Nat → Nat} {s U : State} (hW : s.WarmedH U.vm) (h : kc_R4 adK s) : kc_R4 adK U := ⟨h.1.warm hW, h.2.1.warm hW, h.2.2.1.warm hW, h.2.2.2.1.warm hW, h.2.2.2.2.1.warm hW, h.2.2.2.2.2.warm hW⟩
theorem kc_R4.same {adK : Nat → Nat} {s U : State} (hv : U.vm = s.vm) (h : kc_R4 adK s) : kc_R4 adK U := ⟨h.1.same hv, h.2.1.same hv, h.2.2.1.same hv, h.2.2.2.1.same hv, h.2.2.2.2.1.same hv, h.2.2.2.2.2.same hv⟩
def mk_U (adK adV : Nat → Nat) (G : gw_G) (A : Nat → Prop) (ad : Nat → Nat) (σ : mS) (U : State) : Prop := mm_U G A ad σ U ∧ kc_S adK adV A U U.heap ∧ kc_R4 adK U
def mk_Ci (l : Launch) (y : MethodName) (b : ByteArray) (L : Nat) (ret : Option FieldType) (d : Nat) (adK adV : Nat → Nat) (av : List Value) (σ : mS) (Post : Int32 → mS → Prop) : Prop :=
  ∀ (G : gw_G) (A : Nat → Prop) (ad : Nat → Nat), Met l y (ws_ y b L ret) (mm_rm d) (va_Pc (.ref (ad 0) :: av) (mk_U adK adV G A ad σ)) (va_Qi Post (fun u t => mm_U G A ad u t) A) 0 0 A
theorem mk_blind {adK adV : Nat → Nat} {G : gw_G} {A : Nat → Prop} {ad : Nat → Nat} {σ : mS} {av : List Value} : FrameBlind (va_Pc av (mk_U adK adV G A ad σ)) := by
  rintro a U g mk ⟨h0, h1, h2, h3⟩
  exact ⟨h0, ⟨h1.1, h1.2.1, gw_K.same (s := U) (U := U.calling g mk a) rfl h1.2.2⟩, fun i hi => (h2 i hi).moved (U := U.calling g mk a) (Vm.Alike.refl U.vm), kc_R4.same (U := U.calling g mk a) rfl h3⟩
section MK
variable {p : Program} {l : Launch} {e : Env} {R : Room} {s : State} {m : MethodId} {args : Array Value} {below : List Frame} {meth : Method} {c : Code} {H : Heap} {locs : List Loc} {cells slots : Nat} {Q : State → Prop}
variable {cc : ByteArray} {pc nL : Nat} {ls : Array Slot} {rest st : List Value} {G : gw_G} {A : Nat → Prop} {ad adK adV : Nat → Nat} {σ u : mS} {y : MethodName} {b : ByteArray} {L d idx n : Nat} {ret : Option FieldType} {av : List Value}
theorem mk_ofi {Post : Int32 → mS → Prop} (hy : plainName y.cls = true) (hc : y.cls = RX4) (hL : (lg_sl (.ref 0 :: av)).length ≤ L)
    (body : ∀ (p : Program) (e : Env) (s : State) (m : MethodId) (args : Array Value) (below : List Frame) (meth : Method) (c : Code) (G : gw_G) (A : Nat → Prop) (ad : Nat → Nat) (ls : Array Slot), gx_X RX4 b L ret G p s m args meth c → kc_S adK adV A s s.heap → kc_R4 adK s → mm_H G A s.heap s.heap [] ad σ → lv_has ls L (lv_args 0 (.ref (ad 0) :: av)) →
      W p l e (mm_rm d) s m args below meth c s.heap [] 0 0 (MQ below (va_Qi Post (fun u t => mm_U G A ad u t) A) args s 0 0 A) (F0 m 0 ls [])) : mk_Ci l y b L ret d adK adV av σ Post := by
  intro G A ad
  refine Met.ofW (cc := b) (maxL := L) (ret := ret) hy rfl ?_
  intro p e s m args below meth c s₁ B hml hv
  obtain ⟨rfl, ⟨hP, hD, hK⟩, hS, hR⟩ := hv
  have hts := atoms_spec (ws := ws_ y b L ret) B.pre
  have hl := lv_entry (.ref (ad 0) :: av) (n := L) (by rw [gx_sl _ 0]; exact hL)
  rw [lg_entry_eq]
  exact body p e s m _ below meth c G A ad _ ⟨B.exec, B.bytes, hml, ⟨by rw [← hc]; exact findClass_of_methodNamed B.named, fun w h => hts w (List.mem_cons_of_mem _ h), hK⟩, B.returns, B.notSynchronized⟩ hS hR ⟨hP, hD, va_S.rf⟩ hl
theorem mk_cVi {Post : Int32 → mS → Prop} (hC : mk_Ci l y b L ret d adK adV av σ Post) (hx : p.tables.exec = Jvm.exec) (hb : c.code = cc) (hml : c.maxLocals = nL) (hT : gw_T RX4 G s m args) (hS4 : kc_S adK adV A s s.heap) (hR4 : kc_R4 adK s) (hH : mm_H G A s.heap H locs ad σ)
    (hq : GoodIn lw_all (wsV RX4 idx RX4 y (ws_ y b L ret))) (hd : y.cls = RX4 ∧ y.cls ≠ "java/lang/invoke/MethodHandle" ∧ y.cls ≠ "java/lang/invoke/VarHandle" ∧ (parseMethodDescriptor y.desc).map (fun d => d.parameters.length) = some n) (hR : d + 1 ≤ R.frames ∧ 8 + (L + 11) + 60 * d ≤ R.locals) (hn : av.length = n) (hsz : ls.size = nL) (hst : st = av.reverse ++ .ref (ad 0) :: rest) (hcat : (rest.map fun v => v.category).sum ≤ 8) (hdg : decode cc pc = .ok (.invokevirtual idx, 3)) (hf : cells ≤ R.cells ∧ slots ≤ R.slots)
    (kk : ∀ (r : Int32) (u : mS) (H1 : Heap) (locs1 : List Loc), Post r u → mm_H G A s.heap H1 locs1 ad u → W p l e R s m args below meth c H1 locs1 cells slots Q (F0 m (pc + 3) ls (.int r :: rest))) : W p l e R s m args below meth c H locs cells slots Q (F0 m pc ls st) :=
  va_calli (va_runV (As := av) (rest := rest) ⟨hx, hb, hml, hT.1, hT.2.1⟩ (hC G A ad) (cwV n hT.2.1 hq rfl rfl rfl hd hR) ⟨mk_blind, mm_recv hT.2.2 hH.1, fun U hU hW => ⟨rfl, ⟨by rw [hU]; exact hH.1, hH.2.1, hT.2.2.warm hW⟩, fun i hi => by rw [hU]; exact ((hS4 i hi).kept hH.2.2.2.1).moved hW.alike, hR4.warm hW⟩⟩ rfl hn hsz hst (lv_room hcat) hdg hf) hH.2.2 (fun q _ h => h) (fun q h => h)
    (fun r u t H1 locs1 ht hvm hp hB hz hk hS1 => kk r u H1 locs1 hp ⟨by rw [← ht]; exact hB.1, hB.2.1, hS1⟩)
end MK
abbrev pIsW (tp : Nat → Int32) (b q i : Nat) : Prop := q - b = kc_len i ∧ ∀ j, j < kc_len i → tp (b + j) = kc_byt i j

set_option maxHeartbeats 1000000 in
set_option maxRecDepth 100000 in
theorem lp_X4_isWord {p : Program} {l : Launch} {e : Env} {s : State} {m : MethodId} {args : Array Value} {below : List Frame} {meth : Method} {c : Code} {Q : State → Prop} {G : gw_G} {A : Nat → Prop} {ad : Nat → Nat} (σ : mS) (i : Nat) (hi : i < 6) {bg : Nat} (h27 : σ.1 27 = nI bg) (hbg : bg + kc_len i ≤ 400) {adK adV : Nat → Nat} (X : gx_X RX4 cX4_isWord 4 (some .boolean) G p s m args meth c) (hS4 : kc_S adK adV A s s.heap) (hR4 : kc_R4 adK s) (K1 : (∀ (H : Heap) (locs : List Loc) (ls : Array Slot), (∀ z, z < kc_len i → σ.2 23 (bg + z) = kc_byt i z) → mm_H G A s.heap H locs ad σ → lv_has ls 4 [(2, .int 1)] → W p l e (mm_rm 5) s m args below meth c H locs 0 0 Q (F0 m 67 ls []))) (K0 : (∀ (H : Heap) (locs : List Loc) (ls : Array Slot), (¬ ∀ z, z < kc_len i → σ.2 23 (bg + z) = kc_byt i z) → mm_H G A s.heap H locs ad σ → lv_has ls 4 [(2, .int 0)] → W p l e (mm_rm 5) s m args below meth c H locs 0 0 Q (F0 m 67 ls []))) : ∀ (n : Nat) (j : Nat), kc_len i < j + n → j ≤ kc_len i → (∀ z, z < j → σ.2 23 (bg + z) = kc_byt i z) → ∀ (H : Heap) (locs : List Loc) (ls : Array Slot), mm_H G A s.heap H locs ad σ → lv_has ls 4 [(0, .ref (ad 0)), (1, .ref (adK i)), (2, .int 1), (3, .int (nI j))] → W p l e (mm_rm 5) s m args below meth c H locs 0 0 Q (F0 m 24 ls []) := by
  obtain ⟨hx, hb, hml, hT, hr, hlocks⟩ := id X
  intro n
  induction n with
  | zero =>
    intro j h0 hj hall
    exact absurd h0 (by omega)
  | succ n ih =>
    intro j h0 hj hall H locs ls hH hl
    have hlb := kc_lb i hi
    refine lv_iload_n hx hb dX4_isWord_24 rfl (lv_at hl 2 rfl) ?_
    refine lv_if_eq (tgt := 67) hx hb dX4_isWord_25 (by decide) (fun c_25 => ?_) (fun c_25 => ?_)
    · skip
      exact absurd c_25 (by decide)
    · skip
      refine lv_iload_n hx hb dX4_isWord_28 rfl (lv_at hl 3 rfl) ?_
      refine lv_aload_n hx hb dX4_isWord_29 rfl (lv_at hl 1 rfl) ?_
      refine tk_cV (n := 0) (c_J7_length l (adK i) (adV i) (kc_len i) (kc_byt i) (by omega)) hx hb hml hT.1 hT.2.1 (tk_blind _ _ _ _ _) (fun U hU hW => by show tk_S _ _ _ _ tk_F U U.heap; rw [hU]; exact (((hS4 i hi).kept hH.2.2.2.1).narrow (fun _ h => h.elim)).moved hW.alike) (have ⟨ce, h1, h2, h3, _⟩ := ((hS4 i hi).kept hH.2.2.2.1).1; ⟨ce, h1, h2, h3⟩) (lw_V q1054 q696 q697 q45 q698) (by decide +kernel) ⟨Nat.le_of_ble_eq_true rfl, Nat.le_of_ble_eq_true rfl⟩ rfl hl.1 rfl (Nat.le_of_ble_eq_true rfl) dX4_isWord_30 ⟨Nat.le_refl _, Nat.le_refl _⟩ (fun r_30 hp_30 => ?_)
      obtain rfl := hp_30
      refine lv_icmp_ge (tgt := 67) hx hb dX4_isWord_33 (by decide) (fun c_33 => ?_) (fun c_33 => ?_)
      · skip
        have c_33 : (kc_len i) ≤ j := (nI_leI (a := (kc_len i)) (b := j) (by omega) (by omega)).mp c_33
        obtain rfl : kc_len i = j := by omega
        exact K1 _ _ _ hall hH (lv_sub hl [2] rfl)
      · skip
        have c_33 : ¬ ((kc_len i) ≤ j) := fun h => c_33 ((nI_leI (a := (kc_len i)) (b := j) (by omega) (by omega)).mpr h)
        refine lv_aload_n hx hb dX4_isWord_36 rfl (lv_at hl 0 rfl) ?_
        refine mm_get (v := .ref (ad 23)) hx hb hT hH 23 (by decide) rfl q804 rfl dX4_isWord_37 ?_
        refine lv_aload_n hx hb dX4_isWord_40 rfl (lv_at hl 0 rfl) ?_
        refine mm_get (v := .int (σ.1 27)) hx hb hT hH 27 (by decide) rfl q808 rfl dX4_isWord_41 ?_
        refine lv_as h27 ?_
        refine lv_iload_n hx hb dX4_isWord_44 rfl (lv_at hl 3 rfl) ?_
        refine lv_iadd hx hb dX4_isWord_45 ?_
        refine lv_as (nI_add bg j) ?_
        refine mm_bld (v := σ.2 23 (bg + j)) hx hb hT hH 23 (by decide) rfl (bg + j) rfl (show bg + j < 400 by omega) rfl dX4_isWord_46 ?_
        refine lv_aload_n hx hb dX4_isWord_47 rfl (lv_at hl 1 rfl) ?_
        refine lv_iload_n hx hb dX4_isWord_48 rfl (lv_at hl 3 rfl) ?_
        refine tk_cV (n := 1) (c_J7_charAt l (adK i) (adV i) (kc_len i) (kc_byt i) j (by omega) (by omega)) hx hb hml hT.1 hT.2.1 (tk_blind _ _ _ _ _) (fun U hU hW => by show tk_S _ _ _ _ tk_F U U.heap; rw [hU]; exact (((hS4 i hi).kept hH.2.2.2.1).narrow (fun _ h => h.elim)).moved hW.alike) (have ⟨ce, h1, h2, h3, _⟩ := ((hS4 i hi).kept hH.2.2.2.1).1; ⟨ce, h1, h2, h3⟩) (lw_V q1055 q706 q707 q45 q708) (by decide +kernel) ⟨Nat.le_of_ble_eq_true rfl, Nat.le_of_ble_eq_true rfl⟩ rfl hl.1 rfl (Nat.le_of_ble_eq_true rfl) dX4_isWord_49 ⟨Nat.le_refl _, Nat.le_refl _⟩ (fun r_49 hp_49 => ?_)
        obtain rfl := hp_49
        refine lv_as (z := kc_byt i j) (kc_chr i hi j (by omega)) ?_
        refine lv_icmp_ne (tgt := 59) hx hb dX4_isWord_52 (by decide) (fun c_52 => ?_) (fun c_52 => ?_)
        · skip
          refine lv_iconst (v := 0) hx hb dX4_isWord_59 (by decide) ?_
          refine lv_istore_n (lv' := [(2, .int 0), (0, .ref (ad 0)), (1, .ref (adK i)), (3, .int (nI j))]) hx hb dX4_isWord_60 rfl hl (by decide) rfl (fun ls hl => ?_)
          refine lv_iinc (v := nI (j + 1)) (lv' := [(3, .int (nI (j + 1))), (2, .int 0), (0, .ref (ad 0)), (1, .ref (adK i))]) hx hb dX4_isWord_61 hl (k := 3) rfl (nI_add j 1) (by decide) rfl (fun ls hl => ?_)
          refine lv_goto (tgt := 24) hx hb dX4_isWord_64 (by decide) ?_
          refine lv_iload_n hx hb dX4_isWord_24 rfl (lv_at hl 1 rfl) ?_
          refine lv_if_eq (tgt := 67) hx hb dX4_isWord_25 (by decide) (fun c_25 => ?_) (fun c_25 => ?_)
          · skip
            exact K0 _ _ _ (fun h => c_52 (h j (by omega))) hH (lv_sub hl [1] rfl)
          · skip
            exact absurd c_25 (by decide)
        · skip
          refine lv_iconst (v := 1) hx hb dX4_isWord_55 (by decide) ?_
          refine lv_goto (tgt := 60) hx hb dX4_isWord_56 (by decide) ?_
          refine lv_istore_n (lv' := [(2, .int 1), (0, .ref (ad 0)), (1, .ref (adK i)), (3, .int (nI j))]) hx hb dX4_isWord_60 rfl hl (by decide) rfl (fun ls hl => ?_)
          refine lv_iinc (v := nI (j + 1)) (lv' := [(3, .int (nI (j + 1))), (2, .int 1), (0, .ref (ad 0)), (1, .ref (adK i))]) hx hb dX4_isWord_61 hl (k := 3) rfl (nI_add j 1) (by decide) rfl (fun ls hl => ?_)
          refine lv_goto (tgt := 24) hx hb dX4_isWord_64 (by decide) ?_
          exact ih (j + 1) (by omega) (by omega) (fun z hz => by rcases Nat.lt_or_ge z j with y | y; exact hall z y; rw [show z = j by omega]; exact c_52) _ _ _ hH (lv_sub hl [2, 3, 1, 0] rfl)

set_option maxHeartbeats 1000000 in
set_option maxRecDepth 100000 in
theorem c_X4_isWord (l : Launch) (adK adV : Nat → Nat) (σ : mS) (i : Nat) (hi : i < 6) {pt bg : Nat} (h25 : σ.1 25 = nI pt) (h27 : σ.1 27 = nI bg) (hbp : bg ≤ pt) (hp4 : pt ≤ 400) : mk_Ci l yX4_isWord cX4_isWord 4 (some .boolean) 5 adK adV [.ref (adK i)] σ (fun r u => σ = u ∧ ((1 = r ∧ (pIsW (σ.2 23) bg pt i)) ∨ (0 = r ∧ ¬ (pIsW (σ.2 23) bg pt i)))) := by
  refine mk_ofi (by decide) rfl (Nat.le_of_ble_eq_true rfl) ?_
  intro p e s m args below meth c G A ad ls X hS4 hR4 hH hl
  obtain ⟨hx, hb, hml, hT, hr, hlocks⟩ := id X
  have hl : lv_has ls 4 [(0, .ref (ad 0)), (1, .ref (adK i))] := hl
  have hlb := kc_lb i hi
  refine lv_aload_n hx hb dX4_isWord_0 rfl (lv_at hl 0 rfl) ?_
  refine mm_get (v := .int (σ.1 25)) hx hb hT hH 25 (by decide) rfl q806 rfl dX4_isWord_1 ?_
  refine lv_as h25 ?_
  refine lv_aload_n hx hb dX4_isWord_4 rfl (lv_at hl 0 rfl) ?_
  refine mm_get (v := .int (σ.1 27)) hx hb hT hH 27 (by decide) rfl q808 rfl dX4_isWord_5 ?_
  refine lv_as h27 ?_
  refine lv_isub hx hb dX4_isWord_8 ?_
  refine lv_as (z := nI (pt - bg)) (pk_sub hbp) ?_
  refine lv_aload_n hx hb dX4_isWord_9 rfl (lv_at hl 1 rfl) ?_
  refine tk_cV (n := 0) (c_J7_length l (adK i) (adV i) (kc_len i) (kc_byt i) (by omega)) hx hb hml hT.1 hT.2.1 (tk_blind _ _ _ _ _) (fun U hU hW => by show tk_S _ _ _ _ tk_F U U.heap; rw [hU]; exact (((hS4 i hi).kept hH.2.2.2.1).narrow (fun _ h => h.elim)).moved hW.alike) (have ⟨ce, h1, h2, h3, _⟩ := ((hS4 i hi).kept hH.2.2.2.1).1; ⟨ce, h1, h2, h3⟩) (lw_V q1054 q696 q697 q45 q698) (by decide +kernel) ⟨Nat.le_of_ble_eq_true rfl, Nat.le_of_ble_eq_true rfl⟩ rfl hl.1 rfl (Nat.le_of_ble_eq_true rfl) dX4_isWord_10 ⟨Nat.le_refl _, Nat.le_refl _⟩ (fun r_10 hp_10 => ?_)
  obtain rfl := hp_10
  refine lv_icmp_ne (tgt := 20) hx hb dX4_isWord_13 (by decide) (fun c_13 => ?_) (fun c_13 => ?_)
  · skip
    have c_13 : ¬ ((pt - bg) = (kc_len i)) := fun h => c_13 ((nI_eq (a := (pt - bg)) (b := (kc_len i)) (by omega) (by omega)).mpr h)
    refine lv_iconst (v := 0) hx hb dX4_isWord_20 (by decide) ?_
    refine lv_istore_n (lv' := [(2, .int 0), (0, .ref (ad 0)), (1, .ref (adK i))]) hx hb dX4_isWord_21 rfl hl (by decide) rfl (fun ls hl => ?_)
    refine lv_iconst (v := 0) hx hb dX4_isWord_22 (by decide) ?_
    refine lv_istore_n (lv' := [(3, .int 0), (2, .int 0), (0, .ref (ad 0)), (1, .ref (adK i))]) hx hb dX4_isWord_23 rfl hl (by decide) rfl (fun ls hl => ?_)
    refine lv_iload_n hx hb dX4_isWord_24 rfl (lv_at hl 1 rfl) ?_
    refine lv_if_eq (tgt := 67) hx hb dX4_isWord_25 (by decide) (fun c_25 => ?_) (fun c_25 => ?_)
    · skip
      refine lv_iload_n hx hb dX4_isWord_67 rfl (lv_at hl 1 rfl) ?_
      exact mm_ri hx hb hr hlocks hT hH rfl dX4_isWord_68 (⟨rfl, Or.inr ⟨rfl, fun h => c_13 h.1⟩⟩)
    · skip
      exact absurd c_25 (by decide)
  · skip
    have c_13 : (pt - bg) = (kc_len i) := (nI_eq (a := (pt - bg)) (b := (kc_len i)) (by omega) (by omega)).mp c_13
    refine lv_iconst (v := 1) hx hb dX4_isWord_16 (by decide) ?_
    refine lv_goto (tgt := 21) hx hb dX4_isWord_17 (by decide) ?_
    refine lv_istore_n (lv' := [(2, .int 1), (0, .ref (ad 0)), (1, .ref (adK i))]) hx hb dX4_isWord_21 rfl hl (by decide) rfl (fun ls hl => ?_)
    refine lv_iconst (v := 0) hx hb dX4_isWord_22 (by decide) ?_
    refine lv_istore_n (lv' := [(3, .int 0), (2, .int 1), (0, .ref (ad 0)), (1, .ref (adK i))]) hx hb dX4_isWord_23 rfl hl (by decide) rfl (fun ls hl => ?_)
    refine lp_X4_isWord σ i hi h27 (by omega) X hS4 hR4 ?_ ?_ (kc_len i + 1) 0 (by omega) (Nat.zero_le _) (fun z hz => absurd hz (Nat.not_lt_zero z)) _ _ _ hH (lv_sub hl [2, 3, 1, 0] rfl)
    · intro H locs ls hall hH hl
      refine lv_iload_n hx hb dX4_isWord_67 rfl (lv_at hl 0 rfl) ?_
      exact mm_ri hx hb hr hlocks hT hH rfl dX4_isWord_68 (⟨rfl, Or.inl ⟨rfl, c_13, hall⟩⟩)
    · intro H locs ls hno hH hl
      refine lv_iload_n hx hb dX4_isWord_67 rfl (lv_at hl 0 rfl) ?_
      exact mm_ri hx hb hr hlocks hT hH rfl dX4_isWord_68 (⟨rfl, Or.inr ⟨rfl, fun h => hno h.2⟩⟩)
