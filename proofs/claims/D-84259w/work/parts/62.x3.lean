section XA
variable {p : Program} {l : Launch} {e : Env} {R : Room} {s : State} {m : MethodId} {args : Array Value} {below : List Frame} {meth : Method} {c : Code} {H : Heap} {locs : List Loc} {cells slots : Nat} {Q : State → Prop}
variable {cc : ByteArray} {pc : Nat} {ls : Array Slot} {rest : List Value} {G : gw_G} {A : Nat → Prop} {ad wk : Nat → Nat} {σ : xS} {nC nS : Nat} {nW : Nat → Nat}
theorem xx_acmp_eq (hx : p.tables.exec = Jvm.exec) (hb : c.code = cc) (hD : gw_D A ad (xx_w G ad wk σ)) (hk : xk σ nC nS nW) {i j : Nat} (hi : i < nC) (hj : j < nC) {off : Int} {tgt : Nat} (hdg : decode cc pc = .ok (.if_acmp .eq off, 3)) (ht : (pc : Int) + off = (tgt : Int))
    (kt : i = j → W p l e R s m args below meth c H locs cells slots Q (F0 m tgt ls rest)) (kf : ¬ i = j → W p l e R s m args below meth c H locs cells slots Q (F0 m (pc + 3) ls rest)) : W p l e R s m args below meth c H locs cells slots Q (F0 m pc ls (.ref (ad (40 + j)) :: .ref (ad (40 + i)) :: rest)) :=
  lv_acmp_eq (rx := some (ad (40 + i))) (ry := some (ad (40 + j))) hx hb hdg ht (fun h => kt (by have := hD.1 (40 + i) (40 + j) _ _ (xx_chan hk hi) (xx_chan hk hj) (Option.some.inj h); omega)) (fun h => kf (fun e => h (by rw [e])))
theorem xx_acmp_ne (hx : p.tables.exec = Jvm.exec) (hb : c.code = cc) (hD : gw_D A ad (xx_w G ad wk σ)) (hk : xk σ nC nS nW) {i j : Nat} (hi : i < nC) (hj : j < nC) {off : Int} {tgt : Nat} (hdg : decode cc pc = .ok (.if_acmp .ne off, 3)) (ht : (pc : Int) + off = (tgt : Int))
    (kt : ¬ i = j → W p l e R s m args below meth c H locs cells slots Q (F0 m tgt ls rest)) (kf : i = j → W p l e R s m args below meth c H locs cells slots Q (F0 m (pc + 3) ls rest)) : W p l e R s m args below meth c H locs cells slots Q (F0 m pc ls (.ref (ad (40 + j)) :: .ref (ad (40 + i)) :: rest)) :=
  lv_acmp_ne (rx := some (ad (40 + i))) (ry := some (ad (40 + j))) hx hb hdg ht (fun h => kt (fun e => h (by rw [e]))) (fun h => kf (by have := hD.1 (40 + i) (40 + j) _ _ (xx_chan hk hi) (xx_chan hk hj) (Option.some.inj h); omega))
end XA

/-- a channel may be dug: two wells at least, none too near to a dug one's -/
def xMay (σ : mS) (nC : Nat) (nW : Nat → Nat) (k : Nat) : Prop := 2 ≤ nW k ∧ ∀ q, q < nC → ¬ σ.2 8 q = -1 → ∀ i, i < nW k → ∀ j, j < nW q → ¬ pClash σ (20 * k + i) (20 * q + j)

set_option maxHeartbeats 1000000 in
set_option maxRecDepth 100000 in
theorem lp_X1_isAllowed1 {p : Program} {l : Launch} {e : Env} {s : State} {m : MethodId} {args : Array Value} {below : List Frame} {meth : Method} {c : Code} {Q : State → Prop} {G : gw_G} {ad wk : Nat → Nat} (σ : xS) {nC nS : Nat} {nW : Nat → Nat} (hk : xk σ nC nS nW) (k : Nat) (hkk : k < nC) (q : Nat) (hq : q < nC) (hd : ¬ σ.1.2 8 q = -1) (i : Nat) (hi : i < nW k) (X : gx_X RX1 cX1_isAllowed 7 (some .boolean) G p s m args meth c) (hH : xr_H G ad wk σ s.heap) (K1 : (∀ (ls : Array Slot), (∀ z, z < nW q → ¬ pClash σ.1 (20 * k + i) (20 * q + z)) → lv_has ls 7 [(0, .ref (ad 0)), (1, .ref (ad (40 + k))), (2, .int 1), (3, .int (nI q)), (4, .ref (ad (40 + q))), (5, .int (nI i))] → W p l e (mm_rm 3) s m args below meth c s.heap [] 0 0 Q (F0 m 147 ls []))) (K0 : (∀ (ls : Array Slot), ¬ xMay σ.1 nC nW k → lv_has ls 7 [(0, .ref (ad 0)), (1, .ref (ad (40 + k))), (2, .int 0), (3, .int (nI q)), (4, .ref (ad (40 + q))), (5, .int (nI i))] → W p l e (mm_rm 3) s m args below meth c s.heap [] 0 0 Q (F0 m 147 ls []))) : ∀ (n : Nat) (j : Nat) (b : Int32), nW q < j + n → j ≤ nW q → ((b = 1 ∧ ∀ z, z < j → ¬ pClash σ.1 (20 * k + i) (20 * q + z)) ∨ (b = 0 ∧ ¬ xMay σ.1 nC nW k)) → ∀ (ls : Array Slot), lv_has ls 7 [(0, .ref (ad 0)), (1, .ref (ad (40 + k))), (2, .int b), (3, .int (nI q)), (4, .ref (ad (40 + q))), (5, .int (nI i)), (6, .int (nI j))] → W p l e (mm_rm 3) s m args below meth c s.heap [] 0 0 Q (F0 m 63 ls []) := by
  obtain ⟨hx, hb, hml, hT, hr, hlocks⟩ := id X
  intro n
  induction n with
  | zero =>
    intro j b h0 hj hbb
    exact absurd h0 (by omega)
  | succ n ih =>
    intro j b h0 hj hbb ls hl
    have h8 := hk.1.2
    have hWk := hk.2.2.1 k (by omega)
    have hWq := hk.2.2.1 q (by omega)
    rcases hbb with ⟨rfl, hall⟩ | ⟨rfl, hbad⟩
    · skip
      refine lv_iload hx hb dX1_isAllowed_63 (lv_at hl 6 rfl) ?_
      refine lv_aload hx hb dX1_isAllowed_65 (lv_at hl 4 rfl) ?_
      refine gw_getN (C := RX5) (T := TX5) (N := 5) (ci := 4) (fs := xx_fs5 ad σ.1 q) (v := .int (σ.1.2 5 q)) hx hb hT hH.1 (40 + q) (xx_chan hk (show q < nC by omega)) rfl in_X5 1 (by decide) rfl (List.mem_of_getElem? (i := 4) rfl) rfl dX1_isAllowed_67 ?_
      refine lv_as hWq.1 ?_
      refine lv_icmp_ge (tgt := 147) hx hb dX1_isAllowed_70 (by decide) (fun c_70 => ?_) (fun c_70 => ?_)
      · skip
        have c_70 : (nW q) ≤ j := (nI_leI (a := (nW q)) (b := j) (by omega) (by omega)).mp c_70
        exact K1 _ (fun z hz => hall z (by omega)) (lv_sub hl [0, 1, 2, 3, 4, 5] rfl)
      · skip
        have c_70 : ¬ ((nW q) ≤ j) := fun h => c_70 ((nI_leI (a := (nW q)) (b := j) (by omega) (by omega)).mpr h)
        refine lv_iload_n hx hb dX1_isAllowed_73 rfl (lv_at hl 2 rfl) ?_
        refine lv_if_eq (tgt := 147) hx hb dX1_isAllowed_74 (by decide) (fun c_74 => ?_) (fun c_74 => ?_)
        · skip
          exact absurd c_74 (by decide)
        · skip
          refine lv_aload_n hx hb dX1_isAllowed_77 rfl (lv_at hl 1 rfl) ?_
          refine gw_getN (C := RX5) (T := TX5) (N := 5) (ci := 4) (fs := xx_fs5 ad σ.1 k) (v := .ref (ad (50 + k))) hx hb hT hH.1 (40 + k) (xx_chan hk (show k < nC by omega)) rfl in_X5 0 (by decide) rfl (List.mem_of_getElem? (i := 3) rfl) rfl dX1_isAllowed_78 ?_
          refine lv_iload hx hb dX1_isAllowed_81 (lv_at hl 5 rfl) ?_
          refine gw_aald (b := ad (60 + (20 * k + i))) hx hb hT hH.1 (50 + k) 5 (xx_wells hk (show k < nC by omega)) rfl i rfl (show i < 20 by omega) (by decide) (xx_wer hk (show k < nC by omega) (show i < nW k by omega)) dX1_isAllowed_83 ?_
          refine lv_aload hx hb dX1_isAllowed_84 (lv_at hl 4 rfl) ?_
          refine gw_getN (C := RX5) (T := TX5) (N := 5) (ci := 4) (fs := xx_fs5 ad σ.1 q) (v := .ref (ad (50 + q))) hx hb hT hH.1 (40 + q) (xx_chan hk (show q < nC by omega)) rfl in_X5 0 (by decide) rfl (List.mem_of_getElem? (i := 3) rfl) rfl dX1_isAllowed_86 ?_
          refine lv_iload hx hb dX1_isAllowed_89 (lv_at hl 6 rfl) ?_
          refine gw_aald (b := ad (60 + (20 * q + j))) hx hb hT hH.1 (50 + q) 5 (xx_wells hk (show q < nC by omega)) rfl j rfl (show j < 20 by omega) (by decide) (xx_wer hk (show q < nC by omega) (show j < nW q by omega)) dX1_isAllowed_91 ?_
          refine xr_V (n := 1) (60 + (20 * k + i)) ((c_X6_steps l σ hk k i (by omega) (by omega) q j (by omega) (by omega)) G ad wk) hx hb hml hT hH.1 hH.2.1 (xx_well hk (show k < nC by omega) (show i < nW k by omega)) rfl (lw_V q508 q302 q303 q47 q304) (by decide +kernel) ⟨Nat.le_of_ble_eq_true rfl, Nat.le_of_ble_eq_true rfl⟩ rfl hl.1 rfl (Nat.le_of_ble_eq_true rfl) dX1_isAllowed_92 ⟨Nat.le_of_ble_eq_true rfl, Nat.le_of_ble_eq_true rfl⟩ (fun r_92 hp_92 => ?_)
          obtain rfl := hp_92
          refine lv_aload_n hx hb dX1_isAllowed_95 rfl (lv_at hl 0 rfl) ?_
          refine gw_get (C := RX1) (T := TX1) (N := 21) (ci := 1) (fs := xx_fs1 ad σ.1.1) (v := .ref (ad 21)) hx hb hT hH.1 0 xx_0 rfl in_X1 3 (by decide) rfl q179 rfl dX1_isAllowed_96 ?_
          refine lv_iconst (v := 0) hx hb dX1_isAllowed_99 (by decide) ?_
          refine xx_ild (v := σ.1.2 21 0) hx hb hT hH.1 21 (by decide) (by decide) rfl 0 rfl (show 0 < 4 by omega) rfl dX1_isAllowed_100 ?_
          refine lv_icmp_ge (tgt := 135) hx hb dX1_isAllowed_101 (by decide) (fun c_101 => ?_) (fun c_101 => ?_)
          · skip
            refine lv_iconst (v := 1) hx hb dX1_isAllowed_135 (by decide) ?_
            refine lv_goto (tgt := 140) hx hb dX1_isAllowed_136 (by decide) ?_
            refine lv_istore_n (lv' := [(2, .int 1), (0, .ref (ad 0)), (1, .ref (ad (40 + k))), (3, .int (nI q)), (4, .ref (ad (40 + q))), (5, .int (nI i)), (6, .int (nI j))]) hx hb dX1_isAllowed_140 rfl hl (by decide) rfl (fun ls hl => ?_)
            refine lv_iinc (v := nI (j + 1)) (lv' := [(6, .int (nI (j + 1))), (2, .int 1), (0, .ref (ad 0)), (1, .ref (ad (40 + k))), (3, .int (nI q)), (4, .ref (ad (40 + q))), (5, .int (nI i))]) hx hb dX1_isAllowed_141 hl (k := 6) rfl (nI_add j 1) (by decide) rfl (fun ls hl => ?_)
            refine lv_goto (tgt := 63) hx hb dX1_isAllowed_144 (by decide) ?_
            exact ih (j + 1) _ (by omega) (by omega) (Or.inl ⟨rfl, fun z hz => by rcases Nat.lt_or_ge z j with y | y; exact hall z y; rw [show z = j by omega]; exact (fun h => absurd h.1 (Int32.not_lt.mpr c_101))⟩) _ (lv_sub hl [2, 3, 1, 4, 5, 6, 0] rfl)
          · skip
            refine lv_aload_n hx hb dX1_isAllowed_104 rfl (lv_at hl 1 rfl) ?_
            refine gw_getN (C := RX5) (T := TX5) (N := 5) (ci := 4) (fs := xx_fs5 ad σ.1 k) (v := .ref (ad (50 + k))) hx hb hT hH.1 (40 + k) (xx_chan hk (show k < nC by omega)) rfl in_X5 0 (by decide) rfl (List.mem_of_getElem? (i := 3) rfl) rfl dX1_isAllowed_105 ?_
            refine lv_iload hx hb dX1_isAllowed_108 (lv_at hl 5 rfl) ?_
            refine gw_aald (b := ad (60 + (20 * k + i))) hx hb hT hH.1 (50 + k) 5 (xx_wells hk (show k < nC by omega)) rfl i rfl (show i < 20 by omega) (by decide) (xx_wer hk (show k < nC by omega) (show i < nW k by omega)) dX1_isAllowed_110 ?_
            refine gw_getN (C := RX6) (T := TX6) (N := 4) (ci := 5) (fs := xx_fs6 σ.1 (20 * k + i)) (v := .int (σ.1.2 14 (20 * k + i))) hx hb hT hH.1 (60 + (20 * k + i)) (xx_well hk (show k < nC by omega) (show i < nW k by omega)) rfl in_X6 2 (by decide) rfl (List.mem_of_getElem? (i := 9) rfl) rfl dX1_isAllowed_111 ?_
            refine lv_aload hx hb dX1_isAllowed_114 (lv_at hl 4 rfl) ?_
            refine gw_getN (C := RX5) (T := TX5) (N := 5) (ci := 4) (fs := xx_fs5 ad σ.1 q) (v := .ref (ad (50 + q))) hx hb hT hH.1 (40 + q) (xx_chan hk (show q < nC by omega)) rfl in_X5 0 (by decide) rfl (List.mem_of_getElem? (i := 3) rfl) rfl dX1_isAllowed_116 ?_
            refine lv_iload hx hb dX1_isAllowed_119 (lv_at hl 6 rfl) ?_
            refine gw_aald (b := ad (60 + (20 * q + j))) hx hb hT hH.1 (50 + q) 5 (xx_wells hk (show q < nC by omega)) rfl j rfl (show j < 20 by omega) (by decide) (xx_wer hk (show q < nC by omega) (show j < nW q by omega)) dX1_isAllowed_121 ?_
            refine gw_getN (C := RX6) (T := TX6) (N := 4) (ci := 5) (fs := xx_fs6 σ.1 (20 * q + j)) (v := .int (σ.1.2 14 (20 * q + j))) hx hb hT hH.1 (60 + (20 * q + j)) (xx_well hk (show q < nC by omega) (show j < nW q by omega)) rfl in_X6 2 (by decide) rfl (List.mem_of_getElem? (i := 9) rfl) rfl dX1_isAllowed_122 ?_
            refine lv_aload_n hx hb dX1_isAllowed_125 rfl (lv_at hl 0 rfl) ?_
            refine gw_get (C := RX1) (T := TX1) (N := 21) (ci := 1) (fs := xx_fs1 ad σ.1.1) (v := .ref (ad 21)) hx hb hT hH.1 0 xx_0 rfl in_X1 3 (by decide) rfl q179 rfl dX1_isAllowed_126 ?_
            refine lv_iconst (v := 1) hx hb dX1_isAllowed_129 (by decide) ?_
            refine xx_ild (v := σ.1.2 21 1) hx hb hT hH.1 21 (by decide) (by decide) rfl 1 rfl (show 1 < 4 by omega) rfl dX1_isAllowed_130 ?_
            refine lv_iadd hx hb dX1_isAllowed_131 ?_
            refine lv_icmp_lt (tgt := 139) hx hb dX1_isAllowed_132 (by decide) (fun c_132 => ?_) (fun c_132 => ?_)
            · skip
              refine lv_iconst (v := 0) hx hb dX1_isAllowed_139 (by decide) ?_
              refine lv_istore_n (lv' := [(2, .int 0), (0, .ref (ad 0)), (1, .ref (ad (40 + k))), (3, .int (nI q)), (4, .ref (ad (40 + q))), (5, .int (nI i)), (6, .int (nI j))]) hx hb dX1_isAllowed_140 rfl hl (by decide) rfl (fun ls hl => ?_)
              refine lv_iinc (v := nI (j + 1)) (lv' := [(6, .int (nI (j + 1))), (2, .int 0), (0, .ref (ad 0)), (1, .ref (ad (40 + k))), (3, .int (nI q)), (4, .ref (ad (40 + q))), (5, .int (nI i))]) hx hb dX1_isAllowed_141 hl (k := 6) rfl (nI_add j 1) (by decide) rfl (fun ls hl => ?_)
              refine lv_goto (tgt := 63) hx hb dX1_isAllowed_144 (by decide) ?_
              exact ih (j + 1) _ (by omega) (by omega) (Or.inr ⟨rfl, fun h => h.2 q hq hd i hi j (by omega) ⟨in_lt c_101, c_132⟩⟩) _ (lv_sub hl [2, 3, 1, 4, 5, 6, 0] rfl)
            · skip
              refine lv_iconst (v := 1) hx hb dX1_isAllowed_135 (by decide) ?_
              refine lv_goto (tgt := 140) hx hb dX1_isAllowed_136 (by decide) ?_
              refine lv_istore_n (lv' := [(2, .int 1), (0, .ref (ad 0)), (1, .ref (ad (40 + k))), (3, .int (nI q)), (4, .ref (ad (40 + q))), (5, .int (nI i)), (6, .int (nI j))]) hx hb dX1_isAllowed_140 rfl hl (by decide) rfl (fun ls hl => ?_)
              refine lv_iinc (v := nI (j + 1)) (lv' := [(6, .int (nI (j + 1))), (2, .int 1), (0, .ref (ad 0)), (1, .ref (ad (40 + k))), (3, .int (nI q)), (4, .ref (ad (40 + q))), (5, .int (nI i))]) hx hb dX1_isAllowed_141 hl (k := 6) rfl (nI_add j 1) (by decide) rfl (fun ls hl => ?_)
              refine lv_goto (tgt := 63) hx hb dX1_isAllowed_144 (by decide) ?_
              exact ih (j + 1) _ (by omega) (by omega) (Or.inl ⟨rfl, fun z hz => by rcases Nat.lt_or_ge z j with y | y; exact hall z y; rw [show z = j by omega]; exact (fun h => c_132 h.2)⟩) _ (lv_sub hl [2, 3, 1, 4, 5, 6, 0] rfl)
    · skip
      refine lv_iload hx hb dX1_isAllowed_63 (lv_at hl 6 rfl) ?_
      refine lv_aload hx hb dX1_isAllowed_65 (lv_at hl 4 rfl) ?_
      refine gw_getN (C := RX5) (T := TX5) (N := 5) (ci := 4) (fs := xx_fs5 ad σ.1 q) (v := .int (σ.1.2 5 q)) hx hb hT hH.1 (40 + q) (xx_chan hk (show q < nC by omega)) rfl in_X5 1 (by decide) rfl (List.mem_of_getElem? (i := 4) rfl) rfl dX1_isAllowed_67 ?_
      refine lv_as hWq.1 ?_
      refine lv_icmp_ge (tgt := 147) hx hb dX1_isAllowed_70 (by decide) (fun c_70 => ?_) (fun c_70 => ?_)
      · skip
        have c_70 : (nW q) ≤ j := (nI_leI (a := (nW q)) (b := j) (by omega) (by omega)).mp c_70
        exact K0 _ hbad (lv_sub hl [0, 1, 2, 3, 4, 5] rfl)
      · skip
        have c_70 : ¬ ((nW q) ≤ j) := fun h => c_70 ((nI_leI (a := (nW q)) (b := j) (by omega) (by omega)).mpr h)
        refine lv_iload_n hx hb dX1_isAllowed_73 rfl (lv_at hl 2 rfl) ?_
        refine lv_if_eq (tgt := 147) hx hb dX1_isAllowed_74 (by decide) (fun c_74 => ?_) (fun c_74 => ?_)
        · skip
          exact K0 _ hbad (lv_sub hl [0, 1, 2, 3, 4, 5] rfl)
        · skip
          exact absurd c_74 (by decide)

set_option maxHeartbeats 1000000 in
set_option maxRecDepth 100000 in
theorem lp_X1_isAllowed2 {p : Program} {l : Launch} {e : Env} {s : State} {m : MethodId} {args : Array Value} {below : List Frame} {meth : Method} {c : Code} {Q : State → Prop} {G : gw_G} {ad wk : Nat → Nat} (σ : xS) {nC nS : Nat} {nW : Nat → Nat} (hk : xk σ nC nS nW) (k : Nat) (hkk : k < nC) (q : Nat) (hq : q < nC) (X : gx_X RX1 cX1_isAllowed 7 (some .boolean) G p s m args meth c) (hH : xr_H G ad wk σ s.heap) (K1 : (∀ (ls : Array Slot), (¬ σ.1.2 8 q = -1 → ∀ x, x < nW k → ∀ z, z < nW q → ¬ pClash σ.1 (20 * k + x) (20 * q + z)) → lv_has ls 7 [(0, .ref (ad 0)), (1, .ref (ad (40 + k))), (2, .int 1), (3, .int (nI q))] → W p l e (mm_rm 3) s m args below meth c s.heap [] 0 0 Q (F0 m 153 ls []))) (K0 : (∀ (ls : Array Slot), ¬ xMay σ.1 nC nW k → lv_has ls 7 [(0, .ref (ad 0)), (1, .ref (ad (40 + k))), (2, .int 0), (3, .int (nI q))] → W p l e (mm_rm 3) s m args below meth c s.heap [] 0 0 Q (F0 m 153 ls []))) : ∀ (n : Nat) (i : Nat) (b : Int32), nW k < i + n → i ≤ nW k → ((b = 1 ∧ (¬ σ.1.2 8 q = -1 → ∀ x, x < i → ∀ z, z < nW q → ¬ pClash σ.1 (20 * k + x) (20 * q + z))) ∨ (b = 0 ∧ ¬ xMay σ.1 nC nW k)) → ∀ (ls : Array Slot), lv_has ls 7 [(0, .ref (ad 0)), (1, .ref (ad (40 + k))), (2, .int b), (3, .int (nI q)), (4, .ref (ad (40 + q))), (5, .int (nI i))] → W p l e (mm_rm 3) s m args below meth c s.heap [] 0 0 Q (F0 m 39 ls []) := by
  obtain ⟨hx, hb, hml, hT, hr, hlocks⟩ := id X
  intro n
  induction n with
  | zero =>
    intro i b h0 hi hbb
    exact absurd h0 (by omega)
  | succ n ih =>
    intro i b h0 hi hbb ls hl
    have h8 := hk.1.2
    have hWk := hk.2.2.1 k (by omega)
    rcases hbb with ⟨rfl, hall⟩ | ⟨rfl, hbad⟩
    · skip
      refine lv_iload hx hb dX1_isAllowed_39 (lv_at hl 5 rfl) ?_
      refine lv_aload_n hx hb dX1_isAllowed_41 rfl (lv_at hl 1 rfl) ?_
      refine gw_getN (C := RX5) (T := TX5) (N := 5) (ci := 4) (fs := xx_fs5 ad σ.1 k) (v := .int (σ.1.2 5 k)) hx hb hT hH.1 (40 + k) (xx_chan hk (show k < nC by omega)) rfl in_X5 1 (by decide) rfl (List.mem_of_getElem? (i := 4) rfl) rfl dX1_isAllowed_42 ?_
      refine lv_as hWk.1 ?_
      refine lv_icmp_ge (tgt := 153) hx hb dX1_isAllowed_45 (by decide) (fun c_45 => ?_) (fun c_45 => ?_)
      · skip
        have c_45 : (nW k) ≤ i := (nI_leI (a := (nW k)) (b := i) (by omega) (by omega)).mp c_45
        exact K1 _ (fun hd x hx => hall hd x (by omega)) (lv_sub hl [0, 1, 2, 3] rfl)
      · skip
        have c_45 : ¬ ((nW k) ≤ i) := fun h => c_45 ((nI_leI (a := (nW k)) (b := i) (by omega) (by omega)).mpr h)
        refine lv_iload_n hx hb dX1_isAllowed_48 rfl (lv_at hl 2 rfl) ?_
        refine lv_if_eq (tgt := 153) hx hb dX1_isAllowed_49 (by decide) (fun c_49 => ?_) (fun c_49 => ?_)
        · skip
          exact absurd c_49 (by decide)
        · skip
          refine lv_aload hx hb dX1_isAllowed_52 (lv_at hl 4 rfl) ?_
          refine xr_V (n := 0) (40 + q) ((c_X5_isDug l σ hk q (by omega)) G ad wk) hx hb hml hT hH.1 hH.2.1 (xx_chan hk (show q < nC by omega)) rfl (lw_V q280 q281 q282 q42 q283) (by decide +kernel) ⟨Nat.le_of_ble_eq_true rfl, Nat.le_of_ble_eq_true rfl⟩ rfl hl.1 rfl (Nat.le_of_ble_eq_true rfl) dX1_isAllowed_54 ⟨Nat.le_of_ble_eq_true rfl, Nat.le_of_ble_eq_true rfl⟩ (fun r_54 hp_54 => ?_)
          rcases hp_54 with ⟨rfl, h_54⟩ | ⟨rfl, h_54⟩
          · skip
            refine lv_if_eq (tgt := 153) hx hb dX1_isAllowed_57 (by decide) (fun c_57 => ?_) (fun c_57 => ?_)
            · skip
              exact absurd c_57 (by decide)
            · skip
              refine lv_iconst (v := 0) hx hb dX1_isAllowed_60 (by decide) ?_
              refine lv_istore (lv' := [(6, .int 0), (0, .ref (ad 0)), (1, .ref (ad (40 + k))), (2, .int 1), (3, .int (nI q)), (4, .ref (ad (40 + q))), (5, .int (nI i))]) hx hb dX1_isAllowed_61 hl (by decide) rfl (fun ls hl => ?_)
              refine lp_X1_isAllowed1 σ hk k hkk q hq h_54 i (by omega) X hH ?_ ?_ (nW q + 1) 0 1 (by omega) (Nat.zero_le _) (Or.inl ⟨rfl, fun z hz => absurd hz (Nat.not_lt_zero z)⟩) _ (lv_sub hl [1, 2, 3, 4, 5, 6, 0] rfl)
              · intro ls hin hl
                refine lv_iinc (v := nI (i + 1)) (lv' := [(5, .int (nI (i + 1))), (0, .ref (ad 0)), (1, .ref (ad (40 + k))), (2, .int 1), (3, .int (nI q)), (4, .ref (ad (40 + q)))]) hx hb dX1_isAllowed_147 hl (k := 5) rfl (nI_add i 1) (by decide) rfl (fun ls hl => ?_)
                refine lv_goto (tgt := 39) hx hb dX1_isAllowed_150 (by decide) ?_
                exact ih (i + 1) _ (by omega) (by omega) (Or.inl ⟨rfl, fun hd x hx => by rcases Nat.lt_or_ge x i with y | y; exact hall hd x y; rw [show x = i by omega]; exact hin⟩) _ (lv_sub hl [1, 2, 3, 4, 5, 0] rfl)
              · intro ls hno hl
                refine lv_iinc (v := nI (i + 1)) (lv' := [(5, .int (nI (i + 1))), (0, .ref (ad 0)), (1, .ref (ad (40 + k))), (2, .int 0), (3, .int (nI q)), (4, .ref (ad (40 + q)))]) hx hb dX1_isAllowed_147 hl (k := 5) rfl (nI_add i 1) (by decide) rfl (fun ls hl => ?_)
                refine lv_goto (tgt := 39) hx hb dX1_isAllowed_150 (by decide) ?_
                exact ih (i + 1) _ (by omega) (by omega) (Or.inr ⟨rfl, hno⟩) _ (lv_sub hl [1, 2, 3, 4, 5, 0] rfl)
          · skip
            refine lv_if_eq (tgt := 153) hx hb dX1_isAllowed_57 (by decide) (fun c_57 => ?_) (fun c_57 => ?_)
            · skip
              exact K1 _ (fun hd => absurd h_54 hd) (lv_sub hl [0, 1, 2, 3] rfl)
            · skip
              exact absurd c_57 (by decide)
    · skip
      refine lv_iload hx hb dX1_isAllowed_39 (lv_at hl 5 rfl) ?_
      refine lv_aload_n hx hb dX1_isAllowed_41 rfl (lv_at hl 1 rfl) ?_
      refine gw_getN (C := RX5) (T := TX5) (N := 5) (ci := 4) (fs := xx_fs5 ad σ.1 k) (v := .int (σ.1.2 5 k)) hx hb hT hH.1 (40 + k) (xx_chan hk (show k < nC by omega)) rfl in_X5 1 (by decide) rfl (List.mem_of_getElem? (i := 4) rfl) rfl dX1_isAllowed_42 ?_
      refine lv_as hWk.1 ?_
      refine lv_icmp_ge (tgt := 153) hx hb dX1_isAllowed_45 (by decide) (fun c_45 => ?_) (fun c_45 => ?_)
      · skip
        have c_45 : (nW k) ≤ i := (nI_leI (a := (nW k)) (b := i) (by omega) (by omega)).mp c_45
        exact K0 _ hbad (lv_sub hl [0, 1, 2, 3] rfl)
      · skip
        have c_45 : ¬ ((nW k) ≤ i) := fun h => c_45 ((nI_leI (a := (nW k)) (b := i) (by omega) (by omega)).mpr h)
        refine lv_iload_n hx hb dX1_isAllowed_48 rfl (lv_at hl 2 rfl) ?_
        refine lv_if_eq (tgt := 153) hx hb dX1_isAllowed_49 (by decide) (fun c_49 => ?_) (fun c_49 => ?_)
        · skip
          exact K0 _ hbad (lv_sub hl [0, 1, 2, 3] rfl)
        · skip
          exact absurd c_49 (by decide)

set_option maxHeartbeats 1000000 in
set_option maxRecDepth 100000 in
theorem lp_X1_isAllowed3 {p : Program} {l : Launch} {e : Env} {s : State} {m : MethodId} {args : Array Value} {below : List Frame} {meth : Method} {c : Code} {Q : State → Prop} {G : gw_G} {ad wk : Nat → Nat} (σ : xS) {nC nS : Nat} {nW : Nat → Nat} (hk : xk σ nC nS nW) (k : Nat) (hkk : k < nC) (X : gx_X RX1 cX1_isAllowed 7 (some .boolean) G p s m args meth c) (hH : xr_H G ad wk σ s.heap) (K : (∀ (b : Int32) (ls : Array Slot), ((b = 1 ∧ xMay σ.1 nC nW k) ∨ (b = 0 ∧ ¬ xMay σ.1 nC nW k)) → lv_has ls 7 [(2, .int b)] → W p l e (mm_rm 3) s m args below meth c s.heap [] 0 0 Q (F0 m 159 ls []))) : ∀ (n : Nat) (q : Nat) (b : Int32), nC < q + n → q ≤ nC → ((b = 1 ∧ 2 ≤ nW k ∧ (∀ q2, q2 < q → ¬ σ.1.2 8 q2 = -1 → ∀ x, x < nW k → ∀ z, z < nW q2 → ¬ pClash σ.1 (20 * k + x) (20 * q2 + z))) ∨ (b = 0 ∧ ¬ xMay σ.1 nC nW k)) → ∀ (ls : Array Slot), lv_has ls 7 [(0, .ref (ad 0)), (1, .ref (ad (40 + k))), (2, .int b), (3, .int (nI q))] → W p l e (mm_rm 3) s m args below meth c s.heap [] 0 0 Q (F0 m 16 ls []) := by
  obtain ⟨hx, hb, hml, hT, hr, hlocks⟩ := id X
  intro n
  induction n with
  | zero =>
    intro q b h0 hq hbb
    exact absurd h0 (by omega)
  | succ n ih =>
    intro q b h0 hq hbb ls hl
    have h8 := hk.1.2
    have hWk := hk.2.2.1 k (by omega)
    rcases hbb with ⟨rfl, h2, hall⟩ | ⟨rfl, hbad⟩
    · skip
      refine lv_iload_n hx hb dX1_isAllowed_16 rfl (lv_at hl 3 rfl) ?_
      refine lv_aload_n hx hb dX1_isAllowed_17 rfl (lv_at hl 0 rfl) ?_
      refine gw_get (C := RX1) (T := TX1) (N := 21) (ci := 1) (fs := xx_fs1 ad σ.1.1) (v := .int (σ.1.1 10)) hx hb hT hH.1 0 xx_0 rfl in_X1 12 (by decide) rfl q188 rfl dX1_isAllowed_18 ?_
      refine lv_as hk.1.1 ?_
      refine lv_icmp_ge (tgt := 159) hx hb dX1_isAllowed_21 (by decide) (fun c_21 => ?_) (fun c_21 => ?_)
      · skip
        have c_21 : nC ≤ q := (nI_leI (a := nC) (b := q) (by omega) (by omega)).mp c_21
        exact K _ _ (Or.inl ⟨rfl, h2, fun q hq => hall q (by omega)⟩) (lv_sub hl [2] rfl)
      · skip
        have c_21 : ¬ (nC ≤ q) := fun h => c_21 ((nI_leI (a := nC) (b := q) (by omega) (by omega)).mpr h)
        refine lv_iload_n hx hb dX1_isAllowed_24 rfl (lv_at hl 2 rfl) ?_
        refine lv_if_eq (tgt := 159) hx hb dX1_isAllowed_25 (by decide) (fun c_25 => ?_) (fun c_25 => ?_)
        · skip
          exact absurd c_25 (by decide)
        · skip
          refine lv_aload_n hx hb dX1_isAllowed_28 rfl (lv_at hl 0 rfl) ?_
          refine gw_get (C := RX1) (T := TX1) (N := 21) (ci := 1) (fs := xx_fs1 ad σ.1.1) (v := .ref (ad 4)) hx hb hT hH.1 0 xx_0 rfl in_X1 1 (by decide) rfl q177 rfl dX1_isAllowed_29 ?_
          refine lv_iload_n hx hb dX1_isAllowed_32 rfl (lv_at hl 3 rfl) ?_
          refine gw_aald (b := ad (40 + q)) hx hb hT hH.1 4 4 xx_4 rfl q rfl (show q < 8 by omega) (by decide) (xx_chr hk (show q < nC by omega)) dX1_isAllowed_33 ?_
          refine lv_astore (lv' := [(4, .ref (ad (40 + q))), (0, .ref (ad 0)), (1, .ref (ad (40 + k))), (2, .int 1), (3, .int (nI q))]) hx hb dX1_isAllowed_34 hl (by decide) rfl (fun ls hl => ?_)
          refine lv_iconst (v := 0) hx hb dX1_isAllowed_36 (by decide) ?_
          refine lv_istore (lv' := [(5, .int 0), (4, .ref (ad (40 + q))), (0, .ref (ad 0)), (1, .ref (ad (40 + k))), (2, .int 1), (3, .int (nI q))]) hx hb dX1_isAllowed_37 hl (by decide) rfl (fun ls hl => ?_)
          refine lp_X1_isAllowed2 σ hk k hkk q (by omega) X hH ?_ ?_ (nW k + 1) 0 1 (by omega) (Nat.zero_le _) (Or.inl ⟨rfl, fun hd x hx => absurd hx (Nat.not_lt_zero x)⟩) _ (lv_sub hl [2, 3, 4, 5, 1, 0] rfl)
          · intro ls hin hl
            refine lv_iinc (v := nI (q + 1)) (lv' := [(3, .int (nI (q + 1))), (0, .ref (ad 0)), (1, .ref (ad (40 + k))), (2, .int 1)]) hx hb dX1_isAllowed_153 hl (k := 3) rfl (nI_add q 1) (by decide) rfl (fun ls hl => ?_)
            refine lv_goto (tgt := 16) hx hb dX1_isAllowed_156 (by decide) ?_
            exact ih (q + 1) _ (by omega) (by omega) (Or.inl ⟨rfl, h2, fun y hy => by rcases Nat.lt_or_ge y q with z | z; exact hall y z; rw [show y = q by omega]; exact hin⟩) _ (lv_sub hl [1, 2, 3, 0] rfl)
          · intro ls hno hl
            refine lv_iinc (v := nI (q + 1)) (lv' := [(3, .int (nI (q + 1))), (0, .ref (ad 0)), (1, .ref (ad (40 + k))), (2, .int 0)]) hx hb dX1_isAllowed_153 hl (k := 3) rfl (nI_add q 1) (by decide) rfl (fun ls hl => ?_)
            refine lv_goto (tgt := 16) hx hb dX1_isAllowed_156 (by decide) ?_
            exact ih (q + 1) _ (by omega) (by omega) (Or.inr ⟨rfl, hno⟩) _ (lv_sub hl [1, 2, 3, 0] rfl)
    · skip
      refine lv_iload_n hx hb dX1_isAllowed_16 rfl (lv_at hl 3 rfl) ?_
      refine lv_aload_n hx hb dX1_isAllowed_17 rfl (lv_at hl 0 rfl) ?_
      refine gw_get (C := RX1) (T := TX1) (N := 21) (ci := 1) (fs := xx_fs1 ad σ.1.1) (v := .int (σ.1.1 10)) hx hb hT hH.1 0 xx_0 rfl in_X1 12 (by decide) rfl q188 rfl dX1_isAllowed_18 ?_
      refine lv_as hk.1.1 ?_
      refine lv_icmp_ge (tgt := 159) hx hb dX1_isAllowed_21 (by decide) (fun c_21 => ?_) (fun c_21 => ?_)
      · skip
        have c_21 : nC ≤ q := (nI_leI (a := nC) (b := q) (by omega) (by omega)).mp c_21
        exact K _ _ (Or.inr ⟨rfl, hbad⟩) (lv_sub hl [2] rfl)
      · skip
        have c_21 : ¬ (nC ≤ q) := fun h => c_21 ((nI_leI (a := nC) (b := q) (by omega) (by omega)).mpr h)
        refine lv_iload_n hx hb dX1_isAllowed_24 rfl (lv_at hl 2 rfl) ?_
        refine lv_if_eq (tgt := 159) hx hb dX1_isAllowed_25 (by decide) (fun c_25 => ?_) (fun c_25 => ?_)
        · skip
          exact K _ _ (Or.inr ⟨rfl, hbad⟩) (lv_sub hl [2] rfl)
        · skip
          exact absurd c_25 (by decide)

set_option maxHeartbeats 1000000 in
set_option maxRecDepth 100000 in
theorem c_X1_isAllowed (l : Launch) (σ : xS) {nC nS : Nat} {nW : Nat → Nat} (hk : xk σ nC nS nW) (k : Nat) (hkk : k < nC) : xr_C l yX1_isAllowed cX1_isAllowed 7 (some .boolean) 3 (fun ad => [.ref (ad 0), .ref (ad (40 + k))]) σ (fun r => (1 = r ∧ xMay σ.1 nC nW k) ∨ (0 = r ∧ ¬ xMay σ.1 nC nW k)) := by
  refine xr_ofi (by decide) (fun ad => Nat.le_of_ble_eq_true rfl) ?_
  intro p e s m args below meth c G ad wk ls X hH hl
  obtain ⟨hx, hb, hml, hT, hr, hlocks⟩ := id X
  have hl : lv_has ls 7 [(0, .ref (ad 0)), (1, .ref (ad (40 + k)))] := hl
  have h8 := hk.1.2
  have hWk := hk.2.2.1 k (by omega)
  refine lv_aload_n hx hb dX1_isAllowed_0 rfl (lv_at hl 1 rfl) ?_
  refine gw_getN (C := RX5) (T := TX5) (N := 5) (ci := 4) (fs := xx_fs5 ad σ.1 k) (v := .int (σ.1.2 5 k)) hx hb hT hH.1 (40 + k) (xx_chan hk (show k < nC by omega)) rfl in_X5 1 (by decide) rfl (List.mem_of_getElem? (i := 4) rfl) rfl dX1_isAllowed_1 ?_
  refine lv_as hWk.1 ?_
  refine lv_iconst (v := 2) hx hb dX1_isAllowed_4 (by decide) ?_
  refine lv_icmp_lt (tgt := 12) hx hb dX1_isAllowed_5 (by decide) (fun c_5 => ?_) (fun c_5 => ?_)
  · skip
    have c_5 : (nW k) < 2 := (nI_ltI (a := (nW k)) (b := 2) (by omega) (by omega)).mp c_5
    refine lv_iconst (v := 0) hx hb dX1_isAllowed_12 (by decide) ?_
    refine lv_istore_n (lv' := [(2, .int 0), (0, .ref (ad 0)), (1, .ref (ad (40 + k)))]) hx hb dX1_isAllowed_13 rfl hl (by decide) rfl (fun ls hl => ?_)
    refine lv_iconst (v := 0) hx hb dX1_isAllowed_14 (by decide) ?_
    refine lv_istore_n (lv' := [(3, .int 0), (2, .int 0), (0, .ref (ad 0)), (1, .ref (ad (40 + k)))]) hx hb dX1_isAllowed_15 rfl hl (by decide) rfl (fun ls hl => ?_)
    refine lp_X1_isAllowed3 σ hk k hkk X hH ?_ (nC + 1) 0 0 (by omega) (Nat.zero_le _) (Or.inr ⟨rfl, fun h => by have := h.1; omega⟩) _ (lv_sub hl [2, 3, 1, 0] rfl)
    intro b ls hbb hl
    rcases hbb with ⟨rfl, hm⟩ | ⟨rfl, hm⟩
    · skip
      refine lv_iload_n hx hb dX1_isAllowed_159 rfl (lv_at hl 0 rfl) ?_
      exact ss_ri hx hb hr hlocks rfl dX1_isAllowed_160 (Or.inl ⟨rfl, hm⟩)
    · skip
      refine lv_iload_n hx hb dX1_isAllowed_159 rfl (lv_at hl 0 rfl) ?_
      exact ss_ri hx hb hr hlocks rfl dX1_isAllowed_160 (Or.inr ⟨rfl, hm⟩)
  · skip
    have c_5 : ¬ ((nW k) < 2) := fun h => c_5 ((nI_ltI (a := (nW k)) (b := 2) (by omega) (by omega)).mpr h)
    refine lv_iconst (v := 1) hx hb dX1_isAllowed_8 (by decide) ?_
    refine lv_goto (tgt := 13) hx hb dX1_isAllowed_9 (by decide) ?_
    refine lv_istore_n (lv' := [(2, .int 1), (0, .ref (ad 0)), (1, .ref (ad (40 + k)))]) hx hb dX1_isAllowed_13 rfl hl (by decide) rfl (fun ls hl => ?_)
    refine lv_iconst (v := 0) hx hb dX1_isAllowed_14 (by decide) ?_
    refine lv_istore_n (lv' := [(3, .int 0), (2, .int 1), (0, .ref (ad 0)), (1, .ref (ad (40 + k)))]) hx hb dX1_isAllowed_15 rfl hl (by decide) rfl (fun ls hl => ?_)
    refine lp_X1_isAllowed3 σ hk k hkk X hH ?_ (nC + 1) 0 1 (by omega) (Nat.zero_le _) (Or.inl ⟨rfl, by omega, fun q hq => absurd hq (Nat.not_lt_zero q)⟩) _ (lv_sub hl [2, 3, 1, 0] rfl)
    intro b ls hbb hl
    rcases hbb with ⟨rfl, hm⟩ | ⟨rfl, hm⟩
    · skip
      refine lv_iload_n hx hb dX1_isAllowed_159 rfl (lv_at hl 0 rfl) ?_
      exact ss_ri hx hb hr hlocks rfl dX1_isAllowed_160 (Or.inl ⟨rfl, hm⟩)
    · skip
      refine lv_iload_n hx hb dX1_isAllowed_159 rfl (lv_at hl 0 rfl) ?_
      exact ss_ri hx hb hr hlocks rfl dX1_isAllowed_160 (Or.inr ⟨rfl, hm⟩)

set_option maxHeartbeats 1000000 in
set_option maxRecDepth 100000 in
theorem c_X1_may (l : Launch) (hfl : l.flags = pinnedFlags ++ [noTraceFlag]) (σ : xS) {nC nS : Nat} {nW : Nat → Nat} (hk : xk σ nC nS nW) (v : Int32) : xx_C l yX1_may (Cond.code yX1_may cX1_may 3 (some .boolean)) 8 8 100 (fun ad => [.ref (ad 0), .int v]) σ (fun r u => σ = u ∧ ∃ k, k < nC ∧ nI k = v ∧ σ.1.2 8 k = -1 ∧ ((some (.int 1) = r ∧ xMay σ.1 nC nW k) ∨ (some (.int 0) = r ∧ ¬ xMay σ.1 nC nW k))) (fun q u => σ = u ∧ ((q = 1 ∧ (¬ ∃ k, k < nC ∧ nI k = v)) ∨ ∃ k, k < nC ∧ nI k = v ∧ q = 2 ∧ ¬ σ.1.2 8 k = -1)) := by
  refine xx_of (by decide) (fun ad => Nat.le_of_ble_eq_true rfl) ?_
  intro p e s m args below meth c G A ad wk wv ls X hE hH hl
  obtain ⟨hx, hb, hml, hT, hr, hlocks, hxc, hA⟩ := id X
  have hl : lv_has ls 3 [(0, .ref (ad 0)), (1, .int v)] := hl
  refine lv_aload_n hx hb dX1_may_0 rfl (lv_at hl 0 rfl) ?_
  refine lv_iload_n hx hb dX1_may_1 rfl (lv_at hl 1 rfl) ?_
  by_cases h_2 : ∃ k, k < nC ∧ nI k = v
  · skip
    obtain ⟨k, hkk, rfl⟩ := h_2
    refine xr_Vr (n := 1) 0 ((c_X1_channelAt1 l σ hk k (by omega)) G ad wk) hx hb hml hT hH.1 hH.2.1 xx_0 rfl (lw_V q435 q437 qs4 q33 q438) (by decide +kernel) ⟨Nat.le_of_ble_eq_true rfl, Nat.le_of_ble_eq_true rfl⟩ rfl hl.1 rfl (Nat.le_of_ble_eq_true rfl) dX1_may_2 ⟨Nat.le_of_ble_eq_true rfl, Nat.le_of_ble_eq_true rfl⟩ ?_
    refine lv_astore_n (lv' := [(2, .ref (ad (40 + k))), (0, .ref (ad 0)), (1, .int (nI k))]) hx hb dX1_may_5 rfl hl (by decide) rfl (fun ls hl => ?_)
    refine lv_aload_n hx hb dX1_may_6 rfl (lv_at hl 0 rfl) ?_
    refine xr_V (n := 0) (40 + k) ((c_X5_isDug l σ hk k (by omega)) G ad wk) hx hb hml hT hH.1 hH.2.1 (xx_chan hk (show k < nC by omega)) rfl (lw_V q280 q281 q282 q42 q283) (by decide +kernel) ⟨Nat.le_of_ble_eq_true rfl, Nat.le_of_ble_eq_true rfl⟩ rfl hl.1 rfl (Nat.le_of_ble_eq_true rfl) dX1_may_7 ⟨Nat.le_of_ble_eq_true rfl, Nat.le_of_ble_eq_true rfl⟩ (fun r_7 hp_7 => ?_)
    rcases hp_7 with ⟨rfl, h_7⟩ | ⟨rfl, h_7⟩
    · skip
      refine lv_if_ne (tgt := 17) hx hb dX1_may_10 (by decide) (fun c_10 => ?_) (fun c_10 => ?_)
      · skip
        refine lv_iconst (v := 0) hx hb dX1_may_17 (by decide) ?_
        exact xt_call (k := 2) (yy_S (n := 1) (c_X1_stands0 l hfl σ G A ad wk wv) hx hb hml hT hxc hA hH q459 (ex_code_of hT.2.1 q459) (ex_named (hT.2.1 _ q459)) q458 q33 q457 (by decide +kernel) ⟨Nat.le_of_ble_eq_true rfl, Nat.le_of_ble_eq_true rfl⟩ rfl hl.1 rfl (Nat.le_of_ble_eq_true rfl) dX1_may_18 ⟨Nat.le_of_ble_eq_true rfl, Nat.le_of_ble_eq_true rfl⟩) hlocks hE (xx_tq hT hH (fun _ _ _ => rfl) (by decide) (⟨rfl, Or.inr ⟨k, hkk, rfl, rfl, h_7⟩⟩)) hH.2.2.2.2 (Nat.le_of_ble_eq_true rfl) (Nat.le_of_ble_eq_true rfl)
      · skip
        exact absurd c_10 (by decide)
    · skip
      refine lv_if_ne (tgt := 17) hx hb dX1_may_10 (by decide) (fun c_10 => ?_) (fun c_10 => ?_)
      · skip
        exact absurd c_10 (by decide)
      · skip
        refine lv_iconst (v := 1) hx hb dX1_may_13 (by decide) ?_
        refine lv_goto (tgt := 18) hx hb dX1_may_14 (by decide) ?_
        refine tk_cSv (n := 1) (c_X1_stands1 l) hx hb hml hT.1 hT.2.1 (fun a U g mk h => h) (fun U hU hW => trivial) (lw_S q457 q458 q33 q459) (by decide +kernel) ⟨Nat.le_of_ble_eq_true rfl, Nat.le_of_ble_eq_true rfl⟩ rfl hl.1 rfl (Nat.le_of_ble_eq_true rfl) dX1_may_18 ⟨Nat.le_of_ble_eq_true rfl, Nat.le_of_ble_eq_true rfl⟩ ?_
        refine lv_aload_n hx hb dX1_may_21 rfl (lv_at hl 1 rfl) ?_
        refine lv_aload_n hx hb dX1_may_22 rfl (lv_at hl 0 rfl) ?_
        refine xr_V (n := 1) 0 ((c_X1_isAllowed l σ hk k (by omega)) G ad wk) hx hb hml hT hH.1 hH.2.1 xx_0 rfl (lw_V q504 q506 qs5 q33 q507) (by decide +kernel) ⟨Nat.le_of_ble_eq_true rfl, Nat.le_of_ble_eq_true rfl⟩ rfl hl.1 rfl (Nat.le_of_ble_eq_true rfl) dX1_may_23 ⟨Nat.le_of_ble_eq_true rfl, Nat.le_of_ble_eq_true rfl⟩ (fun r_23 hp_23 => ?_)
        rcases hp_23 with ⟨rfl, h_23⟩ | ⟨rfl, h_23⟩
        · skip
          exact xx_ri hx hb hr hlocks hT hH (fun _ _ _ => rfl) rfl dX1_may_26 (⟨rfl, k, hkk, rfl, h_7, Or.inl ⟨rfl, h_23⟩⟩) (Nat.le_of_ble_eq_true rfl) (Nat.le_of_ble_eq_true rfl)
        · skip
          exact xx_ri hx hb hr hlocks hT hH (fun _ _ _ => rfl) rfl dX1_may_26 (⟨rfl, k, hkk, rfl, h_7, Or.inr ⟨rfl, h_23⟩⟩) (Nat.le_of_ble_eq_true rfl) (Nat.le_of_ble_eq_true rfl)
  · skip
    exact xt_call (k := 1) (yy_V (n := 1) 0 (c_X1_channelAt0 l hfl σ hk v h_2 G A ad wk wv) hx hb hml hT hxc hA hH xx_0 rfl q438 (ex_code_of hT.2.1 q438) q437 qs4 q33 q435 (by decide +kernel) ⟨Nat.le_of_ble_eq_true rfl, Nat.le_of_ble_eq_true rfl⟩ rfl hl.1 rfl (Nat.le_of_ble_eq_true rfl) dX1_may_2 ⟨Nat.le_of_ble_eq_true rfl, Nat.le_of_ble_eq_true rfl⟩) hlocks hE (xx_tq hT hH (fun _ _ _ => rfl) (by decide) (⟨rfl, Or.inl ⟨rfl, h_2⟩⟩)) hH.2.2.2.2 (Nat.le_of_ble_eq_true rfl) (Nat.le_of_ble_eq_true rfl)

def xUse (σ : mS) (k : Nat) (ah : Int32) (q : Nat) : Bool := decide (¬ q = k ∧ ¬ σ.2 8 q = -1 ∧ ¬ ah ≤ σ.2 8 q)
def xSeep (tab fl : Int32) : Int32 := if 0 < (if (tab - fl) / 10 < 50 then (tab - fl) / 10 else 50) then (if (tab - fl) / 10 < 50 then (tab - fl) / 10 else 50) else 0
def xSeeps (σ : mS) (nC : Nat) (nW : Nat → Nat) (k w : Nat) (ah : Int32) : Int32 := xSeep (pTab (σ.1 1 + σ.1 2 * σ.2 12 (20 * k + w)) (xUse σ k ah) (fun q => xDraw σ nW q (σ.2 12 (20 * k + w)) (σ.2 13 (20 * k + w)) (σ.1 3)) nC) (σ.2 14 (20 * k + w))
def xFlows (σ : mS) (nC : Nat) (nW : Nat → Nat) (k : Nat) (ah : Int32) : Int32 := pFlow (fun w => xSeeps σ nC nW k w ah) (fun w => σ.2 14 (20 * k + w)) (pRuns (σ.2 15) (20 * k) (nW k)) 0

set_option maxHeartbeats 1000000 in
set_option maxRecDepth 100000 in
theorem lp_X1_seepOf {p : Program} {l : Launch} {e : Env} {s : State} {m : MethodId} {args : Array Value} {below : List Frame} {meth : Method} {c : Code} {Q : State → Prop} {G : gw_G} {ad wk : Nat → Nat} (σ : xS) {nC nS : Nat} {nW : Nat → Nat} (hk : xk σ nC nS nW) (k : Nat) (hkk : k < nC) (w : Nat) (hw : w < nW k) (ah : Int32) (X : gx_X RX1 cX1_seepOf 6 (some .int) G p s m args meth c) (hH : xr_H G ad wk σ s.heap) (K : (∀ (ls : Array Slot), lv_has ls 6 [(0, .ref (ad 0)), (1, .ref (ad (40 + k))), (2, .int (nI w)), (3, .int ah), (4, .int (pTab (σ.1.1 1 + σ.1.1 2 * σ.1.2 12 (20 * k + w)) (xUse σ.1 k ah) (fun q => xDraw σ.1 nW q (σ.1.2 12 (20 * k + w)) (σ.1.2 13 (20 * k + w)) (σ.1.1 3)) nC)), (5, .int (nI nC))] → W p l e (mm_rm 4) s m args below meth c s.heap [] 0 0 Q (F0 m 102 ls []))) : ∀ (n : Nat) (i : Nat), nC < i + n → i ≤ nC → ∀ (ls : Array Slot), lv_has ls 6 [(0, .ref (ad 0)), (1, .ref (ad (40 + k))), (2, .int (nI w)), (3, .int ah), (4, .int (pTab (σ.1.1 1 + σ.1.1 2 * σ.1.2 12 (20 * k + w)) (xUse σ.1 k ah) (fun q => xDraw σ.1 nW q (σ.1.2 12 (20 * k + w)) (σ.1.2 13 (20 * k + w)) (σ.1.1 3)) i)), (5, .int (nI i))] → W p l e (mm_rm 4) s m args below meth c s.heap [] 0 0 Q (F0 m 24 ls []) := by
  obtain ⟨hx, hb, hml, hT, hr, hlocks⟩ := id X
  intro n
  induction n with
  | zero =>
    intro i h0 hi
    exact absurd h0 (by omega)
  | succ n ih =>
    intro i h0 hi ls hl
    have h8 := hk.1.2
    have hWk := hk.2.2.1 k (by omega)
    refine lv_iload hx hb dX1_seepOf_24 (lv_at hl 5 rfl) ?_
    refine lv_aload_n hx hb dX1_seepOf_26 rfl (lv_at hl 0 rfl) ?_
    refine gw_get (C := RX1) (T := TX1) (N := 21) (ci := 1) (fs := xx_fs1 ad σ.1.1) (v := .int (σ.1.1 10)) hx hb hT hH.1 0 xx_0 rfl in_X1 12 (by decide) rfl q188 rfl dX1_seepOf_27 ?_
    refine lv_as hk.1.1 ?_
    refine lv_icmp_ge (tgt := 102) hx hb dX1_seepOf_30 (by decide) (fun c_30 => ?_) (fun c_30 => ?_)
    · skip
      have c_30 : nC ≤ i := (nI_leI (a := nC) (b := i) (by omega) (by omega)).mp c_30
      obtain rfl : nC = i := by omega
      exact K _ (lv_sub hl [0, 1, 2, 3, 4, 5] rfl)
    · skip
      have c_30 : ¬ (nC ≤ i) := fun h => c_30 ((nI_leI (a := nC) (b := i) (by omega) (by omega)).mpr h)
      refine lv_aload_n hx hb dX1_seepOf_33 rfl (lv_at hl 0 rfl) ?_
      refine gw_get (C := RX1) (T := TX1) (N := 21) (ci := 1) (fs := xx_fs1 ad σ.1.1) (v := .ref (ad 4)) hx hb hT hH.1 0 xx_0 rfl in_X1 1 (by decide) rfl q177 rfl dX1_seepOf_34 ?_
      refine lv_iload hx hb dX1_seepOf_37 (lv_at hl 5 rfl) ?_
      refine gw_aald (b := ad (40 + i)) hx hb hT hH.1 4 4 xx_4 rfl i rfl (show i < 8 by omega) (by decide) (xx_chr hk (show i < nC by omega)) dX1_seepOf_39 ?_
      refine lv_aload_n hx hb dX1_seepOf_40 rfl (lv_at hl 1 rfl) ?_
      refine xx_acmp_eq (tgt := 96) (i := i) (j := k) hx hb hH.2.1 hk (show i < nC by omega) (show k < nC by omega) dX1_seepOf_41 (by decide) (fun c_41 => ?_) (fun c_41 => ?_)
      · skip
        refine lv_iinc (v := nI (i + 1)) (lv' := [(5, .int (nI (i + 1))), (0, .ref (ad 0)), (1, .ref (ad (40 + k))), (2, .int (nI w)), (3, .int ah), (4, .int (pTab (σ.1.1 1 + σ.1.1 2 * σ.1.2 12 (20 * k + w)) (xUse σ.1 k ah) (fun q => xDraw σ.1 nW q (σ.1.2 12 (20 * k + w)) (σ.1.2 13 (20 * k + w)) (σ.1.1 3)) i))]) hx hb dX1_seepOf_96 hl (k := 5) rfl (nI_add i 1) (by decide) rfl (fun ls hl => ?_)
        refine lv_goto (tgt := 24) hx hb dX1_seepOf_99 (by decide) ?_
        have hl := lv_sub (l' := [(0, .ref (ad 0)), (1, .ref (ad (40 + k))), (2, .int (nI w)), (3, .int ah), (4, .int (pTab (σ.1.1 1 + σ.1.1 2 * σ.1.2 12 (20 * k + w)) (xUse σ.1 k ah) (fun q => xDraw σ.1 nW q (σ.1.2 12 (20 * k + w)) (σ.1.2 13 (20 * k + w)) (σ.1.1 3)) i)), (5, .int (nI (i + 1)))]) hl [1, 2, 3, 4, 5, 0] rfl
        rw [show pTab (σ.1.1 1 + σ.1.1 2 * σ.1.2 12 (20 * k + w)) (xUse σ.1 k ah) (fun q => xDraw σ.1 nW q (σ.1.2 12 (20 * k + w)) (σ.1.2 13 (20 * k + w)) (σ.1.1 3)) i = pTab (σ.1.1 1 + σ.1.1 2 * σ.1.2 12 (20 * k + w)) (xUse σ.1 k ah) (fun q => xDraw σ.1 nW q (σ.1.2 12 (20 * k + w)) (σ.1.2 13 (20 * k + w)) (σ.1.1 3)) (i + 1) from (by rw [pTab, if_neg (show ¬ xUse σ.1 k ah i = true from fun h => (of_decide_eq_true (p := ¬ i = k ∧ ¬ σ.1.2 8 i = -1 ∧ ¬ ah ≤ σ.1.2 8 i) h).1 c_41)])] at hl
        exact ih (i + 1) (by omega) (by omega) _ hl
      · skip
        refine lv_aload_n hx hb dX1_seepOf_44 rfl (lv_at hl 0 rfl) ?_
        refine gw_get (C := RX1) (T := TX1) (N := 21) (ci := 1) (fs := xx_fs1 ad σ.1.1) (v := .ref (ad 4)) hx hb hT hH.1 0 xx_0 rfl in_X1 1 (by decide) rfl q177 rfl dX1_seepOf_45 ?_
        refine lv_iload hx hb dX1_seepOf_48 (lv_at hl 5 rfl) ?_
        refine gw_aald (b := ad (40 + i)) hx hb hT hH.1 4 4 xx_4 rfl i rfl (show i < 8 by omega) (by decide) (xx_chr hk (show i < nC by omega)) dX1_seepOf_50 ?_
        refine xr_V (n := 0) (40 + i) ((c_X5_isDug l σ hk i (by omega)) G ad wk) hx hb hml hT hH.1 hH.2.1 (xx_chan hk (show i < nC by omega)) rfl (lw_V q280 q281 q282 q42 q283) (by decide +kernel) ⟨Nat.le_of_ble_eq_true rfl, Nat.le_of_ble_eq_true rfl⟩ rfl hl.1 rfl (Nat.le_of_ble_eq_true rfl) dX1_seepOf_51 ⟨Nat.le_of_ble_eq_true rfl, Nat.le_of_ble_eq_true rfl⟩ (fun r_51 hp_51 => ?_)
        rcases hp_51 with ⟨rfl, h_51⟩ | ⟨rfl, h_51⟩
        · skip
          refine lv_if_eq (tgt := 96) hx hb dX1_seepOf_54 (by decide) (fun c_54 => ?_) (fun c_54 => ?_)
          · skip
            exact absurd c_54 (by decide)
          · skip
            refine lv_aload_n hx hb dX1_seepOf_57 rfl (lv_at hl 0 rfl) ?_
            refine gw_get (C := RX1) (T := TX1) (N := 21) (ci := 1) (fs := xx_fs1 ad σ.1.1) (v := .ref (ad 4)) hx hb hT hH.1 0 xx_0 rfl in_X1 1 (by decide) rfl q177 rfl dX1_seepOf_58 ?_
            refine lv_iload hx hb dX1_seepOf_61 (lv_at hl 5 rfl) ?_
            refine gw_aald (b := ad (40 + i)) hx hb hT hH.1 4 4 xx_4 rfl i rfl (show i < 8 by omega) (by decide) (xx_chr hk (show i < nC by omega)) dX1_seepOf_63 ?_
            refine gw_getN (C := RX5) (T := TX5) (N := 5) (ci := 4) (fs := xx_fs5 ad σ.1 i) (v := .int (σ.1.2 8 i)) hx hb hT hH.1 (40 + i) (xx_chan hk (show i < nC by omega)) rfl in_X5 3 (by decide) rfl (List.mem_of_getElem? (i := 6) rfl) rfl dX1_seepOf_64 ?_
            refine lv_iload_n hx hb dX1_seepOf_67 rfl (lv_at hl 3 rfl) ?_
            refine lv_icmp_ge (tgt := 96) hx hb dX1_seepOf_68 (by decide) (fun c_68 => ?_) (fun c_68 => ?_)
            · skip
              refine lv_iinc (v := nI (i + 1)) (lv' := [(5, .int (nI (i + 1))), (0, .ref (ad 0)), (1, .ref (ad (40 + k))), (2, .int (nI w)), (3, .int ah), (4, .int (pTab (σ.1.1 1 + σ.1.1 2 * σ.1.2 12 (20 * k + w)) (xUse σ.1 k ah) (fun q => xDraw σ.1 nW q (σ.1.2 12 (20 * k + w)) (σ.1.2 13 (20 * k + w)) (σ.1.1 3)) i))]) hx hb dX1_seepOf_96 hl (k := 5) rfl (nI_add i 1) (by decide) rfl (fun ls hl => ?_)
              refine lv_goto (tgt := 24) hx hb dX1_seepOf_99 (by decide) ?_
              have hl := lv_sub (l' := [(0, .ref (ad 0)), (1, .ref (ad (40 + k))), (2, .int (nI w)), (3, .int ah), (4, .int (pTab (σ.1.1 1 + σ.1.1 2 * σ.1.2 12 (20 * k + w)) (xUse σ.1 k ah) (fun q => xDraw σ.1 nW q (σ.1.2 12 (20 * k + w)) (σ.1.2 13 (20 * k + w)) (σ.1.1 3)) i)), (5, .int (nI (i + 1)))]) hl [1, 2, 3, 4, 5, 0] rfl
              rw [show pTab (σ.1.1 1 + σ.1.1 2 * σ.1.2 12 (20 * k + w)) (xUse σ.1 k ah) (fun q => xDraw σ.1 nW q (σ.1.2 12 (20 * k + w)) (σ.1.2 13 (20 * k + w)) (σ.1.1 3)) i = pTab (σ.1.1 1 + σ.1.1 2 * σ.1.2 12 (20 * k + w)) (xUse σ.1 k ah) (fun q => xDraw σ.1 nW q (σ.1.2 12 (20 * k + w)) (σ.1.2 13 (20 * k + w)) (σ.1.1 3)) (i + 1) from (by rw [pTab, if_neg (show ¬ xUse σ.1 k ah i = true from fun h => (of_decide_eq_true (p := ¬ i = k ∧ ¬ σ.1.2 8 i = -1 ∧ ¬ ah ≤ σ.1.2 8 i) h).2.2 c_68)])] at hl
              exact ih (i + 1) (by omega) (by omega) _ hl
            · skip
              refine lv_iload hx hb dX1_seepOf_71 (lv_at hl 4 rfl) ?_
              refine lv_aload_n hx hb dX1_seepOf_73 rfl (lv_at hl 0 rfl) ?_
              refine gw_get (C := RX1) (T := TX1) (N := 21) (ci := 1) (fs := xx_fs1 ad σ.1.1) (v := .ref (ad 4)) hx hb hT hH.1 0 xx_0 rfl in_X1 1 (by decide) rfl q177 rfl dX1_seepOf_74 ?_
              refine lv_iload hx hb dX1_seepOf_77 (lv_at hl 5 rfl) ?_
              refine gw_aald (b := ad (40 + i)) hx hb hT hH.1 4 4 xx_4 rfl i rfl (show i < 8 by omega) (by decide) (xx_chr hk (show i < nC by omega)) dX1_seepOf_79 ?_
              refine lv_aload_n hx hb dX1_seepOf_80 rfl (lv_at hl 1 rfl) ?_
              refine gw_getN (C := RX5) (T := TX5) (N := 5) (ci := 4) (fs := xx_fs5 ad σ.1 k) (v := .ref (ad (50 + k))) hx hb hT hH.1 (40 + k) (xx_chan hk (show k < nC by omega)) rfl in_X5 0 (by decide) rfl (List.mem_of_getElem? (i := 3) rfl) rfl dX1_seepOf_81 ?_
              refine lv_iload_n hx hb dX1_seepOf_84 rfl (lv_at hl 2 rfl) ?_
              refine gw_aald (b := ad (60 + (20 * k + w))) hx hb hT hH.1 (50 + k) 5 (xx_wells hk (show k < nC by omega)) rfl w rfl (show w < 20 by omega) (by decide) (xx_wer hk (show k < nC by omega) (show w < nW k by omega)) dX1_seepOf_85 ?_
              refine lv_aload_n hx hb dX1_seepOf_86 rfl (lv_at hl 0 rfl) ?_
              refine gw_get (C := RX1) (T := TX1) (N := 21) (ci := 1) (fs := xx_fs1 ad σ.1.1) (v := .int (σ.1.1 3)) hx hb hT hH.1 0 xx_0 rfl in_X1 17 (by decide) rfl q193 rfl dX1_seepOf_87 ?_
              refine xr_V (n := 2) (40 + i) ((c_X5_draw l σ hk i (by omega) k w (by omega) (by omega) (σ.1.1 3)) G ad wk) hx hb hml hT hH.1 hH.2.1 (xx_chan hk (show i < nC by omega)) rfl (lw_V q296 q297 q298 q42 q299) (by decide +kernel) ⟨Nat.le_of_ble_eq_true rfl, Nat.le_of_ble_eq_true rfl⟩ rfl hl.1 rfl (Nat.le_of_ble_eq_true rfl) dX1_seepOf_90 ⟨Nat.le_of_ble_eq_true rfl, Nat.le_of_ble_eq_true rfl⟩ (fun r_90 hp_90 => ?_)
              obtain rfl := hp_90
              refine lv_isub hx hb dX1_seepOf_93 ?_
              refine lv_istore (lv' := [(4, .int ((pTab (σ.1.1 1 + σ.1.1 2 * σ.1.2 12 (20 * k + w)) (xUse σ.1 k ah) (fun q => xDraw σ.1 nW q (σ.1.2 12 (20 * k + w)) (σ.1.2 13 (20 * k + w)) (σ.1.1 3)) i) - (xDraw σ.1 nW i (σ.1.2 12 (20 * k + w)) (σ.1.2 13 (20 * k + w)) (σ.1.1 3)))), (0, .ref (ad 0)), (1, .ref (ad (40 + k))), (2, .int (nI w)), (3, .int ah), (5, .int (nI i))]) hx hb dX1_seepOf_94 hl (by decide) rfl (fun ls hl => ?_)
              refine lv_iinc (v := nI (i + 1)) (lv' := [(5, .int (nI (i + 1))), (4, .int ((pTab (σ.1.1 1 + σ.1.1 2 * σ.1.2 12 (20 * k + w)) (xUse σ.1 k ah) (fun q => xDraw σ.1 nW q (σ.1.2 12 (20 * k + w)) (σ.1.2 13 (20 * k + w)) (σ.1.1 3)) i) - (xDraw σ.1 nW i (σ.1.2 12 (20 * k + w)) (σ.1.2 13 (20 * k + w)) (σ.1.1 3)))), (0, .ref (ad 0)), (1, .ref (ad (40 + k))), (2, .int (nI w)), (3, .int ah)]) hx hb dX1_seepOf_96 hl (k := 5) rfl (nI_add i 1) (by decide) rfl (fun ls hl => ?_)
              refine lv_goto (tgt := 24) hx hb dX1_seepOf_99 (by decide) ?_
              have hl := lv_sub (l' := [(0, .ref (ad 0)), (1, .ref (ad (40 + k))), (2, .int (nI w)), (3, .int ah), (4, .int ((pTab (σ.1.1 1 + σ.1.1 2 * σ.1.2 12 (20 * k + w)) (xUse σ.1 k ah) (fun q => xDraw σ.1 nW q (σ.1.2 12 (20 * k + w)) (σ.1.2 13 (20 * k + w)) (σ.1.1 3)) i) - (xDraw σ.1 nW i (σ.1.2 12 (20 * k + w)) (σ.1.2 13 (20 * k + w)) (σ.1.1 3)))), (5, .int (nI (i + 1)))]) hl [2, 3, 4, 5, 1, 0] rfl
              rw [show (pTab (σ.1.1 1 + σ.1.1 2 * σ.1.2 12 (20 * k + w)) (xUse σ.1 k ah) (fun q => xDraw σ.1 nW q (σ.1.2 12 (20 * k + w)) (σ.1.2 13 (20 * k + w)) (σ.1.1 3)) i) - (xDraw σ.1 nW i (σ.1.2 12 (20 * k + w)) (σ.1.2 13 (20 * k + w)) (σ.1.1 3)) = pTab (σ.1.1 1 + σ.1.1 2 * σ.1.2 12 (20 * k + w)) (xUse σ.1 k ah) (fun q => xDraw σ.1 nW q (σ.1.2 12 (20 * k + w)) (σ.1.2 13 (20 * k + w)) (σ.1.1 3)) (i + 1) from (by rw [pTab, if_pos (show xUse σ.1 k ah i = true from decide_eq_true (p := ¬ i = k ∧ ¬ σ.1.2 8 i = -1 ∧ ¬ ah ≤ σ.1.2 8 i) ⟨c_41, h_51, c_68⟩)])] at hl
              exact ih (i + 1) (by omega) (by omega) _ hl
        · skip
          refine lv_if_eq (tgt := 96) hx hb dX1_seepOf_54 (by decide) (fun c_54 => ?_) (fun c_54 => ?_)
          · skip
            refine lv_iinc (v := nI (i + 1)) (lv' := [(5, .int (nI (i + 1))), (0, .ref (ad 0)), (1, .ref (ad (40 + k))), (2, .int (nI w)), (3, .int ah), (4, .int (pTab (σ.1.1 1 + σ.1.1 2 * σ.1.2 12 (20 * k + w)) (xUse σ.1 k ah) (fun q => xDraw σ.1 nW q (σ.1.2 12 (20 * k + w)) (σ.1.2 13 (20 * k + w)) (σ.1.1 3)) i))]) hx hb dX1_seepOf_96 hl (k := 5) rfl (nI_add i 1) (by decide) rfl (fun ls hl => ?_)
            refine lv_goto (tgt := 24) hx hb dX1_seepOf_99 (by decide) ?_
            have hl := lv_sub (l' := [(0, .ref (ad 0)), (1, .ref (ad (40 + k))), (2, .int (nI w)), (3, .int ah), (4, .int (pTab (σ.1.1 1 + σ.1.1 2 * σ.1.2 12 (20 * k + w)) (xUse σ.1 k ah) (fun q => xDraw σ.1 nW q (σ.1.2 12 (20 * k + w)) (σ.1.2 13 (20 * k + w)) (σ.1.1 3)) i)), (5, .int (nI (i + 1)))]) hl [1, 2, 3, 4, 5, 0] rfl
            rw [show pTab (σ.1.1 1 + σ.1.1 2 * σ.1.2 12 (20 * k + w)) (xUse σ.1 k ah) (fun q => xDraw σ.1 nW q (σ.1.2 12 (20 * k + w)) (σ.1.2 13 (20 * k + w)) (σ.1.1 3)) i = pTab (σ.1.1 1 + σ.1.1 2 * σ.1.2 12 (20 * k + w)) (xUse σ.1 k ah) (fun q => xDraw σ.1 nW q (σ.1.2 12 (20 * k + w)) (σ.1.2 13 (20 * k + w)) (σ.1.1 3)) (i + 1) from (by rw [pTab, if_neg (show ¬ xUse σ.1 k ah i = true from fun h => (of_decide_eq_true (p := ¬ i = k ∧ ¬ σ.1.2 8 i = -1 ∧ ¬ ah ≤ σ.1.2 8 i) h).2.1 h_51)])] at hl
            exact ih (i + 1) (by omega) (by omega) _ hl
          · skip
            exact absurd c_54 (by decide)

set_option maxHeartbeats 1000000 in
set_option maxRecDepth 100000 in
theorem c_X1_seepOf (l : Launch) (σ : xS) {nC nS : Nat} {nW : Nat → Nat} (hk : xk σ nC nS nW) (k : Nat) (hkk : k < nC) (w : Nat) (hw : w < nW k) (ah : Int32) : xr_C l yX1_seepOf cX1_seepOf 6 (some .int) 4 (fun ad => [.ref (ad 0), .ref (ad (40 + k)), .int (nI w), .int ah]) σ (fun r => xSeeps σ.1 nC nW k w ah = r) := by
  refine xr_ofi (by decide) (fun ad => Nat.le_of_ble_eq_true rfl) ?_
  intro p e s m args below meth c G ad wk ls X hH hl
  obtain ⟨hx, hb, hml, hT, hr, hlocks⟩ := id X
  have hl : lv_has ls 6 [(0, .ref (ad 0)), (1, .ref (ad (40 + k))), (2, .int (nI w)), (3, .int ah)] := hl
  have h8 := hk.1.2
  have hWk := hk.2.2.1 k (by omega)
  refine lv_aload_n hx hb dX1_seepOf_0 rfl (lv_at hl 0 rfl) ?_
  refine gw_get (C := RX1) (T := TX1) (N := 21) (ci := 1) (fs := xx_fs1 ad σ.1.1) (v := .int (σ.1.1 1)) hx hb hT hH.1 0 xx_0 rfl in_X1 15 (by decide) rfl q191 rfl dX1_seepOf_1 ?_
  refine lv_aload_n hx hb dX1_seepOf_4 rfl (lv_at hl 0 rfl) ?_
  refine gw_get (C := RX1) (T := TX1) (N := 21) (ci := 1) (fs := xx_fs1 ad σ.1.1) (v := .int (σ.1.1 2)) hx hb hT hH.1 0 xx_0 rfl in_X1 16 (by decide) rfl q192 rfl dX1_seepOf_5 ?_
  refine lv_aload_n hx hb dX1_seepOf_8 rfl (lv_at hl 1 rfl) ?_
  refine gw_getN (C := RX5) (T := TX5) (N := 5) (ci := 4) (fs := xx_fs5 ad σ.1 k) (v := .ref (ad (50 + k))) hx hb hT hH.1 (40 + k) (xx_chan hk (show k < nC by omega)) rfl in_X5 0 (by decide) rfl (List.mem_of_getElem? (i := 3) rfl) rfl dX1_seepOf_9 ?_
  refine lv_iload_n hx hb dX1_seepOf_12 rfl (lv_at hl 2 rfl) ?_
  refine gw_aald (b := ad (60 + (20 * k + w))) hx hb hT hH.1 (50 + k) 5 (xx_wells hk (show k < nC by omega)) rfl w rfl (show w < 20 by omega) (by decide) (xx_wer hk (show k < nC by omega) (show w < nW k by omega)) dX1_seepOf_13 ?_
  refine gw_getN (C := RX6) (T := TX6) (N := 4) (ci := 5) (fs := xx_fs6 σ.1 (20 * k + w)) (v := .int (σ.1.2 12 (20 * k + w))) hx hb hT hH.1 (60 + (20 * k + w)) (xx_well hk (show k < nC by omega) (show w < nW k by omega)) rfl in_X6 0 (by decide) rfl (List.mem_of_getElem? (i := 8) rfl) rfl dX1_seepOf_14 ?_
  refine lv_imul hx hb dX1_seepOf_17 ?_
  refine lv_iadd hx hb dX1_seepOf_18 ?_
  refine lv_istore (lv' := [(4, .int ((σ.1.1 1) + ((σ.1.1 2) * (σ.1.2 12 (20 * k + w))))), (0, .ref (ad 0)), (1, .ref (ad (40 + k))), (2, .int (nI w)), (3, .int ah)]) hx hb dX1_seepOf_19 hl (by decide) rfl (fun ls hl => ?_)
  refine lv_iconst (v := 0) hx hb dX1_seepOf_21 (by decide) ?_
  refine lv_istore (lv' := [(5, .int 0), (4, .int ((σ.1.1 1) + ((σ.1.1 2) * (σ.1.2 12 (20 * k + w))))), (0, .ref (ad 0)), (1, .ref (ad (40 + k))), (2, .int (nI w)), (3, .int ah)]) hx hb dX1_seepOf_22 hl (by decide) rfl (fun ls hl => ?_)
  refine lp_X1_seepOf σ hk k hkk w hw ah X hH ?_ (nC + 1) 0 (by omega) (Nat.zero_le _) _ (lv_sub hl [2, 3, 4, 5, 1, 0] rfl)
  intro ls hl
  refine lv_iconst (v := 0) hx hb dX1_seepOf_102 (by decide) ?_
  refine lv_bipush (v := 50) hx hb dX1_seepOf_103 (by decide) ?_
  refine lv_iload hx hb dX1_seepOf_105 (lv_at hl 4 rfl) ?_
  refine lv_aload_n hx hb dX1_seepOf_107 rfl (lv_at hl 1 rfl) ?_
  refine gw_getN (C := RX5) (T := TX5) (N := 5) (ci := 4) (fs := xx_fs5 ad σ.1 k) (v := .ref (ad (50 + k))) hx hb hT hH.1 (40 + k) (xx_chan hk (show k < nC by omega)) rfl in_X5 0 (by decide) rfl (List.mem_of_getElem? (i := 3) rfl) rfl dX1_seepOf_108 ?_
  refine lv_iload_n hx hb dX1_seepOf_111 rfl (lv_at hl 2 rfl) ?_
  refine gw_aald (b := ad (60 + (20 * k + w))) hx hb hT hH.1 (50 + k) 5 (xx_wells hk (show k < nC by omega)) rfl w rfl (show w < 20 by omega) (by decide) (xx_wer hk (show k < nC by omega) (show w < nW k by omega)) dX1_seepOf_112 ?_
  refine gw_getN (C := RX6) (T := TX6) (N := 4) (ci := 5) (fs := xx_fs6 σ.1 (20 * k + w)) (v := .int (σ.1.2 14 (20 * k + w))) hx hb hT hH.1 (60 + (20 * k + w)) (xx_well hk (show k < nC by omega) (show w < nW k by omega)) rfl in_X6 2 (by decide) rfl (List.mem_of_getElem? (i := 9) rfl) rfl dX1_seepOf_113 ?_
  refine lv_isub hx hb dX1_seepOf_116 ?_
  refine lv_bipush (v := 10) hx hb dX1_seepOf_117 (by decide) ?_
  refine lv_idiv hx hb dX1_seepOf_119 (by decide : ¬ (10 : Int32) = 0) ?_
  refine va_mmin hx hb (hml.trans hl.1.symm) hT.1 (hT.2.1 _ q269) (hT.2.1 _ q270) (hT.2.1 _ q48) (hT.2.1 _ q271) (by decide) (Nat.le_of_ble_eq_true rfl) (Nat.zero_le _) (Nat.zero_le _) dX1_seepOf_120 ?_
  refine va_mmax hx hb (hml.trans hl.1.symm) hT.1 (hT.2.1 _ q266) (hT.2.1 _ q267) (hT.2.1 _ q48) (hT.2.1 _ q268) (by decide) (Nat.le_of_ble_eq_true rfl) (Nat.zero_le _) (Nat.zero_le _) dX1_seepOf_123 ?_
  exact ss_ri hx hb hr hlocks rfl dX1_seepOf_126 rfl

set_option maxHeartbeats 1000000 in
set_option maxRecDepth 100000 in
theorem lp_X1_flowOf {p : Program} {l : Launch} {e : Env} {s : State} {m : MethodId} {args : Array Value} {below : List Frame} {meth : Method} {c : Code} {Q : State → Prop} {G : gw_G} {ad wk : Nat → Nat} (σ : xS) {nC nS : Nat} {nW : Nat → Nat} (hk : xk σ nC nS nW) (k : Nat) (hkk : k < nC) (ah : Int32) {Z : Int32} (X : gx_X RX1 cX1_flowOf 6 (some .int) G p s m args meth c) (hH : xr_H G ad wk σ s.heap) (K : ∀ (z : Int32), Z = z → (∀ (ls : Array Slot), lv_has ls 6 [(3, .int z)] → W p l e (mm_rm 5) s m args below meth c s.heap [] 0 0 Q (F0 m 87 ls []))) : ∀ (i : Nat) (g : Int32), i ≤ nW k → ∀ (x : Int32), x = nI i - 1 → pFlow (fun w => xSeeps σ.1 nC nW k w ah) (fun w => σ.1.2 14 (20 * k + w)) i g = Z → ∀ (ls : Array Slot), lv_has ls 6 [(0, .ref (ad 0)), (1, .ref (ad (40 + k))), (2, .int ah), (3, .int g), (4, .int x)] → W p l e (mm_rm 5) s m args below meth c s.heap [] 0 0 Q (F0 m 10 ls []) := by
  obtain ⟨hx, hb, hml, hT, hr, hlocks⟩ := id X
  have h8 := hk.1.2
  have hWk := hk.2.2.1 k (by omega)
  intro i
  induction i with
  | zero =>
    intro g hi x ex hz ls hl
    refine lv_iload hx hb dX1_flowOf_10 (lv_at hl 4 rfl) ?_
    refine lv_if_lt (tgt := 87) hx hb dX1_flowOf_12 (by decide) (fun c_12 => ?_) (fun c_12 => ?_)
    · skip
      exact K g hz.symm _ (lv_sub hl [3] rfl)
    · skip
      exact absurd (by rw [ex]; decide) c_12
  | succ i ih =>
    intro g hi x ex hz ls hl
    rw [nI_pred] at ex
    subst ex
    refine lv_iload hx hb dX1_flowOf_10 (lv_at hl 4 rfl) ?_
    refine lv_if_lt (tgt := 87) hx hb dX1_flowOf_12 (by decide) (fun c_12 => ?_) (fun c_12 => ?_)
    · skip
      exact absurd c_12 (nI_pos (by omega))
    · skip
      have c_12 : ¬ (i < 0) := fun h => c_12 ((nI_ltI (a := i) (b := 0) (by omega) (by omega)).mpr h)
      refine lv_iload_n hx hb dX1_flowOf_15 rfl (lv_at hl 3 rfl) ?_
      refine lv_aload_n hx hb dX1_flowOf_16 rfl (lv_at hl 0 rfl) ?_
      refine lv_aload_n hx hb dX1_flowOf_17 rfl (lv_at hl 1 rfl) ?_
      refine lv_iload hx hb dX1_flowOf_18 (lv_at hl 4 rfl) ?_
      refine lv_iload_n hx hb dX1_flowOf_20 rfl (lv_at hl 2 rfl) ?_
      refine xr_V (n := 3) 0 ((c_X1_seepOf l σ hk k (by omega) i (by omega) ah) G ad wk) hx hb hml hT hH.1 hH.2.1 xx_0 rfl (lw_V q292 q294 qs3 q33 q295) (by decide +kernel) ⟨Nat.le_of_ble_eq_true rfl, Nat.le_of_ble_eq_true rfl⟩ rfl hl.1 rfl (Nat.le_of_ble_eq_true rfl) dX1_flowOf_21 ⟨Nat.le_of_ble_eq_true rfl, Nat.le_of_ble_eq_true rfl⟩ (fun r_21 hp_21 => ?_)
      obtain rfl := hp_21
      refine lv_iadd hx hb dX1_flowOf_24 ?_
      refine lv_istore_n (lv' := [(3, .int (g + (xSeeps σ.1 nC nW k i ah))), (0, .ref (ad 0)), (1, .ref (ad (40 + k))), (2, .int ah), (4, .int (nI i))]) hx hb dX1_flowOf_25 rfl hl (by decide) rfl (fun ls hl => ?_)
      refine lv_iload hx hb dX1_flowOf_26 (lv_at hl 4 rfl) ?_
      refine lv_if_ne (tgt := 34) hx hb dX1_flowOf_28 (by decide) (fun c_28 => ?_) (fun c_28 => ?_)
      · skip
        have c_28 : ¬ (i = 0) := fun h => c_28 ((nI_eq (a := i) (b := 0) (by omega) (by omega)).mpr h)
        refine lv_aload_n hx hb dX1_flowOf_34 rfl (lv_at hl 2 rfl) ?_
        refine gw_getN (C := RX5) (T := TX5) (N := 5) (ci := 4) (fs := xx_fs5 ad σ.1 k) (v := .ref (ad (50 + k))) hx hb hT hH.1 (40 + k) (xx_chan hk (show k < nC by omega)) rfl in_X5 0 (by decide) rfl (List.mem_of_getElem? (i := 3) rfl) rfl dX1_flowOf_35 ?_
        refine lv_iload hx hb dX1_flowOf_38 (lv_at hl 4 rfl) ?_
        refine gw_aald (b := ad (60 + (20 * k + i))) hx hb hT hH.1 (50 + k) 5 (xx_wells hk (show k < nC by omega)) rfl i rfl (show i < 20 by omega) (by decide) (xx_wer hk (show k < nC by omega) (show i < nW k by omega)) dX1_flowOf_40 ?_
        refine gw_getN (C := RX6) (T := TX6) (N := 4) (ci := 5) (fs := xx_fs6 σ.1 (20 * k + i)) (v := .int (σ.1.2 14 (20 * k + i))) hx hb hT hH.1 (60 + (20 * k + i)) (xx_well hk (show k < nC by omega) (show i < nW k by omega)) rfl in_X6 2 (by decide) rfl (List.mem_of_getElem? (i := 9) rfl) rfl dX1_flowOf_41 ?_
        refine lv_aload_n hx hb dX1_flowOf_44 rfl (lv_at hl 2 rfl) ?_
        refine gw_getN (C := RX5) (T := TX5) (N := 5) (ci := 4) (fs := xx_fs5 ad σ.1 k) (v := .ref (ad (50 + k))) hx hb hT hH.1 (40 + k) (xx_chan hk (show k < nC by omega)) rfl in_X5 0 (by decide) rfl (List.mem_of_getElem? (i := 3) rfl) rfl dX1_flowOf_45 ?_
        refine lv_iload hx hb dX1_flowOf_48 (lv_at hl 4 rfl) ?_
        refine lv_iconst (v := 1) hx hb dX1_flowOf_50 (by decide) ?_
        refine lv_isub hx hb dX1_flowOf_51 ?_
        refine lv_as (z := nI (i - 1)) (pk_sub (a := i) (b := 1) (by omega)) ?_
        refine gw_aald (b := ad (60 + (20 * k + (i - 1)))) hx hb hT hH.1 (50 + k) 5 (xx_wells hk (show k < nC by omega)) rfl (i - 1) rfl (show i - 1 < 20 by omega) (by decide) (xx_wer hk (show k < nC by omega) (show i - 1 < nW k by omega)) dX1_flowOf_52 ?_
        refine gw_getN (C := RX6) (T := TX6) (N := 4) (ci := 5) (fs := xx_fs6 σ.1 (20 * k + (i - 1))) (v := .int (σ.1.2 14 (20 * k + (i - 1)))) hx hb hT hH.1 (60 + (20 * k + (i - 1))) (xx_well hk (show k < nC by omega) (show i - 1 < nW k by omega)) rfl in_X6 2 (by decide) rfl (List.mem_of_getElem? (i := 9) rfl) rfl dX1_flowOf_53 ?_
        refine lv_isub hx hb dX1_flowOf_56 ?_
        refine lv_istore (lv' := [(5, .int ((σ.1.2 14 (20 * k + i)) - (σ.1.2 14 (20 * k + (i - 1))))), (3, .int (g + (xSeeps σ.1 nC nW k i ah))), (0, .ref (ad 0)), (1, .ref (ad (40 + k))), (2, .int ah), (4, .int (nI i))]) hx hb dX1_flowOf_57 hl (by decide) rfl (fun ls hl => ?_)
        refine lv_iload hx hb dX1_flowOf_59 (lv_at hl 0 rfl) ?_
        refine lv_if_eq (tgt := 71) hx hb dX1_flowOf_61 (by decide) (fun c_61 => ?_) (fun c_61 => ?_)
        · skip
          refine lv_iload_n hx hb dX1_flowOf_71 rfl (lv_at hl 1 rfl) ?_
          refine lv_iload_n hx hb dX1_flowOf_72 rfl (lv_at hl 1 rfl) ?_
          refine lv_bipush (v := 99) hx hb dX1_flowOf_73 (by decide) ?_
          refine lv_iadd hx hb dX1_flowOf_75 ?_
          refine lv_bipush (v := 100) hx hb dX1_flowOf_76 (by decide) ?_
          refine lv_idiv hx hb dX1_flowOf_78 (by decide : ¬ (100 : Int32) = 0) ?_
          refine lv_isub hx hb dX1_flowOf_79 ?_
          refine lv_istore_n (lv' := [(3, .int ((g + (xSeeps σ.1 nC nW k i ah)) - (((g + (xSeeps σ.1 nC nW k i ah)) + 99) / 100))), (5, .int ((σ.1.2 14 (20 * k + i)) - (σ.1.2 14 (20 * k + (i - 1))))), (0, .ref (ad 0)), (1, .ref (ad (40 + k))), (2, .int ah), (4, .int (nI i))]) hx hb dX1_flowOf_80 rfl hl (by decide) rfl (fun ls hl => ?_)
          refine lv_iinc (v := (nI i) + (-1)) (lv' := [(4, .int ((nI i) + (-1))), (3, .int ((g + (xSeeps σ.1 nC nW k i ah)) - (((g + (xSeeps σ.1 nC nW k i ah)) + 99) / 100))), (5, .int ((σ.1.2 14 (20 * k + i)) - (σ.1.2 14 (20 * k + (i - 1))))), (0, .ref (ad 0)), (1, .ref (ad (40 + k))), (2, .int ah)]) hx hb dX1_flowOf_81 hl (k := 5) rfl rfl (by decide) rfl (fun ls hl => ?_)
          refine lv_goto (tgt := 10) hx hb dX1_flowOf_84 (by decide) ?_
          have hl := (lv_sub (l' := [(0, .ref (ad 0)), (1, .ref (ad (40 + k))), (2, .int ah), (3, .int ((g + (xSeeps σ.1 nC nW k i ah)) - (((g + (xSeeps σ.1 nC nW k i ah)) + 99) / 100))), (4, .int (nI i + (-1)))]) hl [3, 4, 5, 1, 0] rfl)
          obtain ⟨i, rfl⟩ : ∃ q, i = q + 1 := ⟨i - 1, by omega⟩
          rw [Nat.add_sub_cancel] at c_61
          rw [pFlow, if_pos (Or.inl c_61)] at hz
          exact ih _ (by omega) _ (i_am1 _) hz _ hl
        · skip
          refine lv_iload hx hb dX1_flowOf_64 (lv_at hl 0 rfl) ?_
          refine lv_bipush (v := 20) hx hb dX1_flowOf_66 (by decide) ?_
          refine lv_icmp_le (tgt := 81) hx hb dX1_flowOf_68 (by decide) (fun c_68 => ?_) (fun c_68 => ?_)
          · skip
            refine lv_iinc (v := (nI i) + (-1)) (lv' := [(4, .int ((nI i) + (-1))), (5, .int ((σ.1.2 14 (20 * k + i)) - (σ.1.2 14 (20 * k + (i - 1))))), (3, .int (g + (xSeeps σ.1 nC nW k i ah))), (0, .ref (ad 0)), (1, .ref (ad (40 + k))), (2, .int ah)]) hx hb dX1_flowOf_81 hl (k := 5) rfl rfl (by decide) rfl (fun ls hl => ?_)
            refine lv_goto (tgt := 10) hx hb dX1_flowOf_84 (by decide) ?_
            have hl := (lv_sub (l' := [(0, .ref (ad 0)), (1, .ref (ad (40 + k))), (2, .int ah), (3, .int (g + (xSeeps σ.1 nC nW k i ah))), (4, .int (nI i + (-1)))]) hl [3, 4, 5, 2, 0] rfl)
            obtain ⟨i, rfl⟩ : ∃ q, i = q + 1 := ⟨i - 1, by omega⟩
            rw [Nat.add_sub_cancel] at c_61 c_68
            rw [pFlow, if_neg (fun h => h.elim c_61 (fun h => absurd h (Int32.not_lt.mpr c_68)))] at hz
            exact ih _ (by omega) _ (i_am1 _) hz _ hl
          · skip
            refine lv_iload_n hx hb dX1_flowOf_71 rfl (lv_at hl 1 rfl) ?_
            refine lv_iload_n hx hb dX1_flowOf_72 rfl (lv_at hl 1 rfl) ?_
            refine lv_bipush (v := 99) hx hb dX1_flowOf_73 (by decide) ?_
            refine lv_iadd hx hb dX1_flowOf_75 ?_
            refine lv_bipush (v := 100) hx hb dX1_flowOf_76 (by decide) ?_
            refine lv_idiv hx hb dX1_flowOf_78 (by decide : ¬ (100 : Int32) = 0) ?_
            refine lv_isub hx hb dX1_flowOf_79 ?_
            refine lv_istore_n (lv' := [(3, .int ((g + (xSeeps σ.1 nC nW k i ah)) - (((g + (xSeeps σ.1 nC nW k i ah)) + 99) / 100))), (5, .int ((σ.1.2 14 (20 * k + i)) - (σ.1.2 14 (20 * k + (i - 1))))), (0, .ref (ad 0)), (1, .ref (ad (40 + k))), (2, .int ah), (4, .int (nI i))]) hx hb dX1_flowOf_80 rfl hl (by decide) rfl (fun ls hl => ?_)
            refine lv_iinc (v := (nI i) + (-1)) (lv' := [(4, .int ((nI i) + (-1))), (3, .int ((g + (xSeeps σ.1 nC nW k i ah)) - (((g + (xSeeps σ.1 nC nW k i ah)) + 99) / 100))), (5, .int ((σ.1.2 14 (20 * k + i)) - (σ.1.2 14 (20 * k + (i - 1))))), (0, .ref (ad 0)), (1, .ref (ad (40 + k))), (2, .int ah)]) hx hb dX1_flowOf_81 hl (k := 5) rfl rfl (by decide) rfl (fun ls hl => ?_)
            refine lv_goto (tgt := 10) hx hb dX1_flowOf_84 (by decide) ?_
            have hl := (lv_sub (l' := [(0, .ref (ad 0)), (1, .ref (ad (40 + k))), (2, .int ah), (3, .int ((g + (xSeeps σ.1 nC nW k i ah)) - (((g + (xSeeps σ.1 nC nW k i ah)) + 99) / 100))), (4, .int (nI i + (-1)))]) hl [3, 4, 5, 1, 0] rfl)
            obtain ⟨i, rfl⟩ : ∃ q, i = q + 1 := ⟨i - 1, by omega⟩
            rw [Nat.add_sub_cancel] at c_61 c_68
            rw [pFlow, if_pos (Or.inr (in_lt c_68))] at hz
            exact ih _ (by omega) _ (i_am1 _) hz _ hl
      · skip
        have c_28 : i = 0 := (nI_eq (a := i) (b := 0) (by omega) (by omega)).mp c_28
        refine lv_goto (tgt := 87) hx hb dX1_flowOf_31 (by decide) ?_
        subst c_28
        exact K _ hz.symm _ (lv_sub hl [0] rfl)

set_option maxHeartbeats 1000000 in
set_option maxRecDepth 100000 in
theorem c_X1_flowOf (l : Launch) (σ : xS) {nC nS : Nat} {nW : Nat → Nat} (hk : xk σ nC nS nW) (k : Nat) (hkk : k < nC) (ah : Int32) : xr_C l yX1_flowOf cX1_flowOf 6 (some .int) 5 (fun ad => [.ref (ad 0), .ref (ad (40 + k)), .int ah]) σ (fun r => xFlows σ.1 nC nW k ah = r) := by
  refine xr_ofi (by decide) (fun ad => Nat.le_of_ble_eq_true rfl) ?_
  intro p e s m args below meth c G ad wk ls X hH hl
  obtain ⟨hx, hb, hml, hT, hr, hlocks⟩ := id X
  have hl : lv_has ls 6 [(0, .ref (ad 0)), (1, .ref (ad (40 + k))), (2, .int ah)] := hl
  have h8 := hk.1.2
  have hWk := hk.2.2.1 k (by omega)
  refine lv_iconst (v := 0) hx hb dX1_flowOf_0 (by decide) ?_
  refine lv_istore_n (lv' := [(3, .int 0), (0, .ref (ad 0)), (1, .ref (ad (40 + k))), (2, .int ah)]) hx hb dX1_flowOf_1 rfl hl (by decide) rfl (fun ls hl => ?_)
  refine lv_aload_n hx hb dX1_flowOf_2 rfl (lv_at hl 2 rfl) ?_
  refine xr_V (n := 0) (40 + k) ((c_X5_runs l σ hk k (by omega)) G ad wk) hx hb hml hT hH.1 hH.2.1 (xx_chan hk (show k < nC by omega)) rfl (lw_V q288 q289 q290 q42 q291) (by decide +kernel) ⟨Nat.le_of_ble_eq_true rfl, Nat.le_of_ble_eq_true rfl⟩ rfl hl.1 rfl (Nat.le_of_ble_eq_true rfl) dX1_flowOf_3 ⟨Nat.le_of_ble_eq_true rfl, Nat.le_of_ble_eq_true rfl⟩ (fun r_3 hp_3 => ?_)
  obtain rfl := hp_3
  refine lv_iconst (v := 1) hx hb dX1_flowOf_6 (by decide) ?_
  refine lv_isub hx hb dX1_flowOf_7 ?_
  refine lv_istore (lv' := [(4, .int ((nI (pRuns (σ.1.2 15) (20 * k) (nW k))) - 1)), (3, .int 0), (0, .ref (ad 0)), (1, .ref (ad (40 + k))), (2, .int ah)]) hx hb dX1_flowOf_8 hl (by decide) rfl (fun ls hl => ?_)
  have hR := pRuns_le (σ.1.2 15) (nW k) (20 * k)
  refine lp_X1_flowOf σ hk k hkk ah X hH ?_ (pRuns (σ.1.2 15) (20 * k) (nW k)) 0 hR _ rfl rfl _ (lv_sub hl [2, 3, 4, 1, 0] rfl)
  intro z hz ls hl
  subst hz
  refine lv_iload_n hx hb dX1_flowOf_87 rfl (lv_at hl 0 rfl) ?_
  exact ss_ri hx hb hr hlocks rfl dX1_flowOf_88 rfl

set_option maxHeartbeats 1000000 in
set_option maxRecDepth 100000 in
theorem c_X1_flow (l : Launch) (hfl : l.flags = pinnedFlags ++ [noTraceFlag]) (σ : xS) {nC nS : Nat} {nW : Nat → Nat} (hk : xk σ nC nS nW) (v : Int32) : xx_C l yX1_flow (Cond.code yX1_flow cX1_flow 2 (some .int)) 9 8 100 (fun ad => [.ref (ad 0), .int v]) σ (fun r u => σ = u ∧ ∃ k, k < nC ∧ nI k = v ∧ ¬ σ.1.2 8 k = -1 ∧ some (.int (xFlows σ.1 nC nW k (σ.1.1 11))) = r) (fun q u => σ = u ∧ ((q = 1 ∧ (¬ ∃ k, k < nC ∧ nI k = v)) ∨ ∃ k, k < nC ∧ nI k = v ∧ q = 2 ∧ σ.1.2 8 k = -1)) := by
  refine xx_of (by decide) (fun ad => Nat.le_of_ble_eq_true rfl) ?_
  intro p e s m args below meth c G A ad wk wv ls X hE hH hl
  obtain ⟨hx, hb, hml, hT, hr, hlocks, hxc, hA⟩ := id X
  have hl : lv_has ls 2 [(0, .ref (ad 0)), (1, .int v)] := hl
  refine lv_aload_n hx hb dX1_flow_0 rfl (lv_at hl 0 rfl) ?_
  refine lv_aload_n hx hb dX1_flow_1 rfl (lv_at hl 0 rfl) ?_
  refine lv_iload_n hx hb dX1_flow_2 rfl (lv_at hl 1 rfl) ?_
  by_cases h_3 : ∃ k, k < nC ∧ nI k = v
  · skip
    obtain ⟨k, hkk, rfl⟩ := h_3
    by_cases hdg : σ.1.2 8 k = -1
    · skip
      exact xt_call (k := 2) (yy_V (n := 1) 0 (c_X1_dugAt2 l hfl σ hk k hkk hdg G A ad wk wv) hx hb hml hT hxc hA hH xx_0 rfl q585 (ex_code_of hT.2.1 q585) q584 qs7 q33 q582 (by decide +kernel) ⟨Nat.le_of_ble_eq_true rfl, Nat.le_of_ble_eq_true rfl⟩ rfl hl.1 rfl (Nat.le_of_ble_eq_true rfl) dX1_flow_3 ⟨Nat.le_of_ble_eq_true rfl, Nat.le_of_ble_eq_true rfl⟩) hlocks hE (xx_tq hT hH (fun _ _ _ => rfl) (by decide) (⟨rfl, Or.inr ⟨k, hkk, rfl, rfl, hdg⟩⟩)) hH.2.2.2.2 (Nat.le_of_ble_eq_true rfl) (Nat.le_of_ble_eq_true rfl)
    · skip
      refine xr_Vr (n := 1) 0 ((c_X1_dugAt1 l σ hk k hkk hdg) G ad wk) hx hb hml hT hH.1 hH.2.1 xx_0 rfl (lw_V q582 q584 qs7 q33 q585) (by decide +kernel) ⟨Nat.le_of_ble_eq_true rfl, Nat.le_of_ble_eq_true rfl⟩ rfl hl.1 rfl (Nat.le_of_ble_eq_true rfl) dX1_flow_3 ⟨Nat.le_of_ble_eq_true rfl, Nat.le_of_ble_eq_true rfl⟩ ?_
      refine lv_aload_n hx hb dX1_flow_6 rfl (lv_at hl 0 rfl) ?_
      refine gw_get (C := RX1) (T := TX1) (N := 21) (ci := 1) (fs := xx_fs1 ad σ.1.1) (v := .int (σ.1.1 11)) hx hb hT hH.1 0 xx_0 rfl in_X1 13 (by decide) rfl q189 rfl dX1_flow_7 ?_
      refine xr_V (n := 2) 0 ((c_X1_flowOf l σ hk k (by omega) (σ.1.1 11)) G ad wk) hx hb hml hT hH.1 hH.2.1 xx_0 rfl (lw_V q284 q286 qs2 q33 q287) (by decide +kernel) ⟨Nat.le_of_ble_eq_true rfl, Nat.le_of_ble_eq_true rfl⟩ rfl hl.1 rfl (Nat.le_of_ble_eq_true rfl) dX1_flow_10 ⟨Nat.le_of_ble_eq_true rfl, Nat.le_of_ble_eq_true rfl⟩ (fun r_10 hp_10 => ?_)
      obtain rfl := hp_10
      exact xx_ri hx hb hr hlocks hT hH (fun _ _ _ => rfl) rfl dX1_flow_13 (⟨rfl, k, hkk, rfl, hdg, rfl⟩) (Nat.le_of_ble_eq_true rfl) (Nat.le_of_ble_eq_true rfl)
  · skip
    exact xt_call (k := 1) (yy_V (n := 1) 0 (c_X1_dugAt0 l hfl σ hk v h_3 G A ad wk wv) hx hb hml hT hxc hA hH xx_0 rfl q585 (ex_code_of hT.2.1 q585) q584 qs7 q33 q582 (by decide +kernel) ⟨Nat.le_of_ble_eq_true rfl, Nat.le_of_ble_eq_true rfl⟩ rfl hl.1 rfl (Nat.le_of_ble_eq_true rfl) dX1_flow_3 ⟨Nat.le_of_ble_eq_true rfl, Nat.le_of_ble_eq_true rfl⟩) hlocks hE (xx_tq hT hH (fun _ _ _ => rfl) (by decide) (⟨rfl, Or.inl ⟨rfl, h_3⟩⟩)) hH.2.2.2.2 (Nat.le_of_ble_eq_true rfl) (Nat.le_of_ble_eq_true rfl)

set_option maxHeartbeats 1000000 in
set_option maxRecDepth 100000 in
theorem c_X1_harm (l : Launch) (hfl : l.flags = pinnedFlags ++ [noTraceFlag]) (σ : xS) {nC nS : Nat} {nW : Nat → Nat} (hk : xk σ nC nS nW) (v : Int32) : xx_C l yX1_harm (Cond.code yX1_harm cX1_harm 3 (some .int)) 9 8 100 (fun ad => [.ref (ad 0), .int v]) σ (fun r u => σ = u ∧ ∃ k, k < nC ∧ nI k = v ∧ ¬ σ.1.2 8 k = -1 ∧ some (.int (xFlows σ.1 nC nW k (σ.1.2 8 k) - xFlows σ.1 nC nW k (σ.1.1 11))) = r) (fun q u => σ = u ∧ ((q = 1 ∧ (¬ ∃ k, k < nC ∧ nI k = v)) ∨ ∃ k, k < nC ∧ nI k = v ∧ q = 2 ∧ σ.1.2 8 k = -1)) := by
  refine xx_of (by decide) (fun ad => Nat.le_of_ble_eq_true rfl) ?_
  intro p e s m args below meth c G A ad wk wv ls X hE hH hl
  obtain ⟨hx, hb, hml, hT, hr, hlocks, hxc, hA⟩ := id X
  have hl : lv_has ls 3 [(0, .ref (ad 0)), (1, .int v)] := hl
  refine lv_aload_n hx hb dX1_harm_0 rfl (lv_at hl 0 rfl) ?_
  refine lv_iload_n hx hb dX1_harm_1 rfl (lv_at hl 1 rfl) ?_
  by_cases h_2 : ∃ k, k < nC ∧ nI k = v
  · skip
    obtain ⟨k, hkk, rfl⟩ := h_2
    by_cases hdg : σ.1.2 8 k = -1
    · skip
      exact xt_call (k := 2) (yy_V (n := 1) 0 (c_X1_dugAt2 l hfl σ hk k hkk hdg G A ad wk wv) hx hb hml hT hxc hA hH xx_0 rfl q585 (ex_code_of hT.2.1 q585) q584 qs7 q33 q582 (by decide +kernel) ⟨Nat.le_of_ble_eq_true rfl, Nat.le_of_ble_eq_true rfl⟩ rfl hl.1 rfl (Nat.le_of_ble_eq_true rfl) dX1_harm_2 ⟨Nat.le_of_ble_eq_true rfl, Nat.le_of_ble_eq_true rfl⟩) hlocks hE (xx_tq hT hH (fun _ _ _ => rfl) (by decide) (⟨rfl, Or.inr ⟨k, hkk, rfl, rfl, hdg⟩⟩)) hH.2.2.2.2 (Nat.le_of_ble_eq_true rfl) (Nat.le_of_ble_eq_true rfl)
    · skip
      refine xr_Vr (n := 1) 0 ((c_X1_dugAt1 l σ hk k hkk hdg) G ad wk) hx hb hml hT hH.1 hH.2.1 xx_0 rfl (lw_V q582 q584 qs7 q33 q585) (by decide +kernel) ⟨Nat.le_of_ble_eq_true rfl, Nat.le_of_ble_eq_true rfl⟩ rfl hl.1 rfl (Nat.le_of_ble_eq_true rfl) dX1_harm_2 ⟨Nat.le_of_ble_eq_true rfl, Nat.le_of_ble_eq_true rfl⟩ ?_
      refine lv_astore_n (lv' := [(2, .ref (ad (40 + k))), (0, .ref (ad 0)), (1, .int (nI k))]) hx hb dX1_harm_5 rfl hl (by decide) rfl (fun ls hl => ?_)
      refine lv_aload_n hx hb dX1_harm_6 rfl (lv_at hl 1 rfl) ?_
      refine lv_aload_n hx hb dX1_harm_7 rfl (lv_at hl 0 rfl) ?_
      refine lv_aload_n hx hb dX1_harm_8 rfl (lv_at hl 0 rfl) ?_
      refine gw_getN (C := RX5) (T := TX5) (N := 5) (ci := 4) (fs := xx_fs5 ad σ.1 k) (v := .int (σ.1.2 8 k)) hx hb hT hH.1 (40 + k) (xx_chan hk (show k < nC by omega)) rfl in_X5 3 (by decide) rfl (List.mem_of_getElem? (i := 6) rfl) rfl dX1_harm_9 ?_
      refine xr_V (n := 2) 0 ((c_X1_flowOf l σ hk k (by omega) (σ.1.2 8 k)) G ad wk) hx hb hml hT hH.1 hH.2.1 xx_0 rfl (lw_V q284 q286 qs2 q33 q287) (by decide +kernel) ⟨Nat.le_of_ble_eq_true rfl, Nat.le_of_ble_eq_true rfl⟩ rfl hl.1 rfl (Nat.le_of_ble_eq_true rfl) dX1_harm_12 ⟨Nat.le_of_ble_eq_true rfl, Nat.le_of_ble_eq_true rfl⟩ (fun r_12 hp_12 => ?_)
      obtain rfl := hp_12
      refine lv_aload_n hx hb dX1_harm_15 rfl (lv_at hl 1 rfl) ?_
      refine lv_aload_n hx hb dX1_harm_16 rfl (lv_at hl 0 rfl) ?_
      refine lv_aload_n hx hb dX1_harm_17 rfl (lv_at hl 1 rfl) ?_
      refine gw_get (C := RX1) (T := TX1) (N := 21) (ci := 1) (fs := xx_fs1 ad σ.1.1) (v := .int (σ.1.1 11)) hx hb hT hH.1 0 xx_0 rfl in_X1 13 (by decide) rfl q189 rfl dX1_harm_18 ?_
      refine xr_V (n := 2) 0 ((c_X1_flowOf l σ hk k (by omega) (σ.1.1 11)) G ad wk) hx hb hml hT hH.1 hH.2.1 xx_0 rfl (lw_V q284 q286 qs2 q33 q287) (by decide +kernel) ⟨Nat.le_of_ble_eq_true rfl, Nat.le_of_ble_eq_true rfl⟩ rfl hl.1 rfl (Nat.le_of_ble_eq_true rfl) dX1_harm_21 ⟨Nat.le_of_ble_eq_true rfl, Nat.le_of_ble_eq_true rfl⟩ (fun r_21 hp_21 => ?_)
      obtain rfl := hp_21
      refine lv_isub hx hb dX1_harm_24 ?_
      exact xx_ri hx hb hr hlocks hT hH (fun _ _ _ => rfl) rfl dX1_harm_25 (⟨rfl, k, hkk, rfl, hdg, rfl⟩) (Nat.le_of_ble_eq_true rfl) (Nat.le_of_ble_eq_true rfl)
  · skip
    exact xt_call (k := 1) (yy_V (n := 1) 0 (c_X1_dugAt0 l hfl σ hk v h_2 G A ad wk wv) hx hb hml hT hxc hA hH xx_0 rfl q585 (ex_code_of hT.2.1 q585) q584 qs7 q33 q582 (by decide +kernel) ⟨Nat.le_of_ble_eq_true rfl, Nat.le_of_ble_eq_true rfl⟩ rfl hl.1 rfl (Nat.le_of_ble_eq_true rfl) dX1_harm_2 ⟨Nat.le_of_ble_eq_true rfl, Nat.le_of_ble_eq_true rfl⟩) hlocks hE (xx_tq hT hH (fun _ _ _ => rfl) (by decide) (⟨rfl, Or.inl ⟨rfl, h_2⟩⟩)) hH.2.2.2.2 (Nat.le_of_ble_eq_true rfl) (Nat.le_of_ble_eq_true rfl)

set_option maxHeartbeats 1000000 in
set_option maxRecDepth 100000 in
theorem c_X1_seep (l : Launch) (hfl : l.flags = pinnedFlags ++ [noTraceFlag]) (σ : xS) {nC nS : Nat} {nW : Nat → Nat} (hk : xk σ nC nS nW) (v z : Int32) : xx_C l yX1_seep (Cond.code yX1_seep cX1_seep 4 (some .int)) 8 8 100 (fun ad => [.ref (ad 0), .int v, .int z]) σ (fun r u => σ = u ∧ ∃ k j, (k < nC ∧ j < nW k) ∧ nI k = v ∧ nI j = z ∧ ¬ σ.1.2 8 k = -1 ∧ some (.int (if j < pRuns (σ.1.2 15) (20 * k) (nW k) then xSeeps σ.1 nC nW k j (σ.1.1 11) else 0)) = r) (fun q u => σ = u ∧ ((q = 1 ∧ (¬ ∃ k j, (k < nC ∧ j < nW k) ∧ nI k = v ∧ nI j = z)) ∨ ∃ k j, (k < nC ∧ j < nW k) ∧ nI k = v ∧ nI j = z ∧ q = 2 ∧ σ.1.2 8 k = -1)) := by
  refine xx_of (by decide) (fun ad => Nat.le_of_ble_eq_true rfl) ?_
  intro p e s m args below meth c G A ad wk wv ls X hE hH hl
  obtain ⟨hx, hb, hml, hT, hr, hlocks, hxc, hA⟩ := id X
  have hl : lv_has ls 4 [(0, .ref (ad 0)), (1, .int v), (2, .int z)] := hl
  have h8 := hk.1.2
  refine lv_aload_n hx hb dX1_seep_0 rfl (lv_at hl 0 rfl) ?_
  refine lv_iload_n hx hb dX1_seep_1 rfl (lv_at hl 1 rfl) ?_
  by_cases h_2 : ∃ k, k < nC ∧ nI k = v
  · skip
    obtain ⟨k, hkk, rfl⟩ := h_2
    refine xr_Vr (n := 1) 0 ((c_X1_channelAt1 l σ hk k (by omega)) G ad wk) hx hb hml hT hH.1 hH.2.1 xx_0 rfl (lw_V q435 q437 qs4 q33 q438) (by decide +kernel) ⟨Nat.le_of_ble_eq_true rfl, Nat.le_of_ble_eq_true rfl⟩ rfl hl.1 rfl (Nat.le_of_ble_eq_true rfl) dX1_seep_2 ⟨Nat.le_of_ble_eq_true rfl, Nat.le_of_ble_eq_true rfl⟩ ?_
    refine lv_astore_n (lv' := [(3, .ref (ad (40 + k))), (0, .ref (ad 0)), (1, .int (nI k)), (2, .int z)]) hx hb dX1_seep_5 rfl hl (by decide) rfl (fun ls hl => ?_)
    have hwk := (hk.2.2.1 k (by omega)).2
    have hR := pRuns_le (σ.1.2 15) (nW k) (20 * k)
    refine lv_iload_n hx hb dX1_seep_6 rfl (lv_at hl 3 rfl) ?_
    refine lv_iconst (v := 0) hx hb dX1_seep_7 (by decide) ?_
    refine lv_aload_n hx hb dX1_seep_8 rfl (lv_at hl 0 rfl) ?_
    refine gw_getN (C := RX5) (T := TX5) (N := 5) (ci := 4) (fs := xx_fs5 ad σ.1 k) (v := .int (σ.1.2 5 k)) hx hb hT hH.1 (40 + k) (xx_chan hk (show k < nC by omega)) rfl in_X5 1 (by decide) rfl (List.mem_of_getElem? (i := 4) rfl) rfl dX1_seep_9 ?_
    refine lv_as ((hk.2.2.1 k (by omega)).1) ?_
    refine lv_iconst (v := 1) hx hb dX1_seep_12 (by decide) ?_
    refine lv_isub hx hb dX1_seep_13 ?_
    refine ss_ci (n := 3) (c_X1_isIn l z 0 ((nI (nW k)) - 1)) hx hb hml hT.1 hT.2.1 (lw_S q254 q255 q33 q256) (by decide +kernel) ⟨Nat.le_of_ble_eq_true rfl, Nat.le_of_ble_eq_true rfl⟩ rfl hl.1 rfl (Nat.le_of_ble_eq_true rfl) dX1_seep_14 ⟨Nat.le_of_ble_eq_true rfl, Nat.le_of_ble_eq_true rfl⟩ (fun r_14 hp_14 => ?_)
    rcases hp_14 with ⟨rfl, h_14⟩ | ⟨rfl, h_14⟩
    · skip
      obtain ⟨j, hj, rfl⟩ := (in_rg (n := nW k) (by omega) z).mp h_14
      refine tk_cSv (n := 1) (c_X1_mustBe1 l) hx hb hml hT.1 hT.2.1 (fun a U g mk h => h) (fun U hU hW => trivial) (lw_S q439 q440 q33 q441) (by decide +kernel) ⟨Nat.le_of_ble_eq_true rfl, Nat.le_of_ble_eq_true rfl⟩ rfl hl.1 rfl (Nat.le_of_ble_eq_true rfl) dX1_seep_17 ⟨Nat.le_of_ble_eq_true rfl, Nat.le_of_ble_eq_true rfl⟩ ?_
      refine lv_aload_n hx hb dX1_seep_20 rfl (lv_at hl 0 rfl) ?_
      refine xr_V (n := 0) (40 + k) ((c_X5_isDug l σ hk k (by omega)) G ad wk) hx hb hml hT hH.1 hH.2.1 (xx_chan hk (show k < nC by omega)) rfl (lw_V q280 q281 q282 q42 q283) (by decide +kernel) ⟨Nat.le_of_ble_eq_true rfl, Nat.le_of_ble_eq_true rfl⟩ rfl hl.1 rfl (Nat.le_of_ble_eq_true rfl) dX1_seep_21 ⟨Nat.le_of_ble_eq_true rfl, Nat.le_of_ble_eq_true rfl⟩ (fun r_21 hp_21 => ?_)
      rcases hp_21 with ⟨rfl, h_21⟩ | ⟨rfl, h_21⟩
      · skip
        refine tk_cSv (n := 1) (c_X1_stands1 l) hx hb hml hT.1 hT.2.1 (fun a U g mk h => h) (fun U hU hW => trivial) (lw_S q457 q458 q33 q459) (by decide +kernel) ⟨Nat.le_of_ble_eq_true rfl, Nat.le_of_ble_eq_true rfl⟩ rfl hl.1 rfl (Nat.le_of_ble_eq_true rfl) dX1_seep_24 ⟨Nat.le_of_ble_eq_true rfl, Nat.le_of_ble_eq_true rfl⟩ ?_
        refine lv_iload_n hx hb dX1_seep_27 rfl (lv_at hl 3 rfl) ?_
        refine lv_aload_n hx hb dX1_seep_28 rfl (lv_at hl 0 rfl) ?_
        refine xr_V (n := 0) (40 + k) ((c_X5_runs l σ hk k (by omega)) G ad wk) hx hb hml hT hH.1 hH.2.1 (xx_chan hk (show k < nC by omega)) rfl (lw_V q288 q289 q290 q42 q291) (by decide +kernel) ⟨Nat.le_of_ble_eq_true rfl, Nat.le_of_ble_eq_true rfl⟩ rfl hl.1 rfl (Nat.le_of_ble_eq_true rfl) dX1_seep_29 ⟨Nat.le_of_ble_eq_true rfl, Nat.le_of_ble_eq_true rfl⟩ (fun r_29 hp_29 => ?_)
        obtain rfl := hp_29
        refine lv_icmp_ge (tgt := 48) hx hb dX1_seep_32 (by decide) (fun c_32 => ?_) (fun c_32 => ?_)
        · skip
          have c_32 : (pRuns (σ.1.2 15) (20 * k) (nW k)) ≤ j := (nI_leI (a := (pRuns (σ.1.2 15) (20 * k) (nW k))) (b := j) (by omega) (by omega)).mp c_32
          refine lv_iconst (v := 0) hx hb dX1_seep_48 (by decide) ?_
          exact xx_ri hx hb hr hlocks hT hH (fun _ _ _ => rfl) rfl dX1_seep_49 (⟨rfl, k, j, ⟨hkk, hj⟩, rfl, rfl, h_21, by rw [if_neg (by omega)]⟩) (Nat.le_of_ble_eq_true rfl) (Nat.le_of_ble_eq_true rfl)
        · skip
          have c_32 : ¬ ((pRuns (σ.1.2 15) (20 * k) (nW k)) ≤ j) := fun h => c_32 ((nI_leI (a := (pRuns (σ.1.2 15) (20 * k) (nW k))) (b := j) (by omega) (by omega)).mpr h)
          refine lv_aload_n hx hb dX1_seep_35 rfl (lv_at hl 1 rfl) ?_
          refine lv_aload_n hx hb dX1_seep_36 rfl (lv_at hl 0 rfl) ?_
          refine lv_iload_n hx hb dX1_seep_37 rfl (lv_at hl 3 rfl) ?_
          refine lv_aload_n hx hb dX1_seep_38 rfl (lv_at hl 1 rfl) ?_
          refine gw_get (C := RX1) (T := TX1) (N := 21) (ci := 1) (fs := xx_fs1 ad σ.1.1) (v := .int (σ.1.1 11)) hx hb hT hH.1 0 xx_0 rfl in_X1 13 (by decide) rfl q189 rfl dX1_seep_39 ?_
          refine xr_V (n := 3) 0 ((c_X1_seepOf l σ hk k (by omega) j (by omega) (σ.1.1 11)) G ad wk) hx hb hml hT hH.1 hH.2.1 xx_0 rfl (lw_V q292 q294 qs3 q33 q295) (by decide +kernel) ⟨Nat.le_of_ble_eq_true rfl, Nat.le_of_ble_eq_true rfl⟩ rfl hl.1 rfl (Nat.le_of_ble_eq_true rfl) dX1_seep_42 ⟨Nat.le_of_ble_eq_true rfl, Nat.le_of_ble_eq_true rfl⟩ (fun r_42 hp_42 => ?_)
          obtain rfl := hp_42
          refine lv_goto (tgt := 49) hx hb dX1_seep_45 (by decide) ?_
          exact xx_ri hx hb hr hlocks hT hH (fun _ _ _ => rfl) rfl dX1_seep_49 (⟨rfl, k, j, ⟨hkk, hj⟩, rfl, rfl, h_21, by rw [if_pos (by omega)]⟩) (Nat.le_of_ble_eq_true rfl) (Nat.le_of_ble_eq_true rfl)
      · skip
        exact xt_call (k := 2) (yy_S (n := 1) (c_X1_stands0 l hfl σ G A ad wk wv) hx hb hml hT hxc hA hH q459 (ex_code_of hT.2.1 q459) (ex_named (hT.2.1 _ q459)) q458 q33 q457 (by decide +kernel) ⟨Nat.le_of_ble_eq_true rfl, Nat.le_of_ble_eq_true rfl⟩ rfl hl.1 rfl (Nat.le_of_ble_eq_true rfl) dX1_seep_24 ⟨Nat.le_of_ble_eq_true rfl, Nat.le_of_ble_eq_true rfl⟩) hlocks hE (xx_tq hT hH (fun _ _ _ => rfl) (by decide) (⟨rfl, Or.inr ⟨k, j, ⟨hkk, hj⟩, rfl, rfl, rfl, h_21⟩⟩)) hH.2.2.2.2 (Nat.le_of_ble_eq_true rfl) (Nat.le_of_ble_eq_true rfl)
    · skip
      exact xt_call (k := 1) (yy_S (n := 1) (c_X1_mustBe0 l hfl σ G A ad wk wv) hx hb hml hT hxc hA hH q441 (ex_code_of hT.2.1 q441) (ex_named (hT.2.1 _ q441)) q440 q33 q439 (by decide +kernel) ⟨Nat.le_of_ble_eq_true rfl, Nat.le_of_ble_eq_true rfl⟩ rfl hl.1 rfl (Nat.le_of_ble_eq_true rfl) dX1_seep_17 ⟨Nat.le_of_ble_eq_true rfl, Nat.le_of_ble_eq_true rfl⟩) hlocks hE (xx_tq hT hH (fun _ _ _ => rfl) (by decide) (⟨rfl, Or.inl ⟨rfl, fun ⟨k2, j, h1, h2, h3⟩ => h_14 ((in_rg (n := nW k) (by omega) z).mpr ⟨j, (by rw [(nI_eq (by omega) (by omega)).mp h2] at h1; exact h1.2), h3⟩)⟩⟩)) hH.2.2.2.2 (Nat.le_of_ble_eq_true rfl) (Nat.le_of_ble_eq_true rfl)
  · skip
    exact xt_call (k := 1) (yy_V (n := 1) 0 (c_X1_channelAt0 l hfl σ hk v h_2 G A ad wk wv) hx hb hml hT hxc hA hH xx_0 rfl q438 (ex_code_of hT.2.1 q438) q437 qs4 q33 q435 (by decide +kernel) ⟨Nat.le_of_ble_eq_true rfl, Nat.le_of_ble_eq_true rfl⟩ rfl hl.1 rfl (Nat.le_of_ble_eq_true rfl) dX1_seep_2 ⟨Nat.le_of_ble_eq_true rfl, Nat.le_of_ble_eq_true rfl⟩) hlocks hE (xx_tq hT hH (fun _ _ _ => rfl) (by decide) (⟨rfl, Or.inl ⟨rfl, fun ⟨k, j, h1, h2, h3⟩ => h_2 ⟨k, h1.1, h2⟩⟩⟩)) hH.2.2.2.2 (Nat.le_of_ble_eq_true rfl) (Nat.le_of_ble_eq_true rfl)
