/-! the system's arrays: loads and stores -/
section XL
variable {p : Program} {l : Launch} {e : Env} {R : Room} {s : State} {m : MethodId} {args : Array Value} {below : List Frame} {meth : Method} {c : Code} {H : Heap} {locs : List Loc} {cells slots : Nat} {Q : State → Prop}
variable {cc : ByteArray} {pc : Nat} {ls : Array Slot} {rest : List Value} {G : gw_G} {A : Nat → Prop} {H0 : Heap} {ad wk : Nat → Nat} {σ : xS} {own : String}
theorem xx_len_lt (k : Nat) : xx_len k < 2 ^ 31 := by
  unfold xx_len
  split <;> decide
theorem xx_ild (hx : p.tables.exec = Jvm.exec) (hb : c.code = cc) (hT : gw_T own G s m args) (hP : gw_P G ad (xx_w G ad wk σ) H) (k : Nat) (hk : xx_len k ≠ 0) (h8 : 7 < k ∧ k < 40) (ht : xx_ct k = 0) {x : Int32} (n : Nat) (hi : x = nI n) (hn : n < xx_len k) {v : Int32} (hv : σ.1.2 k n = v) (hd : decode cc pc = .ok (.iaload, 1))
    (kk : W p l e R s m args below meth c H locs cells slots Q (F0 m (pc + 1) ls (.int v :: rest))) : W p l e R s m args below meth c H locs cells slots Q (F0 m pc ls (.int x :: .ref (ad k) :: rest)) := by
  subst hv
  exact gw_iald hx hb hT hP k (by rw [← ht]; exact xx_arr hk h8) n hi hn (xx_len_lt k) hd kk
theorem xx_bld (hx : p.tables.exec = Jvm.exec) (hb : c.code = cc) (hT : gw_T own G s m args) (hP : gw_P G ad (xx_w G ad wk σ) H) {x : Int32} (n : Nat) (hi : x = nI n) (hn : n < 400) {v : Int32} (hv : σ.1.2 23 n = v) (hd : decode cc pc = .ok (.baload, 1))
    (kk : W p l e R s m args below meth c H locs cells slots Q (F0 m (pc + 1) ls (.int v :: rest))) : W p l e R s m args below meth c H locs cells slots Q (F0 m pc ls (.int x :: .ref (ad 23) :: rest)) := by
  subst hv
  exact gw_bald hx hb hT hP 23 (xx_arr (k := 23) (by decide) (by decide)) n hi hn (by decide) hd kk
theorem xx_lld (hx : p.tables.exec = Jvm.exec) (hb : c.code = cc) (hT : gw_T own G s m args) (hP : gw_P G ad (xx_w G ad wk σ) H) {x : Int32} (n : Nat) (hi : x = nI n) (hn : n < 31) {v : Int64} (hv : σ.2 0 n = v) (hd : decode cc pc = .ok (.laload, 1))
    (kk : W p l e R s m args below meth c H locs cells slots Q (F0 m (pc + 1) ls (.long v :: rest))) : W p l e R s m args below meth c H locs cells slots Q (F0 m pc ls (.int x :: .ref (ad 6) :: rest)) := by
  subst hv
  exact gw_lald hx hb hT hP 6 xx_6 n hi hn (by decide) hd kk
theorem xx_ist (hx : p.tables.exec = Jvm.exec) (hb : c.code = cc) (hT : gw_T own G s m args) (hH : xx_H G A H0 H locs ad wk σ) (k : Nat) (hk : xx_len k ≠ 0) (h8 : 7 < k ∧ k < 40) (ht : xx_ct k = 0) {x y : Int32} (n : Nat) (hi : x = nI n) (hn : n < xx_len k) (hd : decode cc pc = .ok (.iastore, 1))
    (kk : ∀ (H1 : Heap) (locs1 : List Loc), xx_H G A H0 H1 locs1 ad wk (xs_ar σ k n y) → W p l e R s m args below meth c H1 locs1 cells slots Q (F0 m (pc + 1) ls rest)) : W p l e R s m args below meth c H locs cells slots Q (F0 m pc ls (.int y :: .int x :: .ref (ad k) :: rest)) :=
  gw_iast hx hb hT hH k (by rw [← ht]; exact xx_arr hk h8) n hi hn (xx_len_lt k) hd (fun H1 locs1 h => kk H1 locs1 (by rw [← ht, xx_upA hk n y] at h; exact h))
theorem xx_bst (hx : p.tables.exec = Jvm.exec) (hb : c.code = cc) (hT : gw_T own G s m args) (hH : xx_H G A H0 H locs ad wk σ) {x y z : Int32} (n : Nat) (hi : x = nI n) (hn : n < 400) (hz : vp_nar .byte y = z) (hd : decode cc pc = .ok (.bastore, 1))
    (kk : ∀ (H1 : Heap) (locs1 : List Loc), xx_H G A H0 H1 locs1 ad wk (xs_ar σ 23 n z) → W p l e R s m args below meth c H1 locs1 cells slots Q (F0 m (pc + 1) ls rest)) : W p l e R s m args below meth c H locs cells slots Q (F0 m pc ls (.int y :: .int x :: .ref (ad 23) :: rest)) := by
  subst hz
  exact gw_bast hx hb hT hH 23 (xx_arr (k := 23) (by decide) (by decide)) n hi hn (by decide) hd (fun H1 locs1 h => kk H1 locs1 (by have e := xx_upA (G := G) (ad := ad) (wk := wk) (σ := σ) (k := 23) (by decide) n (vp_nar .byte y); show gw_H G A H0 H1 locs1 ad (xx_w G ad wk (xs_ar σ 23 n (vp_nar .byte y))); rw [← e]; exact h))
theorem xx_lst (hx : p.tables.exec = Jvm.exec) (hb : c.code = cc) (hT : gw_T own G s m args) (hH : xx_H G A H0 H locs ad wk σ) {x : Int32} {y : Int64} (n : Nat) (hi : x = nI n) (hn : n < 31) (hd : decode cc pc = .ok (.lastore, 1))
    (kk : ∀ (H1 : Heap) (locs1 : List Loc), xx_H G A H0 H1 locs1 ad wk (xs_lg σ 0 n y) → W p l e R s m args below meth c H1 locs1 cells slots Q (F0 m (pc + 1) ls rest)) : W p l e R s m args below meth c H locs cells slots Q (F0 m pc ls (.long y :: .int x :: .ref (ad 6) :: rest)) :=
  gw_last hx hb hT hH 6 xx_6 n hi hn (by decide) hd (fun H1 locs1 h => kk H1 locs1 (by show gw_H G A H0 H1 locs1 ad (xx_w G ad wk (xs_lg σ 0 n y)); rw [← xx_upL (k := 0) (by decide) 31 n rfl y]; exact h))
theorem xx_lso (hx : p.tables.exec = Jvm.exec) (hb : c.code = cc) (hT : gw_T own G s m args) (hH : xx_H G A H0 H locs ad wk σ) {y : Int64} (hd : decode cc pc = .ok (.lastore, 1))
    (kk : ∀ (H1 : Heap) (locs1 : List Loc), xx_H G A H0 H1 locs1 ad wk (xs_lg σ 1 0 y) → W p l e R s m args below meth c H1 locs1 cells slots Q (F0 m (pc + 1) ls rest)) : W p l e R s m args below meth c H locs cells slots Q (F0 m pc ls (.long y :: .int 0 :: .ref (ad 7) :: rest)) :=
  gw_last hx hb hT hH 7 xx_7 0 rfl (by decide) (by decide) hd (fun H1 locs1 h => kk H1 locs1 (by show gw_H G A H0 H1 locs1 ad (xx_w G ad wk (xs_lg σ 1 0 y)); rw [← xx_upL (k := 1) (by decide) 1 0 rfl y]; exact h))
end XL
