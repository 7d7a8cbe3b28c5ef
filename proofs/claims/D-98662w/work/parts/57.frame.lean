set_option maxRecDepth 100000
/-! the model: what reading a formula leaves as it was -/
def mm_fn (j : Nat) : Bool := [2, 4, 6, 7, 8, 21, 22, 24, 25].contains j
def mm_fa (j : Nat) : Bool := [11, 12, 13, 17].contains j
def mm_FF (v : Nat) (r s : mm_S) : Prop := (∀ j, mm_fn j = false → mm_n r j = mm_n s j) ∧ (∀ k, mm_fa k = false → mm_a r k = mm_a s k) ∧ (∀ j, j ≠ v → mm_a r 13 j = mm_a s 13 j) ∧ (∀ i, (i < 320 * v ∨ 320 * v + 320 ≤ i) → mm_a r 11 i = mm_a s 11 i ∧ mm_a r 12 i = mm_a s 12 i) ∧ r.2.2.2.2 = s.2.2.2.2
theorem mm_FF.rf {v : Nat} {s : mm_S} : mm_FF v s s := ⟨fun _ _ => rfl, fun _ _ => rfl, fun _ _ => rfl, fun _ _ => ⟨rfl, rfl⟩, rfl⟩
theorem mm_FF.tr {v : Nat} {r s t : mm_S} (a : mm_FF v r s) (b : mm_FF v s t) : mm_FF v r t := ⟨fun j h => (a.1 j h).trans (b.1 j h), fun j h => (a.2.1 j h).trans (b.2.1 j h), fun j h => (a.2.2.1 j h).trans (b.2.2.1 j h), fun i h => ⟨(a.2.2.2.1 i h).1.trans (b.2.2.2.1 i h).1, (a.2.2.2.1 i h).2.trans (b.2.2.2.1 i h).2⟩, a.2.2.2.2.trans b.2.2.2.2⟩
/-- numbers alone are new -/
theorem mm_FF.of {v : Nat} {r s : mm_S} (h1 : ∀ j, mm_fn j = false → mm_n r j = mm_n s j) (h2 : r.2.2.2 = s.2.2.2) : mm_FF v r s := by
  have ea : ∀ k, mm_a r k = mm_a s k := fun k => by show r.2.2.2.1 k = s.2.2.2.1 k; rw [h2]
  exact ⟨h1, fun k _ => ea k, fun j _ => by rw [ea], fun i _ => by rw [ea, ea]; exact ⟨rfl, rfl⟩, by rw [h2]⟩
theorem mm_FF.N {v k x : Nat} {s : mm_S} (hk : mm_fn k = true) : mm_FF v (mm_setN s k x) s := mm_FF.of (fun j h => by
  rw [mm_n_N, if_neg (fun e => by rw [e, hk] at h; cases h)]) rfl
theorem mm_FF.tk {v : Nat} {s : mm_S} : mm_FF v (mm_tk s) s := mm_FF.of (fun j h => by
  have n : ∀ k, mm_fn k = true → j ≠ k := fun k q e => by rw [e, q] at h; cases h
  exact mm_tk_n (n 4 rfl) (n 6 rfl) (n 7 rfl) (n 8 rfl)) rfl
theorem mm_FF.wr {v x : Nat} {s : mm_S} : mm_FF v (mm_wr s x) s := mm_FF.of (fun j h => mm_wr_n2 (fun e => by rw [e] at h; cases h)) (by
  unfold mm_wr
  split <;> rfl)
theorem mm_FF.A17 {v : Nat} {s : mm_S} {f : Nat → Nat} : mm_FF v (mm_setA s 17 f) s := ⟨fun _ _ => rfl, fun k h => by
  rw [mm_a_A, if_neg (fun e => by rw [e] at h; cases h)], fun _ _ => rfl, fun _ _ => ⟨rfl, rfl⟩, rfl⟩
theorem mm_FF.opS {v x : Nat} {s : mm_S} : mm_FF v (mm_opS s x) s := (mm_FF.N (s := mm_setN (mm_setA s 17 (aw_u (mm_a s 17) (mm_n s 21) x)) 21 (mm_n s 21 + 1)) (k := 25) rfl).tr ((mm_FF.N (s := mm_setA s 17 (aw_u (mm_a s 17) (mm_n s 21) x)) (k := 21) rfl).tr mm_FF.A17)
theorem mm_FF.opn {v x : Nat} {s : mm_S} : mm_FF v (mm_opnS s x) s := by
  unfold mm_opnS
  split
  · exact mm_FF.tk.tr mm_FF.opS
  · exact mm_FF.opS
theorem mm_FF.cnt {v : Nat} {s : mm_S} : mm_FF v (mm_cnt s) s := (mm_FF.N (s := mm_setN s 22 (mm_n s 22 + 1)) (k := 24) rfl).tr (mm_FF.N (k := 22) rfl)
theorem mm_FF.add {x y : Nat} {s : mm_S} (hm : mm_a s 13 (mm_n s 20) < 320) : mm_FF (mm_n s 20) (mm_addS s x y) s := by
  refine ⟨fun _ _ => rfl, fun k h => ?_, fun j h => ?_, fun i h => ⟨?_, ?_⟩, rfl⟩
  · have n : ∀ j, mm_fa j = true → k ≠ j := fun j q e => by rw [e, q] at h; cases h
    unfold mm_addS
    rw [mm_a_A, if_neg (n 13 rfl), mm_a_A, if_neg (n 12 rfl), mm_a_A, if_neg (n 11 rfl)]
  · show aw_u (mm_a s 13) (mm_n s 20) _ j = _
    rw [aw_u_n h]
  · show aw_u (mm_a s 11) (320 * mm_n s 20 + mm_a s 13 (mm_n s 20)) _ i = _
    rw [aw_u_n (by omega)]
  · show aw_u (mm_a s 12) (320 * mm_n s 20 + mm_a s 13 (mm_n s 20)) _ i = _
    rw [aw_u_n (by omega)]
theorem mm_FF.cl1 {c : Nat} {s : mm_S} (hm : mm_a s 13 (mm_n s 20) < 320) : mm_FF (mm_n s 20) (mm_cl1 s c) s := by
  unfold mm_cl1
  split
  · exact (mm_FF.N (s := mm_addS (mm_setN s 21 c) 2 0) (k := 25) rfl).tr ((mm_FF.add (s := mm_setN s 21 c) hm).tr (mm_FF.N (k := 21) rfl))
  · exact (mm_FF.add (s := mm_setN s 21 c) hm).tr (mm_FF.N (k := 21) rfl)
theorem mm_FF.cl {v f : Nat} : ∀ (c : Nat) (s : mm_S), mm_n s 20 = f → mm_n s 21 = c → mm_clI s → mm_FF f (mm_cl v c s) s := by
  intro c
  induction c with
  | zero => intro s _ _ _; exact mm_FF.rf
  | succ c ih =>
    intro s hf hc hI
    by_cases z : mm_a s 17 c ≠ 20 ∧ v ≤ sp_tight (mm_a s 17 c)
    · have e : mm_cl v (c + 1) s = mm_cl v c (mm_cl1 s c) := if_pos z
      obtain ⟨j1, j2, j3⟩ := mm_cl1_I hI hc z.1
      have i5 := hI.2.2.2.2
      have k := mm_FF.cl1 (c := c) (s := s) (by omega)
      rw [hf] at k
      rw [e]
      exact (ih (mm_cl1 s c) ((k.1 20 rfl).trans hf) j2 j1).tr k
    · have e : mm_cl v (c + 1) s = s := if_neg z
      rw [e]
      exact mm_FF.rf
theorem mm_FF.uN {v : Nat} {s : mm_S} : mm_FF v (mm_uN s) s := by
  unfold mm_uN
  split
  · exact mm_FF.opn.tr mm_FF.wr
  · exact mm_FF.opn
theorem mm_FF.uB {v : Nat} {s : mm_S} : mm_FF v (mm_uB s) s := by
  unfold mm_uB
  split
  · exact mm_FF.opn.tr (mm_FF.cnt.tr mm_FF.wr)
  · exact mm_FF.opn.tr mm_FF.cnt
theorem mm_FF.ul {v : Nat} : ∀ (n : Nat) (s : mm_S), mm_FF v (mm_ul n s) s := by
  intro n
  induction n with
  | zero => intro s; exact mm_FF.rf
  | succ n ih =>
    intro s
    by_cases z : mm_n s 2 = 0
    · by_cases y : mm_isNot s
      · rw [mm_ul_N z y]
        exact (ih _).tr mm_FF.uN
      · by_cases x : mm_n s 6 = 40
        · rw [mm_ul_B z y x]
          exact (ih _).tr mm_FF.uB
        · rw [mm_ul_E y x]
          exact mm_FF.rf
    · rw [mm_ul_f z]
      exact mm_FF.rf
theorem mm_FF.unt {s : mm_S} (h : mm_uI s) : mm_FF (mm_n s 20) (mm_unt s) s := by
  have k := mm_FF.ul (v := mm_n s 20) 8 s
  have e20 := k.1 20 rfl
  unfold mm_unt mm_u2
  split
  · rename_i z
    have hf := (mm_ul_I 8 s h).1.2 z
    obtain ⟨i1, i2, i3, i4, i5, i6, i7, i8, i9⟩ := hf
    split
    · exact mm_FF.wr.tr k
    · unfold mm_psh
      have q := mm_FF.add (s := mm_cnt (mm_ul 8 s)) (x := if mm_akN (mm_ul 8 s) < 6 then 1 else 0) (y := if mm_akN (mm_ul 8 s) < 6 then mm_akN (mm_ul 8 s) else mm_n (mm_ul 8 s) 8) (by show mm_a (mm_ul 8 s) 13 (mm_n (mm_ul 8 s) 20) < 320; omega)
      rw [show mm_n (mm_cnt (mm_ul 8 s)) 20 = mm_n s 20 from e20] at q
      exact mm_FF.tk.tr (q.tr (mm_FF.cnt.tr k))
  · exact k
theorem mm_FF.cb {s : mm_S} (h : mm_fI 0 s) : mm_FF (mm_n s 20) (mm_cb s) s := by
  have q := mm_FF.cl (v := 0) (f := mm_n s 20) (mm_n s 21) s rfl rfl (h.cl (by decide))
  unfold mm_cb
  obtain ⟨r, hr⟩ : ∃ r, r = mm_cl 0 (mm_n s 21) s := ⟨_, rfl⟩
  rw [← hr] at q ⊢
  exact mm_FF.tk.tr ((mm_FF.N (s := mm_setN r 21 (mm_n r 21 - 1)) (k := 25) rfl).tr ((mm_FF.N (s := r) (k := 21) rfl).tr q))
theorem mm_FF.sg {s : mm_S} (h : mm_fI 0 s) : mm_FF (mm_n s 20) (mm_sg s) s := by
  have q := mm_FF.cl (v := sp_tight (mm_sgn s)) (f := mm_n s 20) (mm_n s 21) s rfl rfl (h.cl (by decide))
  unfold mm_sg
  obtain ⟨r, hr⟩ : ∃ r, r = mm_cl (sp_tight (mm_sgn s)) (mm_n s 21) s := ⟨_, rfl⟩
  rw [← hr] at q ⊢
  exact mm_FF.tk.tr ((mm_FF.N (s := mm_setA r 17 (aw_u (mm_a r 17) (mm_n r 21) (mm_sgn s))) (k := 21) rfl).tr (mm_FF.A17.tr q))
theorem mm_oI.next {s : mm_S} (h : mm_oI s) (z : mm_n s 2 = 0) : (mm_isCB s → mm_oI (mm_cb s)) ∧ (mm_isSG s → mm_oI (mm_unt (mm_sg s))) := by
  have hf := h.2 z
  refine ⟨fun y => ?_, fun y => ?_⟩
  · have k := (mm_cb_I hf y.2).1
    exact ⟨k.1, fun _ => k⟩
  · obtain ⟨u1, u2⟩ := mm_unt_I (mm_sg_u hf y.1)
    exact ⟨u1, fun q => (u2 q).1⟩
theorem mm_FF.fl {v : Nat} : ∀ (n : Nat) (s : mm_S), mm_n s 20 = v → mm_oI s → mm_FF v (mm_fl n s) s ∧ mm_oI (mm_fl n s) := by
  intro n
  induction n with
  | zero => intro s _ h; exact ⟨mm_FF.rf, h⟩
  | succ n ih =>
    intro s hv h
    by_cases z : mm_n s 2 = 0
    · have hf := h.2 z
      by_cases y : mm_isCB s
      · rw [mm_fl_C z y]
        have k := mm_FF.cb hf
        rw [hv] at k
        obtain ⟨j1, j2⟩ := ih (mm_cb s) ((k.1 20 rfl).trans hv) ((h.next z).1 y)
        exact ⟨j1.tr k, j2⟩
      · by_cases x : mm_isSG s
        · rw [mm_fl_S z y x]
          have k := mm_FF.sg hf
          have k2 := mm_FF.unt (mm_sg_u hf x.1)
          rw [k.1 20 rfl] at k2
          have k3 := k2.tr k
          rw [hv] at k3
          obtain ⟨j1, j2⟩ := ih (mm_unt (mm_sg s)) ((k3.1 20 rfl).trans hv) ((h.next z).2 x)
          exact ⟨j1.tr k3, j2⟩
        · rw [mm_fl_E y x]
          exact ⟨mm_FF.rf, h⟩
    · rw [mm_fl_f z]
      exact ⟨mm_FF.rf, h⟩
/-- a formula: what it leaves, what it keeps -/
theorem mm_fm_P {s : mm_S} {v : Nat} (hP : mm_okP s) (hv : v < 2) (hn : mm_n s 22 ≤ 60) : mm_FF v (mm_fm s v) (mm_f0 s v) ∧ mm_okP (mm_fm s v) ∧ (mm_n (mm_fm s v) 2 = 0 → mm_n (mm_fm s v) 22 ≤ 60 ∧ mm_a (mm_fm s v) 13 v ≤ 320) := by
  have hu := mm_f0_u hP hv hn
  obtain ⟨u1, u2⟩ := mm_unt_I hu
  have k0 := mm_FF.unt hu
  have e0 : mm_n (mm_f0 s v) 20 = v := rfl
  rw [e0] at k0
  obtain ⟨k1, k2⟩ := mm_FF.fl 256 (mm_unt (mm_f0 s v)) (k0.1 20 rfl) ⟨u1, fun q => (u2 q).1⟩
  unfold mm_fm
  obtain ⟨t, ht⟩ : ∃ t, t = mm_fl 256 (mm_unt (mm_f0 s v)) := ⟨_, rfl⟩
  rw [← ht] at k1 k2 ⊢
  have k3 := k1.tr k0
  unfold mm_fe
  by_cases z : mm_n t 2 = 0
  · rw [if_pos z]
    have hf := k2.2 z
    by_cases y : mm_brk t (mm_n t 21) = true
    · rw [if_pos y]
      exact ⟨mm_FF.wr.tr k3, mm_wr_ok k2.1 (by decide), fun q => absurd q (mm_wr_2 z (by decide))⟩
    · rw [if_neg y]
      have hc := mm_cl_fI (v := 0) hf
      have q := mm_FF.cl (v := 0) (f := v) (mm_n t 21) t (k3.1 20 rfl) rfl (hf.cl (by decide))
      have e20 := (q.1 20 rfl).trans (k3.1 20 rfl)
      rw [e0] at e20
      have h9 := hc.2.2.2.2.2.2.2.2
      have h8 := hc.2.2.2.2.2.1
      have h7 := hc.2.2.2.2.2.2.1
      rw [e20] at h9
      exact ⟨q.tr k3, hc.1, fun _ => ⟨h7, by omega⟩⟩
  · rw [if_neg z]
    exact ⟨k3, k2.1, fun q => absurd q z⟩
