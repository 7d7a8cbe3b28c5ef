set_option maxRecDepth 100000
/-! the model: a formula -/
theorem sp_dp_s {f : Nat → Nat} (n : Nat) : sp_dp f n ≤ sp_dp f (n + 1) := Nat.le_add_right _ _
theorem sp_dp_m {f : Nat → Nat} (n : Nat) : ∀ d, sp_dp f n ≤ sp_dp f (n + d) := by
  intro d
  induction d with
  | zero => exact Nat.le_refl _
  | succ d ih => exact Nat.le_trans ih (sp_dp_s (n + d))
theorem mm_fI.cl {b : Nat} {s : mm_S} (h : mm_fI b s) (hb : b ≤ 10) : mm_clI s := by
  have ho := h.opens
  obtain ⟨i1, i2, i3, i4, i5, i6, i7, i8, i9⟩ := h
  exact ⟨i2, by omega, i3, i4, by omega⟩
theorem mm_cl_fI {v : Nat} {s : mm_S} (h : mm_fI 0 s) : mm_fI 0 (mm_cl v (mm_n s 21) s) := by
  obtain ⟨k1, k2, k3, k4, k5⟩ := mm_cl_P (v := v) _ s rfl (h.cl (by decide))
  obtain ⟨i1, i2, i3, i4, i5, i6, i7, i8, i9⟩ := h
  obtain ⟨c1, c2, c3, c4, c5⟩ := k1
  have e17 : mm_a (mm_cl v (mm_n s 21) s) 17 = mm_a s 17 := k4.2.1 17 (by decide) (by decide) (by decide)
  have e0 : mm_a (mm_cl v (mm_n s 21) s) 0 = mm_a s 0 := k4.2.1 0 (by decide) (by decide) (by decide)
  have e := k4.1
  obtain ⟨d, hd⟩ : ∃ d, mm_n s 21 = mm_n (mm_cl v (mm_n s 21) s) 21 + d := ⟨_, (Nat.add_sub_cancel' k2).symm⟩
  have dm := sp_dp_m (f := mm_a s 17) (mm_n (mm_cl v (mm_n s 21) s) 21) d
  rw [← hd] at dm
  refine ⟨?_, c1, c3, c4, ?_, ?_, ?_, ?_, ?_⟩
  · obtain ⟨p1, p2, p3, p4, p5, p6, p7⟩ := i1
    refine ⟨?_, ?_, ?_, ?_, ?_, ?_, ?_⟩
    · rw [e 5 (by decide) (by decide)]; exact p1
    · rw [e 5 (by decide) (by decide), e 4 (by decide) (by decide)]; exact p2
    · rw [e0]; exact p3
    · rw [e 6 (by decide) (by decide)]; exact p4
    · rw [e 8 (by decide) (by decide)]; exact p5
    · rw [e 2 (by decide) (by decide)]; exact p6
    · rw [e 7 (by decide) (by decide)]; exact p7
  · rw [c4, e17]; omega
  · rw [e 24 (by decide) (by decide)]; exact i6
  · rw [e 22 (by decide) (by decide)]; exact i7
  · intro j hj
    rw [e17]
    exact i8 j (by omega)
  · rw [e 20 (by decide) (by decide), e 24 (by decide) (by decide), k3]
    exact i9
/-- a bracket isn't passed -/
theorem mm_cl_br {v j : Nat} : ∀ (c : Nat) (s : mm_S), mm_n s 21 = c → mm_clI s → j < c → mm_a s 17 j = 20 → j < mm_n (mm_cl v c s) 21 := by
  intro c
  induction c with
  | zero => intro s _ _ h _; omega
  | succ c ih =>
    intro s hc hI hj h20
    by_cases z : mm_a s 17 c ≠ 20 ∧ v ≤ sp_tight (mm_a s 17 c)
    · have e : mm_cl v (c + 1) s = mm_cl v c (mm_cl1 s c) := if_pos z
      obtain ⟨j1, j2, j3⟩ := mm_cl1_I hI hc z.1
      have e17 : mm_a (mm_cl1 s c) 17 = mm_a s 17 := mm_cl1_fr.2.1 17 (by decide) (by decide) (by decide)
      rw [e]
      have hjc : j ≠ c := fun q => z.1 (q ▸ h20)
      exact ih (mm_cl1 s c) j2 j1 (by omega) (by rw [e17]; exact h20)
    · have e : mm_cl v (c + 1) s = s := if_neg z
      rw [e]
      omega
theorem mm_brk_ex {s : mm_S} : ∀ n, mm_brk s n = true → ∃ j, j < n ∧ mm_a s 17 j = 20 := by
  intro n
  induction n with
  | zero => intro h; cases h
  | succ n ih =>
    intro h
    have h' : (mm_brk s n || decide (mm_a s 17 n = 20)) = true := h
    rw [Bool.or_eq_true] at h'
    rcases h' with h' | h'
    · obtain ⟨j, h1, h2⟩ := ih h'
      exact ⟨j, by omega, h2⟩
    · exact ⟨n, by omega, of_decide_eq_true h'⟩
abbrev mm_isCB (s : mm_S) : Prop := mm_n s 6 = 41 ∧ mm_brk s (mm_n s 21) = true
abbrev mm_isSG (s : mm_S) : Prop := mm_sgn s ≠ 0 ∧ ¬ (sp_tight (mm_sgn s) = 4 ∧ sp_hr (mm_a s 17) (mm_n s 21) = true)
def mm_cbS (r : mm_S) : mm_S := mm_setN (mm_setN r 21 (mm_n r 21 - 1)) 25 (mm_n r 25 - 1)
def mm_cb (s : mm_S) : mm_S := mm_tk (mm_cbS (mm_cl 0 (mm_n s 21) s))
def mm_sgS (r : mm_S) (g : Nat) : mm_S := mm_setN (mm_setA r 17 (aw_u (mm_a r 17) (mm_n r 21) g)) 21 (mm_n r 21 + 1)
def mm_sg (s : mm_S) : mm_S := mm_tk (mm_sgS (mm_cl (sp_tight (mm_sgn s)) (mm_n s 21) s) (mm_sgn s))
theorem mm_cb_I {s : mm_S} (h : mm_fI 0 s) (hb : mm_brk s (mm_n s 21) = true) : mm_fI 0 (mm_cb s) ∧ mm_n (mm_cb s) 25 + 1 = mm_n (mm_cl 0 (mm_n s 21) s) 25 ∧ 0 < mm_n (mm_cl 0 (mm_n s 21) s) 21 ∧ mm_n (mm_cl 0 (mm_n s 21) s) 25 ≤ mm_n s 25 ∧ mm_n (mm_cb s) 24 = mm_n s 24 := by
  have hc := h.cl (by decide)
  have hf := mm_cl_fI (v := 0) h
  obtain ⟨j, hj, h20⟩ := mm_brk_ex _ hb
  have pos := mm_cl_br (v := 0) _ s rfl hc hj h20
  obtain ⟨k1, k2, k3, k4, k5⟩ := mm_cl_P (v := 0) _ s rfl hc
  have e24 := k4.1 24 (by decide) (by decide)
  have e17 : mm_a (mm_cl 0 (mm_n s 21) s) 17 = mm_a s 17 := k4.2.1 17 (by decide) (by decide) (by decide)
  obtain ⟨r, hr⟩ : ∃ r, r = mm_cl 0 (mm_n s 21) s := ⟨_, rfl⟩
  unfold mm_cb
  rw [← hr] at hf pos k2 k5 e24 e17 ⊢
  obtain ⟨i1, i2, i3, i4, i5, i6, i7, i8, i9⟩ := hf
  obtain ⟨c, hc9⟩ : ∃ c, mm_n r 21 = c + 1 := ⟨mm_n r 21 - 1, by omega⟩
  rw [hc9] at k5
  rw [Nat.add_sub_cancel] at k5
  have t20 : mm_a r 17 c = 20 := by rw [e17]; omega
  have d1 : sp_dp (mm_a r 17) (c + 1) = sp_dp (mm_a r 17) c + (if mm_a r 17 c = 20 ∨ mm_a r 17 c = 21 then 1 else 0) := rfl
  rw [if_pos (Or.inl t20)] at d1
  have i4' := i4
  rw [hc9, d1] at i4'
  have g25 : mm_n r 25 ≤ mm_n s 25 := by
    have q := h.2.2.2.1
    obtain ⟨d, hd⟩ : ∃ d, mm_n s 21 = mm_n r 21 + d := ⟨_, (Nat.add_sub_cancel' k2).symm⟩
    have dm := sp_dp_m (f := mm_a s 17) (mm_n r 21) d
    rw [← hd, ← q, ← e17, ← i4] at dm
    exact dm
  refine ⟨⟨mm_tk_ok (s := mm_cbS r) i1, i2, ?_, ?_, ?_, i6, i7, ?_, ?_⟩, ?_, Nat.lt_of_le_of_lt (Nat.zero_le _) pos, g25, e24⟩
  · intro j hj
    exact i3 j (Nat.lt_of_lt_of_le (show j < mm_n r 21 - 1 from hj) (Nat.sub_le _ _))
  · show mm_n r 25 - 1 = sp_dp (mm_a r 17) (mm_n r 21 - 1)
    rw [hc9, Nat.add_sub_cancel]
    omega
  · show mm_n r 25 - 1 ≤ 7
    omega
  · intro j hj
    exact i8 j (Nat.le_trans (show j ≤ mm_n r 21 - 1 from hj) (Nat.sub_le _ _))
  · show mm_a r 13 (mm_n r 20) + (mm_n r 21 - 1) ≤ 9 * mm_n r 24 + 0
    omega
  · show mm_n r 25 - 1 + 1 = mm_n r 25
    omega
theorem mm_sgn_o {s : mm_S} (h : mm_sgn s ≠ 0) : sp_osg (mm_sgn s) ∧ mm_sgn s ≠ 20 ∧ mm_sgn s ≠ 21 := by
  unfold mm_sgn at *
  unfold sp_osg
  by_cases a : mm_n s 6 = 1 ∧ mm_w s = 6385252
  · rw [if_pos a] at *; omega
  · rw [if_neg a] at *
    by_cases b : mm_n s 6 = 1 ∧ mm_w s = 28530
    · rw [if_pos b] at *; omega
    · rw [if_neg b] at *
      by_cases c : mm_n s 6 = 60 ∨ mm_n s 6 = 62 ∨ mm_n s 6 = 61 ∨ mm_n s 6 = 43 ∨ mm_n s 6 = 45 ∨ mm_n s 6 = 42 ∨ mm_n s 6 = 47 ∨ mm_n s 6 = 37
      · rw [if_pos c] at *; omega
      · rw [if_neg c] at h
        exact absurd rfl h
theorem sp_tight_1 (k : Nat) : 1 ≤ sp_tight k := by
  unfold sp_tight
  repeat' split
  all_goals decide
theorem mm_sg_I {s : mm_S} (h : mm_fI 0 s) (hg : mm_sgn s ≠ 0) : mm_fI 1 (mm_sg s) ∧ mm_n (mm_sg s) 24 = mm_n s 24 ∧ mm_n (mm_sg s) 2 = mm_n s 2 := by
  have hc := h.cl (by decide)
  have hf := mm_cl_fI (v := sp_tight (mm_sgn s)) h
  obtain ⟨k1, k2, k3, k4, k5⟩ := mm_cl_P (v := sp_tight (mm_sgn s)) _ s rfl hc
  have e24 := k4.1 24 (by decide) (by decide)
  have e2 := k4.1 2 (by decide) (by decide)
  have e17 : mm_a (mm_cl (sp_tight (mm_sgn s)) (mm_n s 21) s) 17 = mm_a s 17 := k4.2.1 17 (by decide) (by decide) (by decide)
  obtain ⟨o1, o2, o3⟩ := mm_sgn_o hg
  have t1 := sp_tight_1 (mm_sgn s)
  obtain ⟨g, eg⟩ : ∃ g, g = mm_sgn s := ⟨_, rfl⟩
  unfold mm_sg
  rw [← eg] at hf k2 k5 e24 e2 e17 o1 o2 o3 t1 ⊢
  obtain ⟨r, hr⟩ : ∃ r, r = mm_cl (sp_tight g) (mm_n s 21) s := ⟨_, rfl⟩
  rw [← hr] at hf k2 k5 e24 e2 e17 ⊢
  obtain ⟨i1, i2, i3, i4, i5, i6, i7, i8, i9⟩ := hf
  have pre : ∀ n, n ≤ mm_n r 21 → ∀ j, j < n → aw_u (mm_a r 17) (mm_n r 21) g j = mm_a r 17 j := fun n hn j hj => aw_u_n (by omega)
  have dn : sp_dp (aw_u (mm_a r 17) (mm_n r 21) g) (mm_n r 21 + 1) = sp_dp (mm_a r 17) (mm_n r 21) := by
    show sp_dp _ (mm_n r 21) + (if aw_u (mm_a r 17) (mm_n r 21) g (mm_n r 21) = 20 ∨ aw_u (mm_a r 17) (mm_n r 21) g (mm_n r 21) = 21 then 1 else 0) = _
    rw [aw_u_s, if_neg (by omega), sp_dp_c _ (pre _ (Nat.le_refl _))]
    rfl
  have tn : sp_tt (aw_u (mm_a r 17) (mm_n r 21) g) (mm_n r 21 + 1) = sp_tight g := by
    show (if aw_u (mm_a r 17) (mm_n r 21) g (mm_n r 21) = 20 ∨ aw_u (mm_a r 17) (mm_n r 21) g (mm_n r 21) = 21 then 0 else sp_tight (aw_u (mm_a r 17) (mm_n r 21) g (mm_n r 21))) = _
    rw [aw_u_s, if_neg (by omega)]
  have tl : sp_tt (mm_a r 17) (mm_n r 21) < sp_tight g := by
    cases hn : mm_n r 21 with
    | zero => show 0 < _; omega
    | succ n =>
      rw [hn, Nat.add_sub_cancel, ← e17] at k5
      show (if mm_a r 17 n = 20 ∨ mm_a r 17 n = 21 then 0 else sp_tight (mm_a r 17 n)) < _
      split
      · omega
      · omega
  refine ⟨⟨mm_tk_ok (s := mm_sgS r g) (mm_ok_A (s := r) (k := 17) (by decide) i1), i2, ?_, ?_, i5, i6, i7, ?_, ?_⟩, e24, e2⟩
  · intro j hj
    have hj : j < mm_n r 21 + 1 := hj
    show sp_osg (aw_u (mm_a r 17) (mm_n r 21) g j)
    by_cases z : j = mm_n r 21
    · rw [z, aw_u_s]; exact o1
    · rw [aw_u_n z]
      exact i3 j (by omega)
  · show mm_n r 25 = sp_dp (aw_u (mm_a r 17) (mm_n r 21) g) (mm_n r 21 + 1)
    rw [dn]; exact i4
  · intro j hj
    have hj : j ≤ mm_n r 21 + 1 := hj
    show j ≤ 7 * sp_dp (aw_u (mm_a r 17) (mm_n r 21) g) j + sp_tt (aw_u (mm_a r 17) (mm_n r 21) g) j
    by_cases z : j = mm_n r 21 + 1
    · rw [z, dn, tn]
      have q := i8 _ (Nat.le_refl _)
      omega
    · rw [sp_dp_c j (pre j (by omega)), sp_tt_c (pre j (by omega))]
      exact i8 j (by omega)
  · show mm_a r 13 (mm_n r 20) + (mm_n r 21 + 1) ≤ 9 * mm_n r 24 + 1
    omega
theorem mm_fI.le {a b : Nat} {s : mm_S} (h : mm_fI a s) (hb : a ≤ b) : mm_fI b s := by
  obtain ⟨i1, i2, i3, i4, i5, i6, i7, i8, i9⟩ := h
  exact ⟨i1, i2, i3, i4, i5, i6, i7, i8, by omega⟩
theorem mm_sg_u {s : mm_S} (h : mm_fI 0 s) (hg : mm_sgn s ≠ 0) : mm_uI (mm_sg s) := ⟨(mm_sg_I h hg).1.1, fun _ => (mm_sg_I h hg).1.le (by omega)⟩
def mm_fl : Nat → mm_S → mm_S
  | 0, s => s
  | n + 1, s => if mm_n s 2 = 0 then (if mm_isCB s then mm_fl n (mm_cb s) else if mm_isSG s then mm_fl n (mm_unt (mm_sg s)) else s) else s
theorem mm_fl_C {s : mm_S} {n : Nat} (h : mm_n s 2 = 0) (y : mm_isCB s) : mm_fl (n + 1) s = mm_fl n (mm_cb s) := (if_pos h).trans (if_pos y)
theorem mm_fl_S {s : mm_S} {n : Nat} (h : mm_n s 2 = 0) (y : ¬ mm_isCB s) (x : mm_isSG s) : mm_fl (n + 1) s = mm_fl n (mm_unt (mm_sg s)) := (if_pos h).trans ((if_neg y).trans (if_pos x))
theorem mm_fl_f {s : mm_S} (h : mm_n s 2 ≠ 0) (n : Nat) : mm_fl n s = s := by
  cases n with
  | zero => rfl
  | succ n => exact if_neg h
theorem mm_fl_E {s : mm_S} {n : Nat} (y : ¬ mm_isCB s) (x : ¬ mm_isSG s) : mm_fl n s = s := by
  cases n with
  | zero => rfl
  | succ n =>
    by_cases h : mm_n s 2 = 0
    · exact (if_pos h).trans ((if_neg y).trans (if_neg x))
    · exact if_neg h
/-- behind an operand -/
def mm_oI (s : mm_S) : Prop := mm_okP s ∧ (mm_n s 2 = 0 → mm_fI 0 s)
def mm_f0 (s : mm_S) (v : Nat) : mm_S := mm_setN (mm_setN (mm_setN (mm_setA (mm_setA (mm_setN (mm_tk s) 20 v) 19 (aw_u (mm_a s 19) v 1)) 13 (aw_u (mm_a s 13) v 0)) 21 0) 25 0) 24 0
def mm_fe (t : mm_S) : mm_S := if mm_n t 2 = 0 then (if mm_brk t (mm_n t 21) = true then mm_wr t 2 else mm_cl 0 (mm_n t 21) t) else t
def mm_fm (s : mm_S) (v : Nat) : mm_S := mm_fe (mm_fl 256 (mm_unt (mm_f0 s v)))
theorem mm_f0_u {s : mm_S} {v : Nat} (hP : mm_okP s) (hv : v < 2) (hn : mm_n s 22 ≤ 60) : mm_uI (mm_f0 s v) := by
  have q0 : mm_okP (mm_setN (mm_tk s) 20 v) := by
    obtain ⟨p1, p2, p3, p4, p5, p6, p7⟩ := mm_tk_ok hP
    exact ⟨p1, p2, p3, p4, p5, p6, p7⟩
  have q : mm_okP (mm_f0 s v) := mm_ok_A (s := mm_setA (mm_setN (mm_tk s) 20 v) 19 (aw_u (mm_a s 19) v 1)) (k := 13) (by decide) (mm_ok_A (s := mm_setN (mm_tk s) 20 v) (k := 19) (by decide) q0)
  refine ⟨q, fun _ => ⟨q, hv, fun j hj => absurd hj (Nat.not_lt_zero _), rfl, Nat.zero_le _, Nat.zero_le _, hn, fun j hj => ?_, ?_⟩⟩
  · have hj : j ≤ 0 := hj
    obtain rfl : j = 0 := by omega
    exact Nat.zero_le _
  · show aw_u (mm_a s 13) v 0 v + 0 ≤ _
    rw [aw_u_s]
    exact Nat.zero_le _
set_option maxHeartbeats 4000000 in
theorem mm_formula {s : mm_S} {v : Nat} (hP : mm_okP s) (hv : v < 2) (hn : mm_n s 22 ≤ 60) : mm_Met yX5_formula cX5_formula 4 none 4 [.int (nI (v))] s none (mm_fm s v) := by
  refine mm_Met.of (by decide +kernel) (fun _ => Nat.le_of_ble_eq_true rfl) (fun G w h0 hW hR => ?_)
  have hs : mm_same w h0 h0 := mm_same.rf
  show AW G (aw_rm 4 0 0) yX5_formula cX5_formula 4 none (aw_N G (mm_Po G w h0 none (mm_fm s v)) 0 0) 0 0 h0 0 [(0, .ref w.1), (1, .int (nI (v)))] []
  have fin : ∀ (t : mm_S) (b : Nat) (h : aw_H), mm_oI t → mm_fe t = mm_fm s v → mm_R G w h t → mm_same w h0 h → AW G (aw_rm 4 0 0) yX5_formula cX5_formula 4 none (aw_N G (mm_Po G w h0 none (mm_fm s v)) 0 0) 0 0 h 177 [(0, .ref w.1), (1, .int (nI v)), (2, .int (nI b))] [] := by
    intro t b h hJ eq hR hs
    have p6 : mm_n t 2 ≤ 4 := hJ.1.2.2.2.2.2.1
    by_cases z : mm_n t 2 = 0
    · have hf := hJ.2 z
      have ho := hf.opens
      have cw : mm_Met _ _ _ _ _ _ t none (mm_wr t 2) := mm_wrong (s := t) (v := 2) (by omega) (by have := hf.1.2.2.2.1; omega)
      have e9 : mm_n (mm_wr t 2) 2 = if mm_n t 6 = 3 then 1 else 2 := mm_wr_n z
      have e2 : 0 < mm_n (mm_wr t 2) 2 ∧ mm_n (mm_wr t 2) 2 ≤ 2 := by rw [e9]; split <;> omega
      have w196 : ∀ h, mm_brk t (mm_n t 21) = true → mm_R G w h (mm_wr t 2) → mm_same w h0 h → AW G (aw_rm 4 0 0) yX5_formula cX5_formula 4 none (aw_N G (mm_Po G w h0 none (mm_fm s v)) 0 0) 0 0 h 196 [(0, .ref w.1), (1, .int (nI v)), (2, .int (nI b))] [] := by
        intro h y hR hs
        refine aw_aload_n dX5_formula_196 rfl ?_
        refine aw_get dX5_formula_197 fX5_182 rfl hR.1 (by rfl) ?_
        refine aw_if_neN (tgt := 208) dX5_formula_200 (by decide) (by omega) (fun c_200 => ?_) (fun c_200 => by exfalso; omega)
        refine aw_vreturn dX5_formula_208 rfl ?_
        exact ⟨rfl, mm_eq hR (by rw [← eq]; unfold mm_fe; rw [if_pos z, if_pos y]), hs⟩
      have g196 : ∀ h, ¬ mm_brk t (mm_n t 21) = true → mm_R G w h t → mm_same w h0 h → AW G (aw_rm 4 0 0) yX5_formula cX5_formula 4 none (aw_N G (mm_Po G w h0 none (mm_fm s v)) 0 0) 0 0 h 196 [(0, .ref w.1), (1, .int (nI v)), (2, .int (nI b))] [] := by
        intro h y hR hs
        refine aw_aload_n dX5_formula_196 rfl ?_
        refine aw_get dX5_formula_197 fX5_182 rfl hR.1 (by rfl) ?_
        refine aw_if_neN (tgt := 208) dX5_formula_200 (by decide) (by omega) (fun c_200 => by exfalso; omega) (fun c_200 => ?_)
        refine aw_aload_n dX5_formula_203 rfl ?_
        refine aw_iconst (v := nI 0) dX5_formula_204 rfl ?_
        refine mm_call dX5_formula_205 sX5_298 rfl hW hR hs (mm_close (s := t) (v := 0) (hf.cl (by decide)) (by decide)) rfl rfl ⟨Nat.le_of_ble_eq_true rfl, Nat.le_of_ble_eq_true rfl⟩ (Nat.le_of_ble_eq_true rfl) (fun h hR hs => ?_)
        refine aw_vreturn dX5_formula_208 rfl ?_
        exact ⟨rfl, mm_eq hR (by rw [← eq]; unfold mm_fe; rw [if_pos z, if_neg y]), hs⟩
      refine aw_aload_n dX5_formula_177 rfl ?_
      refine aw_get dX5_formula_178 fX5_182 rfl hR.1 (by rfl) ?_
      refine aw_if_neN (tgt := 196) dX5_formula_181 (by decide) (by omega) (fun c_181 => by exfalso; omega) (fun c_181 => ?_)
      refine aw_aload_n dX5_formula_184 rfl ?_
      refine mm_call dX5_formula_185 sX5_295 rfl hW hR hs (mm_hasBracket (s := t) (by omega) hf.2.2.1) rfl rfl ⟨Nat.le_of_ble_eq_true rfl, Nat.le_of_ble_eq_true rfl⟩ (Nat.le_of_ble_eq_true rfl) (fun h hR hs => ?_)
      refine aw_if_eqB (tgt := 196) dX5_formula_188 (by decide) (fun c_188 => ?_) (fun c_188 => ?_)
      · first
        | exact w196 h c_188 hR hs
        | exact g196 h c_188 hR hs
      · refine aw_aload_n dX5_formula_191 rfl ?_
        refine aw_iconst (v := nI 2) dX5_formula_192 rfl ?_
        refine mm_call dX5_formula_193 sX5_227 rfl hW hR hs cw rfl rfl ⟨Nat.le_of_ble_eq_true rfl, Nat.le_of_ble_eq_true rfl⟩ (Nat.le_of_ble_eq_true rfl) (fun h hR hs => ?_)
        first
        | exact w196 h c_188 hR hs
        | exact g196 h c_188 hR hs
    ·
      refine aw_aload_n dX5_formula_177 rfl ?_
      refine aw_get dX5_formula_178 fX5_182 rfl hR.1 (by rfl) ?_
      refine aw_if_neN (tgt := 196) dX5_formula_181 (by decide) (by omega) (fun c_181 => ?_) (fun c_181 => by exfalso; omega)
      refine aw_aload_n dX5_formula_196 rfl ?_
      refine aw_get dX5_formula_197 fX5_182 rfl hR.1 (by rfl) ?_
      refine aw_if_neN (tgt := 208) dX5_formula_200 (by decide) (by omega) (fun c_200 => ?_) (fun c_200 => by exfalso; omega)
      refine aw_vreturn dX5_formula_208 rfl ?_
      exact ⟨rfl, mm_eq hR (by rw [← eq]; unfold mm_fe; rw [if_neg z]), hs⟩
  have out : ∀ (t : mm_S) (h : aw_H), mm_oI t → mm_fe t = mm_fm s v → mm_R G w h t → mm_same w h0 h → AW G (aw_rm 4 0 0) yX5_formula cX5_formula 4 none (aw_N G (mm_Po G w h0 none (mm_fm s v)) 0 0) 0 0 h 50 [(0, .ref w.1), (1, .int (nI v)), (2, .int (nI 0))] [] := by
    intro t h hJ eq hR hs
    refine aw_iload_n dX5_formula_50 rfl ?_
    refine aw_if_eqN (tgt := 177) dX5_formula_51 (by decide) (by omega) (fun c_51 => ?_) (fun c_51 => by exfalso; omega)
    exact fin t 0 h hJ eq hR hs
  have loop : ∀ (n : Nat) (t : mm_S) (h : aw_H), mm_oI t → (mm_n t 2 = 0 → 8 * (30 - mm_n t 24) + mm_n t 25 + 1 ≤ n) → mm_fe (mm_fl n t) = mm_fm s v → mm_R G w h t → mm_same w h0 h → AW G (aw_rm 4 0 0) yX5_formula cX5_formula 4 none (aw_N G (mm_Po G w h0 none (mm_fm s v)) 0 0) 0 0 h 50 [(0, .ref w.1), (1, .int (nI v)), (2, .int (nI 1))] [] := by
    intro n
    induction n with
    | zero =>
      intro t h hJ hn eq hR hs
      have z : mm_n t 2 ≠ 0 := fun z => by
        have q1 := hn z
        omega
      have e2 : mm_n t 2 ≤ 4 := hJ.1.2.2.2.2.2.1
      refine aw_iload_n dX5_formula_50 rfl ?_
      refine aw_if_eqN (tgt := 177) dX5_formula_51 (by decide) (by omega) (fun c_51 => by exfalso; omega) (fun c_51 => ?_)
      refine aw_aload_n dX5_formula_54 rfl ?_
      refine aw_get dX5_formula_55 fX5_182 rfl hR.1 (by rfl) ?_
      refine aw_if_neN (tgt := 177) dX5_formula_58 (by decide) (by omega) (fun c_58 => ?_) (fun c_58 => by exfalso; omega)
      exact fin t 1 h hJ eq hR hs
    | succ n ih =>
      intro t h hJ hn eq hR hs
      have p6 : mm_n t 2 ≤ 4 := hJ.1.2.2.2.2.2.1
      by_cases z : mm_n t 2 = 0
      · have hf := hJ.2 z
        have ho := hf.opens
        have hn9 := hn z
        have i3 := hf.2.2.1
        have i5 := hf.2.2.2.2.1
        have p4 := hf.1.2.2.2.1
        have cbr : ∀ h, mm_isCB t → mm_R G w h t → mm_same w h0 h → AW G (aw_rm 4 0 0) yX5_formula cX5_formula 4 none (aw_N G (mm_Po G w h0 none (mm_fm s v)) 0 0) 0 0 h 82 [(0, .ref w.1), (1, .int (nI v)), (2, .int (nI 1)), (3, .int (nI (mm_sgn t)))] [] := by
          intro h y hR hs
          obtain ⟨k1, k2, k3, k4, k5⟩ := mm_cb_I hf y.2
          have hclf := mm_cl_fI (v := 0) hf
          have e2 : mm_n (mm_cb t) 2 = mm_n (mm_cl 0 (mm_n t 21) t) 2 := rfl
          have f4 := (mm_cl_P (v := 0) _ t rfl (hf.cl (by decide))).2.2.2.1.1 2 (by decide) (by decide)
          have ccl : mm_Met _ _ _ _ _ _ t none (mm_cl 0 (mm_n t 21) t) := mm_close (s := t) (v := 0) (hf.cl (by decide)) (by decide)
          have e9 : mm_cb t = mm_tk (mm_cbS (mm_cl 0 (mm_n t 21) t)) := rfl
          obtain ⟨r, hr⟩ : ∃ r, r = mm_cl 0 (mm_n t 21) t := ⟨_, rfl⟩
          rw [← hr] at ccl e9 hclf k2 k3 k4
          obtain ⟨p1, p2, p3, -⟩ := hclf.1
          have o5 := hclf.opens
          have ctk : mm_Met _ _ _ _ _ _ (mm_cbS r) none (mm_tk (mm_cbS r)) := mm_token (s := mm_cbS r) p1 p2 p3
          refine aw_aload_n dX5_formula_82 rfl ?_
          refine aw_iconst (v := nI 0) dX5_formula_83 rfl ?_
          refine mm_call dX5_formula_84 sX5_298 rfl hW hR hs ccl rfl rfl ⟨Nat.le_of_ble_eq_true rfl, Nat.le_of_ble_eq_true rfl⟩ (Nat.le_of_ble_eq_true rfl) (fun h hR hs => ?_)
          refine aw_aload_n dX5_formula_87 rfl ?_
          refine aw_dup dX5_formula_88 rfl ?_
          refine aw_get dX5_formula_89 fX5_254 rfl hR.1 (by rfl) ?_
          try simp only [mm_n_N, mm_n_A, mm_n_V, mm_n_Fp, mm_n_W, mm_n_Nm, mm_a_N, mm_a_A, mm_a_V, mm_a_Fp, mm_a_W, mm_a_Nm, mm_v_N, mm_v_A, mm_v_V, mm_fp_N, mm_fp_A, mm_fp_Fp, mm_w_N, mm_w_W, Nat.reduceEqDiff, reduceIte, if_true, if_false, mm_H_45, mm_H_46, mm_H_47, mm_H_50, mm_H_53, mm_H_54, mm_H_55, mm_H_56, mm_H_57, mm_H_58, mm_H_66, mm_H_67, mm_H_68]
          refine aw_iconst (v := nI 1) dX5_formula_92 rfl ?_
          refine aw_isubN dX5_formula_93 (by omega) ?_
          refine mm_putN (k := 21) hW hR hs dX5_formula_94 (pX5_254 _) rfl rfl (mm_F_set21 _ _ _) (by decide) (fun h hR hs => ?_)
          refine aw_aload_n dX5_formula_97 rfl ?_
          refine aw_dup dX5_formula_98 rfl ?_
          refine aw_get dX5_formula_99 fX5_264 rfl hR.1 (by rfl) ?_
          try simp only [mm_n_N, mm_n_A, mm_n_V, mm_n_Fp, mm_n_W, mm_n_Nm, mm_a_N, mm_a_A, mm_a_V, mm_a_Fp, mm_a_W, mm_a_Nm, mm_v_N, mm_v_A, mm_v_V, mm_fp_N, mm_fp_A, mm_fp_Fp, mm_w_N, mm_w_W, Nat.reduceEqDiff, reduceIte, if_true, if_false, mm_H_45, mm_H_46, mm_H_47, mm_H_50, mm_H_53, mm_H_54, mm_H_55, mm_H_56, mm_H_57, mm_H_58, mm_H_66, mm_H_67, mm_H_68]
          refine aw_iconst (v := nI 1) dX5_formula_102 rfl ?_
          refine aw_isubN dX5_formula_103 (by omega) ?_
          refine mm_putN (k := 25) hW hR hs dX5_formula_104 (pX5_264 _) rfl rfl (mm_F_set25 _ _ _) (by decide) (fun h hR hs => ?_)
          refine aw_aload_n dX5_formula_107 rfl ?_
          refine mm_call dX5_formula_108 sX5_230 rfl hW hR hs ctk rfl rfl ⟨Nat.le_of_ble_eq_true rfl, Nat.le_of_ble_eq_true rfl⟩ (Nat.le_of_ble_eq_true rfl) (fun h hR hs => ?_)
          refine aw_goto (tgt := 174) dX5_formula_111 (by decide) ?_
          refine aw_goto (tgt := 50) dX5_formula_174 (by decide) ?_
          refine AW_dr (ih (mm_cb t) h ⟨k1.1, fun _ => k1⟩ (fun _ => by omega) (by rw [← eq, mm_fl_C z y]) (mm_eq hR e9.symm) hs)
        have sgn : ∀ h, ¬ mm_isCB t → mm_isSG t → mm_R G w h t → mm_same w h0 h → AW G (aw_rm 4 0 0) yX5_formula cX5_formula 4 none (aw_N G (mm_Po G w h0 none (mm_fm s v)) 0 0) 0 0 h 133 [(0, .ref w.1), (1, .int (nI v)), (2, .int (nI 1)), (3, .int (nI (mm_sgn t)))] [] := by
          intro h y x hR hs
          have o1 := (mm_sgn_o x.1).1
          have tl := sp_tight_le (mm_sgn t)
          have su := mm_sg_u hf x.1
          obtain ⟨j1, j2, j3⟩ := mm_sg_I hf x.1
          obtain ⟨u1, u2⟩ := mm_unt_I su
          have hclf := mm_cl_fI (v := sp_tight (mm_sgn t)) hf
          have ccl : mm_Met _ _ _ _ _ _ t none (mm_cl (sp_tight (mm_sgn t)) (mm_n t 21) t) := mm_close (s := t) (v := sp_tight (mm_sgn t)) (hf.cl (by decide)) tl
          have cun : mm_Met _ _ _ _ _ _ (mm_sg t) none (mm_unt (mm_sg t)) := mm_unit su
          have e9 : mm_sg t = mm_tk (mm_sgS (mm_cl (sp_tight (mm_sgn t)) (mm_n t 21) t) (mm_sgn t)) := rfl
          obtain ⟨r, hr⟩ : ∃ r, r = mm_cl (sp_tight (mm_sgn t)) (mm_n t 21) t := ⟨_, rfl⟩
          rw [← hr] at ccl e9 hclf
          obtain ⟨p1, p2, p3, p4, p5, p6, p7⟩ := mm_ok_A (s := r) (k := 17) (f := aw_u (mm_a r 17) (mm_n r 21) (mm_sgn t)) (by decide) hclf.1
          have o5 := hclf.opens
          have ctk : mm_Met _ _ _ _ _ _ (mm_sgS r (mm_sgn t)) none (mm_tk (mm_sgS r (mm_sgn t))) := mm_token (s := mm_sgS r (mm_sgn t)) p1 p2 p3
          rw [← e9] at ctk
          refine aw_aload_n dX5_formula_133 rfl ?_
          refine aw_iload_n dX5_formula_134 rfl ?_
          refine aw_callP (r := _) dX5_formula_135 sX5_257 rfl (mp_tight o1) rfl rfl ⟨Nat.le_of_ble_eq_true rfl, Nat.le_of_ble_eq_true rfl⟩ (Nat.le_of_ble_eq_true rfl) ?_
          refine mm_call dX5_formula_138 sX5_298 rfl hW hR hs ccl rfl rfl ⟨Nat.le_of_ble_eq_true rfl, Nat.le_of_ble_eq_true rfl⟩ (Nat.le_of_ble_eq_true rfl) (fun h hR hs => ?_)
          refine aw_aload_n dX5_formula_141 rfl ?_
          refine aw_get dX5_formula_142 fX5_39 rfl hR.1 (by rfl) ?_
          refine aw_aload_n dX5_formula_145 rfl ?_
          refine aw_get dX5_formula_146 fX5_254 rfl hR.1 (by rfl) ?_
          try simp only [mm_n_N, mm_n_A, mm_n_V, mm_n_Fp, mm_n_W, mm_n_Nm, mm_a_N, mm_a_A, mm_a_V, mm_a_Fp, mm_a_W, mm_a_Nm, mm_v_N, mm_v_A, mm_v_V, mm_fp_N, mm_fp_A, mm_fp_Fp, mm_w_N, mm_w_W, Nat.reduceEqDiff, reduceIte, if_true, if_false, mm_H_45, mm_H_46, mm_H_47, mm_H_50, mm_H_53, mm_H_54, mm_H_55, mm_H_56, mm_H_57, mm_H_58, mm_H_66, mm_H_67, mm_H_68]
          refine aw_iload_n dX5_formula_149 rfl ?_
          refine mm_iast (k := 17) rfl hW hR hs dX5_formula_150 (by omega) (by decide) (fun h hR hs => ?_)
          refine aw_aload_n dX5_formula_151 rfl ?_
          refine aw_dup dX5_formula_152 rfl ?_
          refine aw_get dX5_formula_153 fX5_254 rfl hR.1 (by rfl) ?_
          try simp only [mm_n_N, mm_n_A, mm_n_V, mm_n_Fp, mm_n_W, mm_n_Nm, mm_a_N, mm_a_A, mm_a_V, mm_a_Fp, mm_a_W, mm_a_Nm, mm_v_N, mm_v_A, mm_v_V, mm_fp_N, mm_fp_A, mm_fp_Fp, mm_w_N, mm_w_W, Nat.reduceEqDiff, reduceIte, if_true, if_false, mm_H_45, mm_H_46, mm_H_47, mm_H_50, mm_H_53, mm_H_54, mm_H_55, mm_H_56, mm_H_57, mm_H_58, mm_H_66, mm_H_67, mm_H_68]
          refine aw_iconst (v := nI 1) dX5_formula_156 rfl ?_
          refine aw_iaddN dX5_formula_157 ?_
          refine mm_putN (k := 21) hW hR hs dX5_formula_158 (pX5_254 _) rfl rfl (mm_F_set21 _ _ _) (by decide) (fun h hR hs => ?_)
          refine aw_aload_n dX5_formula_161 rfl ?_
          refine mm_call dX5_formula_162 sX5_230 rfl hW hR hs ctk rfl rfl ⟨Nat.le_of_ble_eq_true rfl, Nat.le_of_ble_eq_true rfl⟩ (Nat.le_of_ble_eq_true rfl) (fun h hR hs => ?_)
          refine aw_aload_n dX5_formula_165 rfl ?_
          refine mm_call dX5_formula_166 sX5_289 rfl hW hR hs cun rfl rfl ⟨Nat.le_of_ble_eq_true rfl, Nat.le_of_ble_eq_true rfl⟩ (Nat.le_of_ble_eq_true rfl) (fun h hR hs => ?_)
          refine aw_goto (tgt := 174) dX5_formula_169 (by decide) ?_
          refine aw_goto (tgt := 50) dX5_formula_174 (by decide) ?_
          exact AW_dr (ih (mm_unt (mm_sg t)) h ⟨u1, fun q => (u2 q).1⟩ (fun q => by
            have a1 := (u2 q).2
            have a2 := (u2 q).1.2.2.2.2.1
            have a3 := (u2 q).1.2.2.2.2.2.1
            omega) (by rw [← eq, mm_fl_S z y x]) hR hs)
        have b114 : ∀ h, ¬ mm_isCB t → mm_R G w h t → mm_same w h0 h → AW G (aw_rm 4 0 0) yX5_formula cX5_formula 4 none (aw_N G (mm_Po G w h0 none (mm_fm s v)) 0 0) 0 0 h 114 [(0, .ref w.1), (1, .int (nI v)), (2, .int (nI 1)), (3, .int (nI (mm_sgn t)))] [] := by
          intro h y hR hs
          have sl : mm_sgn t < 256 := by
            by_cases q : mm_sgn t = 0
            · omega
            · exact sp_osg_lt (mm_sgn_o q).1
          have tl := sp_tight_le (mm_sgn t)
          refine aw_iload_n dX5_formula_114 rfl ?_
          refine aw_if_eqN (tgt := 172) dX5_formula_115 (by decide) (by omega) (fun c_115 => ?_) (fun c_115 => ?_)
          · refine aw_iconst (v := nI 0) dX5_formula_172 rfl ?_
            refine aw_istore_n dX5_formula_173 (by decide) rfl rfl ?_
            refine aw_goto (tgt := 50) dX5_formula_174 (by decide) ?_
            first
            | exact AW_dr (out t h hJ (by rw [← eq, mm_fl_E y (fun q => q.2 ⟨by omega, c_130⟩)]) hR hs)
            | exact AW_dr (out t h hJ (by rw [← eq, mm_fl_E y (fun q => q.1 c_115)]) hR hs)
          · refine aw_iload_n dX5_formula_118 rfl ?_
            refine aw_callP (r := _) dX5_formula_119 sX5_257 rfl (mp_tight (mm_sgn_o c_115).1) rfl rfl ⟨Nat.le_of_ble_eq_true rfl, Nat.le_of_ble_eq_true rfl⟩ (Nat.le_of_ble_eq_true rfl) ?_
            refine aw_iconst (v := nI 4) dX5_formula_122 rfl ?_
            refine aw_icmp_neN (tgt := 133) dX5_formula_123 (by decide) (by omega) (by omega) (fun c_123 => ?_) (fun c_123 => ?_)
            · first
              | exact sgn h y ⟨c_115, fun q => c_130 q.2⟩ hR hs
              | exact sgn h y ⟨c_115, fun q => c_123 q.1⟩ hR hs
            · refine aw_aload_n dX5_formula_126 rfl ?_
              refine mm_call dX5_formula_127 sX5_301 rfl hW hR hs (mm_hasRelation (s := t) (by omega) i3) rfl rfl ⟨Nat.le_of_ble_eq_true rfl, Nat.le_of_ble_eq_true rfl⟩ (Nat.le_of_ble_eq_true rfl) (fun h hR hs => ?_)
              refine aw_if_neB (tgt := 172) dX5_formula_130 (by decide) (fun c_130 => ?_) (fun c_130 => ?_)
              · refine aw_iconst (v := nI 0) dX5_formula_172 rfl ?_
                refine aw_istore_n dX5_formula_173 (by decide) rfl rfl ?_
                refine aw_goto (tgt := 50) dX5_formula_174 (by decide) ?_
                first
                | exact AW_dr (out t h hJ (by rw [← eq, mm_fl_E y (fun q => q.2 ⟨by omega, c_130⟩)]) hR hs)
                | exact AW_dr (out t h hJ (by rw [← eq, mm_fl_E y (fun q => q.1 c_115)]) hR hs)
              · first
                | exact sgn h y ⟨c_115, fun q => c_130 q.2⟩ hR hs
                | exact sgn h y ⟨c_115, fun q => c_123 q.1⟩ hR hs
        refine aw_iload_n dX5_formula_50 rfl ?_
        refine aw_if_eqN (tgt := 177) dX5_formula_51 (by decide) (by omega) (fun c_51 => by exfalso; omega) (fun c_51 => ?_)
        refine aw_aload_n dX5_formula_54 rfl ?_
        refine aw_get dX5_formula_55 fX5_182 rfl hR.1 (by rfl) ?_
        refine aw_if_neN (tgt := 177) dX5_formula_58 (by decide) (by omega) (fun c_58 => by exfalso; omega) (fun c_58 => ?_)
        refine aw_aload_n dX5_formula_61 rfl ?_
        refine mm_call dX5_formula_62 sX5_292 rfl hW hR hs (mm_sign (s := t) p4) rfl rfl ⟨Nat.le_of_ble_eq_true rfl, Nat.le_of_ble_eq_true rfl⟩ (Nat.le_of_ble_eq_true rfl) (fun h hR hs => ?_)
        refine aw_istore_n dX5_formula_65 (by decide) rfl rfl ?_
        refine aw_aload_n dX5_formula_66 rfl ?_
        refine aw_get dX5_formula_67 fX5_169 rfl hR.1 (by rfl) ?_
        refine aw_bipush (v := nI 41) dX5_formula_70 rfl ?_
        refine aw_icmp_neN (tgt := 114) dX5_formula_72 (by decide) (by omega) (by omega) (fun c_72 => ?_) (fun c_72 => ?_)
        · first
          | exact b114 h (fun q => c_79 q.2) hR hs
          | exact b114 h (fun q => absurd q.1 (by omega)) hR hs
        · refine aw_aload_n dX5_formula_75 rfl ?_
          refine mm_call dX5_formula_76 sX5_295 rfl hW hR hs (mm_hasBracket (s := t) (by omega) i3) rfl rfl ⟨Nat.le_of_ble_eq_true rfl, Nat.le_of_ble_eq_true rfl⟩ (Nat.le_of_ble_eq_true rfl) (fun h hR hs => ?_)
          refine aw_if_eqB (tgt := 114) dX5_formula_79 (by decide) (fun c_79 => ?_) (fun c_79 => ?_)
          · first
            | exact b114 h (fun q => c_79 q.2) hR hs
            | exact b114 h (fun q => absurd q.1 (by omega)) hR hs
          · exact cbr h ⟨by omega, c_79⟩ hR hs
      ·
        refine aw_iload_n dX5_formula_50 rfl ?_
        refine aw_if_eqN (tgt := 177) dX5_formula_51 (by decide) (by omega) (fun c_51 => by exfalso; omega) (fun c_51 => ?_)
        refine aw_aload_n dX5_formula_54 rfl ?_
        refine aw_get dX5_formula_55 fX5_182 rfl hR.1 (by rfl) ?_
        refine aw_if_neN (tgt := 177) dX5_formula_58 (by decide) (by omega) (fun c_58 => ?_) (fun c_58 => by exfalso; omega)
        exact fin t 1 h hJ (by rw [← eq, mm_fl_f z]) hR hs
  have hu := mm_f0_u hP hv hn
  have cun : mm_Met _ _ _ _ _ _ (mm_f0 s v) none (mm_unt (mm_f0 s v)) := mm_unit hu
  obtain ⟨u1, u2⟩ := mm_unt_I hu
  obtain ⟨p1, p2, p3, p4, p5, p6, p7⟩ := hP
  refine aw_aload_n dX5_formula_0 rfl ?_
  refine mm_call dX5_formula_1 sX5_230 rfl hW hR hs (mm_token (s := s) p1 p2 p3) rfl rfl ⟨Nat.le_of_ble_eq_true rfl, Nat.le_of_ble_eq_true rfl⟩ (Nat.le_of_ble_eq_true rfl) (fun h hR hs => ?_)
  refine aw_aload_n dX5_formula_4 rfl ?_
  refine aw_iload_n dX5_formula_5 rfl ?_
  refine mm_putN (k := 20) hW hR hs dX5_formula_6 (pX5_251 _) rfl rfl (mm_F_set20 _ _ _) (by decide) (fun h hR hs => ?_)
  refine aw_aload_n dX5_formula_9 rfl ?_
  refine aw_get dX5_formula_10 fX5_45 rfl hR.1 (by rfl) ?_
  refine aw_aload_n dX5_formula_13 rfl ?_
  refine aw_get dX5_formula_14 fX5_251 rfl hR.1 (by rfl) ?_
  try simp only [mm_n_N, mm_n_A, mm_n_V, mm_n_Fp, mm_n_W, mm_n_Nm, mm_a_N, mm_a_A, mm_a_V, mm_a_Fp, mm_a_W, mm_a_Nm, mm_v_N, mm_v_A, mm_v_V, mm_fp_N, mm_fp_A, mm_fp_Fp, mm_w_N, mm_w_W, Nat.reduceEqDiff, reduceIte, if_true, if_false, mm_H_45, mm_H_46, mm_H_47, mm_H_50, mm_H_53, mm_H_54, mm_H_55, mm_H_56, mm_H_57, mm_H_58, mm_H_66, mm_H_67, mm_H_68]
  refine aw_iconst (v := nI 1) dX5_formula_17 rfl ?_
  refine mm_zast (k := 19) rfl hW hR hs dX5_formula_18 (by omega) (by decide) (by omega) (fun h hR hs => ?_)
  refine aw_aload_n dX5_formula_19 rfl ?_
  refine aw_get dX5_formula_20 fX5_27 rfl hR.1 (by rfl) ?_
  refine aw_aload_n dX5_formula_23 rfl ?_
  refine aw_get dX5_formula_24 fX5_251 rfl hR.1 (by rfl) ?_
  try simp only [mm_n_N, mm_n_A, mm_n_V, mm_n_Fp, mm_n_W, mm_n_Nm, mm_a_N, mm_a_A, mm_a_V, mm_a_Fp, mm_a_W, mm_a_Nm, mm_v_N, mm_v_A, mm_v_V, mm_fp_N, mm_fp_A, mm_fp_Fp, mm_w_N, mm_w_W, Nat.reduceEqDiff, reduceIte, if_true, if_false, mm_H_45, mm_H_46, mm_H_47, mm_H_50, mm_H_53, mm_H_54, mm_H_55, mm_H_56, mm_H_57, mm_H_58, mm_H_66, mm_H_67, mm_H_68]
  refine aw_iconst (v := nI 0) dX5_formula_27 rfl ?_
  refine mm_iast (k := 13) rfl hW hR hs dX5_formula_28 (by omega) (by decide) (fun h hR hs => ?_)
  refine aw_aload_n dX5_formula_29 rfl ?_
  refine aw_iconst (v := nI 0) dX5_formula_30 rfl ?_
  refine mm_putN (k := 21) hW hR hs dX5_formula_31 (pX5_254 _) rfl rfl (mm_F_set21 _ _ _) (by decide) (fun h hR hs => ?_)
  refine aw_aload_n dX5_formula_34 rfl ?_
  refine aw_iconst (v := nI 0) dX5_formula_35 rfl ?_
  refine mm_putN (k := 25) hW hR hs dX5_formula_36 (pX5_264 _) rfl rfl (mm_F_set25 _ _ _) (by decide) (fun h hR hs => ?_)
  refine aw_aload_n dX5_formula_39 rfl ?_
  refine aw_iconst (v := nI 0) dX5_formula_40 rfl ?_
  refine mm_putN (k := 24) hW hR hs dX5_formula_41 (pX5_270 _) rfl rfl (mm_F_set24 _ _ _) (by decide) (fun h hR hs => ?_)
  refine aw_aload_n dX5_formula_44 rfl ?_
  have hR := mm_eq hR (show _ = mm_f0 s v from rfl)
  refine mm_call dX5_formula_45 sX5_289 rfl hW hR hs cun rfl rfl ⟨Nat.le_of_ble_eq_true rfl, Nat.le_of_ble_eq_true rfl⟩ (Nat.le_of_ble_eq_true rfl) (fun h hR hs => ?_)
  refine aw_iconst (v := nI 1) dX5_formula_48 rfl ?_
  refine aw_istore_n dX5_formula_49 (by decide) rfl rfl ?_
  exact loop 256 (mm_unt (mm_f0 s v)) h ⟨u1, fun q => (u2 q).1⟩ (fun q => by have a2 := (u2 q).1.2.2.2.2.1; omega) rfl hR hs

