set_option maxRecDepth 100000
/-! the model: a line -/
def mm_rd1 (s : mm_S) : mm_S := mm_wn (mm_setN s 44 1) 1685217655
def mm_rd (s : mm_S) : mm_S := mm_setN (mm_tn (mm_rd1 s) 0 999) 40 (mm_tnv (mm_rd1 s))
abbrev mm_isW (s : mm_S) (v : Int64) : Prop := mm_n s 6 = 1 ∧ mm_w s = v
def mm_rl1 (s : mm_S) : mm_S := if mm_isW s 32497644331170163 ∧ mm_n s 43 = 0 then mm_rs s else if mm_isW s 127978992397940 ∧ mm_n s 39 < 8 then mm_rt s else if mm_isW s 109330362692723 ∧ mm_a s 19 0 = 0 then mm_fm s 0 else if mm_isW s 470021465459 ∧ mm_a s 19 1 = 0 then mm_fm s 1 else if mm_isW s 1685217655 ∧ mm_n s 44 = 0 then mm_rd s else mm_wr s 2
def mm_rl2 (r : mm_S) : mm_S := if mm_n r 2 = 0 then (if mm_n r 6 = 59 then mm_tk r else mm_wr r 2) else r
def mm_rl (s : mm_S) : mm_S := mm_rl2 (mm_setN (mm_rl1 s) 43 1)
/-- a text on its way -/
def mm_lI (s : mm_S) : Prop := mm_okP s ∧ (mm_n s 2 = 0 → mm_n s 39 ≤ 8 ∧ mm_n s 22 ≤ 60 ∧ mm_n s 37 ≤ 100000 ∧ (∀ v, v < 2 → mm_a s 19 v < 2 ∧ (mm_a s 19 v = 1 → mm_a s 13 v ≤ 320)) ∧ mm_n s 43 < 2 ∧ mm_n s 44 < 2)
/-- how many lines may come -/
def mm_mu (s : mm_S) : Nat := (8 - mm_n s 39) + (1 - mm_a s 19 0) + (1 - mm_a s 19 1) + (1 - mm_n s 44) + (1 - mm_n s 43)
theorem mm_wn_f {s : mm_S} {v : Int64} : mm_wn s v = s ∨ mm_wn s v = mm_tk s ∨ mm_wn s v = mm_wr s 2 := by
  unfold mm_wn
  split
  · split
    · exact Or.inr (Or.inl rfl)
    · exact Or.inr (Or.inr rfl)
  · exact Or.inl rfl
/-- words and numbers leave arrays alone -/
theorem mm_wr_A {s : mm_S} {v : Nat} : (mm_wr s v).2.2.2 = s.2.2.2 := by
  unfold mm_wr
  split <;> rfl
theorem mm_wn_A {s : mm_S} {v : Int64} : (mm_wn s v).2.2.2 = s.2.2.2 := by
  rcases mm_wn_f (s := s) (v := v) with e | e | e
  · rw [e]
  · rw [e]; rfl
  · rw [e]; exact mm_wr_A
theorem mm_tn0_A {s : mm_S} {lo hi : Nat} : (mm_tn0 s lo hi).2.2.2 = s.2.2.2 := by
  unfold mm_tn0
  split
  · exact mm_wr_A
  · split
    · exact mm_wr_A
    · rfl
theorem mm_tn_A {s : mm_S} {lo hi : Nat} : (mm_tn s lo hi).2.2.2 = s.2.2.2 := by
  unfold mm_tn
  split
  · split
    · rfl
    · exact mm_tn0_A
  · rfl
theorem mm_op_A {s : mm_S} {v : Int64} {hi : Nat} : (mm_op s v hi).2.2.2 = s.2.2.2 := by
  unfold mm_op
  split
  · exact mm_tn_A.trans mm_wn_A
  · rfl
theorem mm_rs_A {s : mm_S} : (mm_rs s).2.2.2 = s.2.2.2 := by
  unfold mm_rs
  show (mm_op (mm_rs1 s) 1818846836 (mm_tnv (mm_tk s))).2.2.2 = _
  rw [mm_op_A]
  show (mm_tn (mm_tk s) 1 20).2.2.2 = _
  rw [mm_tn_A]
  rfl
theorem mm_rs_n {s : mm_S} {j : Nat} (hj : 8 < j) (h7 : j ≠ 37) (h8 : j ≠ 38) : mm_n (mm_rs s) j = mm_n s j := by
  unfold mm_rs
  rw [mm_n_N, if_neg h8, mm_op_n hj]
  unfold mm_rs1
  rw [mm_n_N, if_neg h7, mm_tn_n hj, mm_tk_n (by omega) (by omega) (by omega) (by omega)]
theorem mm_tnv_le {s : mm_S} (h : mm_okP s) : mm_tnv s ≤ 100000 := by
  unfold mm_tnv
  split
  · exact h.2.2.2.2.1
  · exact Nat.zero_le _
theorem mm_rs_ok {s : mm_S} (h : mm_okP s) : mm_okP (mm_rs s) ∧ mm_n (mm_rs s) 37 ≤ 100000 := by
  refine ⟨mm_op_ok (mm_rs1_ok h), ?_⟩
  unfold mm_rs
  rw [mm_n_N, if_neg (by decide), mm_op_n (by decide)]
  exact mm_tnv_le (mm_tk_ok h)
theorem mm_rd_n {s : mm_S} {j : Nat} (hj : 8 < j) (h7 : j ≠ 40) (h8 : j ≠ 44) : mm_n (mm_rd s) j = mm_n s j := by
  unfold mm_rd
  rw [mm_n_N, if_neg h7, mm_tn_n hj]
  unfold mm_rd1
  rw [mm_wn_n hj, mm_n_N, if_neg h8]
theorem mm_rd_44 {s : mm_S} : mm_n (mm_rd s) 44 = 1 := by
  unfold mm_rd
  rw [mm_n_N, if_neg (by decide), mm_tn_n (by decide)]
  unfold mm_rd1
  rw [mm_wn_n (by decide)]
  rfl
theorem mm_rd_A {s : mm_S} : (mm_rd s).2.2.2 = s.2.2.2 := by
  unfold mm_rd
  show (mm_tn (mm_rd1 s) 0 999).2.2.2 = _
  rw [mm_tn_A]
  exact mm_wn_A
theorem mm_rd_ok {s : mm_S} (h : mm_okP s) : mm_okP (mm_rd s) := mm_tn_ok (lo := 0) (hi := 999) (mm_wn_ok (s := mm_setN s 44 1) (v := 1685217655) h)
/-- arrays of homes alone are new -/
def mm_fh (k : Nat) : Bool := [27, 28, 29, 30, 31].contains k
theorem mm_tl1_a {s : mm_S} {k t hi j : Nat} {v : Int64} (hj : j ≠ k) : mm_a (mm_tl1 s k t v hi) j = mm_a s j := by
  unfold mm_tl1
  rw [mm_a_A, if_neg hj]
  have e : (mm_tn (mm_wn s v) 0 hi).2.2.2 = s.2.2.2 := mm_tn_A.trans mm_wn_A
  show (mm_tn (mm_wn s v) 0 hi).2.2.2.1 j = s.2.2.2.1 j
  rw [e]
theorem mm_nn1_A {s : mm_S} : (mm_nn1 s).2.2.2.1 = s.2.2.2.1 := by
  unfold mm_nn1
  split
  · split
    · rw [mm_wr_A]
    · rfl
  · rw [mm_wr_A]
theorem mm_rt0_a {s : mm_S} : (mm_rt0 s).2.2.2.1 = s.2.2.2.1 := mm_nn1_A
theorem mm_rt4_n {s : mm_S} {t j : Nat} (hj : 8 < j) : mm_n (mm_rt4 s t) j = mm_n s j := by
  unfold mm_rt4
  rw [mm_tl1_n hj, mm_tl1_n hj, mm_tl1_n hj, mm_tl1_n hj]
theorem mm_rt5_n {s : mm_S} {t j : Nat} (hj : 8 < j) : mm_n (mm_rt5 s t) j = mm_n s j := by
  unfold mm_rt5
  rw [mm_n_A, mm_op_n hj, mm_rt4_n hj]
theorem mm_rt4_a {s : mm_S} {t k : Nat} (hk : mm_fh k = false) : mm_a (mm_rt4 s t) k = mm_a s k := by
  have n : ∀ j, mm_fh j = true → k ≠ j := fun j q e => by rw [e, q] at hk; cases hk
  unfold mm_rt4
  rw [mm_tl1_a (n 30 rfl), mm_tl1_a (n 29 rfl), mm_tl1_a (n 28 rfl), mm_tl1_a (n 27 rfl)]
theorem mm_rt5_a {s : mm_S} {t k : Nat} (hk : mm_fh k = false) : mm_a (mm_rt5 s t) k = mm_a s k := by
  have n : ∀ j, mm_fh j = true → k ≠ j := fun j q e => by rw [e, q] at hk; cases hk
  unfold mm_rt5
  rw [mm_a_A, if_neg (n 31 rfl)]
  have e : (mm_op (mm_rt4 s t) 439720963187 100).2.2.2 = (mm_rt4 s t).2.2.2 := mm_op_A
  show (mm_op (mm_rt4 s t) 439720963187 100).2.2.2.1 k = _
  rw [e]
  exact mm_rt4_a hk
theorem mm_rt0_n {s : mm_S} {j : Nat} (hj : 8 < j) : mm_n (mm_rt0 s) j = mm_n s j := (mm_nn1_n hj).trans (mm_tk_n (by omega) (by omega) (by omega) (by omega))
theorem mm_rt_n {s : mm_S} {j : Nat} (hj : 8 < j) (h9 : j ≠ 39) : mm_n (mm_rt s) j = mm_n s j := by
  unfold mm_rt
  split
  · rw [mm_n_N, if_neg h9, mm_rt5_n hj, mm_rt0_n hj]
  · rw [mm_rt5_n hj, mm_rt0_n hj]
theorem mm_rt_a {s : mm_S} {k : Nat} (hk : mm_fh k = false) : mm_a (mm_rt s) k = mm_a s k := by
  have e : mm_a (mm_rt5 (mm_rt0 s) (mm_n s 39)) k = mm_a s k := by
    rw [mm_rt5_a hk]
    show (mm_rt0 s).2.2.2.1 k = _
    rw [mm_rt0_a]
  unfold mm_rt
  split
  · exact e
  · exact e
theorem mm_rt5_ok {s : mm_S} {t : Nat} (h : mm_okP s) : mm_okP (mm_rt5 s t) := mm_ok_A (by decide) (mm_op_ok (mm_tl1_ok (by decide) (mm_tl1_ok (by decide) (mm_tl1_ok (by decide) (mm_tl1_ok (by decide) h)))))
theorem mm_okP_N {s : mm_S} {j v : Nat} (hj : 8 < j) (h : mm_okP s) : mm_okP (mm_setN s j v) := by
  obtain ⟨p1, p2, p3, p4, p5, p6, p7⟩ := h
  unfold mm_okP
  rw [mm_n_N, if_neg (by omega), mm_n_N, if_neg (by omega), mm_n_N, if_neg (by omega), mm_n_N, if_neg (by omega), mm_n_N, if_neg (by omega), mm_n_N, if_neg (by omega)]
  exact ⟨p1, p2, p3, p4, p5, p6, p7⟩
theorem mm_rt_39 {s : mm_S} (h : mm_okP s) : mm_okP (mm_rt s) ∧ (mm_n (mm_rt s) 2 = 0 → mm_n (mm_rt s) 39 = mm_n s 39 + 1) := by
  have k0 : mm_okP (mm_rt0 s) := mm_nn1_ok (mm_tk_ok h)
  have k : mm_okP (mm_rt5 (mm_rt0 s) (mm_n s 39)) := mm_rt5_ok k0
  unfold mm_rt
  obtain ⟨a, ha⟩ : ∃ a, a = mm_rt5 (mm_rt0 s) (mm_n s 39) := ⟨_, rfl⟩
  rw [← ha] at k ⊢
  by_cases z : mm_n a 2 = 0
  · rw [if_pos z]
    exact ⟨mm_okP_N (by decide) k, fun _ => rfl⟩
  · rw [if_neg z]
    exact ⟨k, fun q => absurd q z⟩
theorem mm_rl1_I {s : mm_S} (h : mm_lI s) (z : mm_n s 2 = 0) : mm_lI (mm_rl1 s) ∧ (mm_n (mm_rl1 s) 2 = 0 → mm_mu (mm_setN (mm_rl1 s) 43 1) < mm_mu s) := by
  obtain ⟨hP, hh⟩ := h
  obtain ⟨h1, h2, h3, h4, h5, h6⟩ := hh z
  have mu : ∀ r : mm_S, mm_mu (mm_setN r 43 1) = (8 - mm_n r 39) + (1 - mm_a r 19 0) + (1 - mm_a r 19 1) + (1 - mm_n r 44) := fun r => rfl
  have muS : mm_mu s = (8 - mm_n s 39) + (1 - mm_a s 19 0) + (1 - mm_a s 19 1) + (1 - mm_n s 44) + (1 - mm_n s 43) := rfl
  have frm : ∀ v, v < 2 → mm_a s 19 v = 0 → mm_lI (mm_fm s v) ∧ (mm_n (mm_fm s v) 2 = 0 → mm_mu (mm_setN (mm_fm s v) 43 1) < mm_mu s) := by
    intro v hv h0
    obtain ⟨k1, k2, k3⟩ := mm_fm_P hP hv h2
    have e : ∀ j, 8 < j → j ≠ 20 → j ≠ 21 → j ≠ 22 → j ≠ 24 → j ≠ 25 → mm_n (mm_fm s v) j = mm_n s j := by
      intro j g1 g2 g3 g4 g5 g6
      rw [k1.1 j (by
        have : ∀ x, j ≠ x → (j == x) = false := fun x q => beq_eq_false_iff_ne.mpr q
        unfold mm_fn
        simp only [List.contains_cons, List.contains_nil, this 2 (by omega), this 4 (by omega), this 6 (by omega), this 7 (by omega), this 8 (by omega), this 21 g3, this 22 g4, this 24 g5, this 25 g6, Bool.or_false])]
      unfold mm_f0
      rw [mm_n_N, if_neg g5, mm_n_N, if_neg g6, mm_n_N, if_neg g3, mm_n_A, mm_n_A, mm_n_N, if_neg g2, mm_tk_n (by omega) (by omega) (by omega) (by omega)]
    have e19 : mm_a (mm_fm s v) 19 = aw_u (mm_a s 19) v 1 := (k1.2.1 19 rfl).trans rfl
    have e13 : ∀ j, j ≠ v → mm_a (mm_fm s v) 13 j = mm_a s 13 j := fun j hj => (k1.2.2.1 j hj).trans (aw_u_n (f := mm_a s 13) (v := 0) hj)
    refine ⟨⟨k2, fun q => ⟨?_, (k3 q).1, ?_, ?_, ?_, ?_⟩⟩, fun q => ?_⟩
    · rw [e 39 (by decide) (by decide) (by decide) (by decide) (by decide) (by decide)]; exact h1
    · rw [e 37 (by decide) (by decide) (by decide) (by decide) (by decide) (by decide)]; exact h3
    · intro j hj
      by_cases y : j = v
      · rw [y, e19, aw_u_s]
        exact ⟨by decide, fun _ => (k3 q).2⟩
      · rw [e19, aw_u_n y, e13 j y]
        exact h4 j hj
    · rw [e 43 (by decide) (by decide) (by decide) (by decide) (by decide) (by decide)]; exact h5
    · rw [e 44 (by decide) (by decide) (by decide) (by decide) (by decide) (by decide)]; exact h6
    · rw [mu, muS, e 39 (by decide) (by decide) (by decide) (by decide) (by decide) (by decide), e 44 (by decide) (by decide) (by decide) (by decide) (by decide) (by decide), e19]
      have a0 := (h4 0 (by decide)).1
      have a1 := (h4 1 (by decide)).1
      rcases (show v = 0 ∨ v = 1 by omega) with rfl | rfl
      · rw [aw_u_s, aw_u_n (by decide)]; omega
      · rw [aw_u_s, aw_u_n (by decide)]; omega
  unfold mm_rl1
  by_cases c1 : mm_isW s 32497644331170163 ∧ mm_n s 43 = 0
  · rw [if_pos c1]
    obtain ⟨k1, k2⟩ := mm_rs_ok hP
    have eA : ∀ k, mm_a (mm_rs s) k = mm_a s k := fun k => by show (mm_rs s).2.2.2.1 k = _; rw [mm_rs_A]
    have e : ∀ j, 8 < j → j ≠ 37 → j ≠ 38 → mm_n (mm_rs s) j = mm_n s j := fun j g1 g2 g3 => mm_rs_n g1 g2 g3
    refine ⟨⟨k1, fun q => ⟨by rw [e 39 (by decide) (by decide) (by decide)]; exact h1, by rw [e 22 (by decide) (by decide) (by decide)]; exact h2, k2, by rw [eA, eA]; exact h4, by rw [e 43 (by decide) (by decide) (by decide)]; exact h5, by rw [e 44 (by decide) (by decide) (by decide)]; exact h6⟩⟩, fun q => ?_⟩
    rw [mu, muS, e 39 (by decide) (by decide) (by decide), e 44 (by decide) (by decide) (by decide), eA]
    omega
  · rw [if_neg c1]
    by_cases c2 : mm_isW s 127978992397940 ∧ mm_n s 39 < 8
    · rw [if_pos c2]
      obtain ⟨k1, k2⟩ := mm_rt_39 hP
      have eA : ∀ k, mm_fh k = false → mm_a (mm_rt s) k = mm_a s k := fun k g => mm_rt_a g
      have e : ∀ j, 8 < j → j ≠ 39 → mm_n (mm_rt s) j = mm_n s j := fun j g1 g2 => mm_rt_n g1 g2
      refine ⟨⟨k1, fun q => ⟨by rw [k2 q]; omega, by rw [e 22 (by decide) (by decide)]; exact h2, by rw [e 37 (by decide) (by decide)]; exact h3, by rw [eA 19 rfl, eA 13 rfl]; exact h4, by rw [e 43 (by decide) (by decide)]; exact h5, by rw [e 44 (by decide) (by decide)]; exact h6⟩⟩, fun q => ?_⟩
      rw [mu, muS, k2 q, e 44 (by decide) (by decide), eA 19 rfl]
      omega
    · rw [if_neg c2]
      by_cases c3 : mm_isW s 109330362692723 ∧ mm_a s 19 0 = 0
      · rw [if_pos c3]
        exact frm 0 (by decide) c3.2
      · rw [if_neg c3]
        by_cases c4 : mm_isW s 470021465459 ∧ mm_a s 19 1 = 0
        · rw [if_pos c4]
          exact frm 1 (by decide) c4.2
        · rw [if_neg c4]
          by_cases c5 : mm_isW s 1685217655 ∧ mm_n s 44 = 0
          · rw [if_pos c5]
            have eA : ∀ k, mm_a (mm_rd s) k = mm_a s k := fun k => by show (mm_rd s).2.2.2.1 k = _; rw [mm_rd_A]
            have e : ∀ j, 8 < j → j ≠ 40 → j ≠ 44 → mm_n (mm_rd s) j = mm_n s j := fun j g1 g2 g3 => mm_rd_n g1 g2 g3
            refine ⟨⟨mm_rd_ok hP, fun q => ⟨by rw [e 39 (by decide) (by decide) (by decide)]; exact h1, by rw [e 22 (by decide) (by decide) (by decide)]; exact h2, by rw [e 37 (by decide) (by decide) (by decide)]; exact h3, by rw [eA, eA]; exact h4, by rw [e 43 (by decide) (by decide) (by decide)]; exact h5, by rw [mm_rd_44]; decide⟩⟩, fun q => ?_⟩
            rw [mu, muS, e 39 (by decide) (by decide) (by decide), mm_rd_44, eA]
            omega
          · rw [if_neg c5]
            exact ⟨⟨mm_wr_ok hP (by decide), fun q => absurd q (mm_wr_2 z (by decide))⟩, fun q => absurd q (mm_wr_2 z (by decide))⟩
theorem mm_lI_43 {s : mm_S} (h : mm_lI s) : mm_lI (mm_setN s 43 1) := ⟨h.1, fun z => by
  obtain ⟨h1, h2, h3, h4, h5, h6⟩ := h.2 z
  exact ⟨h1, h2, h3, h4, (by decide : 1 < 2), h6⟩⟩
theorem mm_rl_I {s : mm_S} (h : mm_lI s) (z : mm_n s 2 = 0) : mm_lI (mm_rl s) ∧ (mm_n (mm_rl s) 2 = 0 → mm_mu (mm_rl s) < mm_mu s) := by
  obtain ⟨k1, k2⟩ := mm_rl1_I h z
  have k3 := mm_lI_43 k1
  have e2 : mm_n (mm_setN (mm_rl1 s) 43 1) 2 = mm_n (mm_rl1 s) 2 := rfl
  unfold mm_rl
  obtain ⟨r, hr⟩ : ∃ r, r = mm_setN (mm_rl1 s) 43 1 := ⟨_, rfl⟩
  rw [← hr] at k2 k3 e2 ⊢
  unfold mm_rl2
  by_cases y : mm_n r 2 = 0
  · rw [if_pos y]
    by_cases x : mm_n r 6 = 59
    · rw [if_pos x]
      exact ⟨⟨mm_tk_ok k3.1, fun q => k3.2 y⟩, fun q => k2 (by omega)⟩
    · rw [if_neg x]
      exact ⟨⟨mm_wr_ok k3.1 (by decide), fun q => absurd q (mm_wr_2 y (by decide))⟩, fun q => absurd q (mm_wr_2 y (by decide))⟩
  · rw [if_neg y]
    exact ⟨k3, fun q => absurd q y⟩
set_option maxHeartbeats 4000000 in
theorem mm_readLine {s : mm_S} (hI : mm_lI s) (z : mm_n s 2 = 0) : mm_Met yX5_readLine cX5_readLine 1 none 6 [] s none (mm_rl s) := by
  refine mm_Met.of (by decide +kernel) (fun _ => Nat.le_of_ble_eq_true rfl) (fun G w h0 hW hR => ?_)
  have hs : mm_same w h0 h0 := mm_same.rf
  show AW G (aw_rm 6 0 0) yX5_readLine cX5_readLine 1 none (aw_N G (mm_Po G w h0 none (mm_rl s)) 0 0) 0 0 h0 0 [(0, .ref w.1)] []
  obtain ⟨hP, hh⟩ := hI
  obtain ⟨h1, h2, h3, h4, h5, h6⟩ := hh z
  obtain ⟨p1, p2, p3, p4, p5, p6, p7⟩ := hP
  have hP : mm_okP s := ⟨p1, p2, p3, p4, p5, p6, p7⟩
  have a0 := (h4 0 (by decide)).1
  have a1 := (h4 1 (by decide)).1
  have fin : ∀ (r : mm_S) (h : aw_H), mm_rl1 s = r → mm_okP r → mm_R G w h r → mm_same w h0 h → AW G (aw_rm 6 0 0) yX5_readLine cX5_readLine 1 none (aw_N G (mm_Po G w h0 none (mm_rl s)) 0 0) 0 0 h 149 [(0, .ref w.1)] [] := by
    intro r h er rP hR hs
    obtain ⟨q1, q2, q3, q4, q5, q6, q7⟩ := rP
    have rP : mm_okP (mm_setN r 43 1) := ⟨q1, q2, q3, q4, q5, q6, q7⟩
    have cw : mm_Met _ _ _ _ _ _ (mm_setN r 43 1) none (mm_wr (mm_setN r 43 1) 2) := mm_wrong (s := mm_setN r 43 1) (v := 2) (show mm_n r 2 < 2147483648 by omega) (show mm_n r 6 < 2147483648 by omega)
    have ctk : mm_Met _ _ _ _ _ _ (mm_setN r 43 1) none (mm_tk (mm_setN r 43 1)) := mm_token (s := mm_setN r 43 1) q1 q2 q3
    have e9 : mm_n r 2 = 0 → mm_n (mm_wr (mm_setN r 43 1) 2) 2 = if mm_n r 6 = 3 then 1 else 2 := fun z => mm_wr_n (s := mm_setN r 43 1) z
    have e2 : mm_n r 2 = 0 → 0 < mm_n (mm_wr (mm_setN r 43 1) 2) 2 ∧ mm_n (mm_wr (mm_setN r 43 1) 2) 2 ≤ 2 := fun z => by rw [e9 z]; split <;> omega
    have w175 : ∀ h, mm_n r 2 = 0 → mm_n r 6 ≠ 59 → mm_R G w h (mm_wr (mm_setN r 43 1) 2) → mm_same w h0 h → AW G (aw_rm 6 0 0) yX5_readLine cX5_readLine 1 none (aw_N G (mm_Po G w h0 none (mm_rl s)) 0 0) 0 0 h 175 [(0, .ref w.1)] [] := by
      intro h y x hR hs
      have e2 := e2 y
      refine aw_aload_n dX5_readLine_175 rfl ?_
      refine aw_get dX5_readLine_176 fX5_182 rfl hR.1 (by rfl) ?_
      refine aw_if_neN (tgt := 186) dX5_readLine_179 (by decide) (by omega) (fun c_179 => ?_) (fun c_179 => by exfalso; omega)
      refine aw_vreturn dX5_readLine_186 rfl ?_
      exact ⟨rfl, mm_eq hR (by unfold mm_rl mm_rl2; rw [er, if_pos (show mm_n (mm_setN r 43 1) 2 = 0 from y), if_neg (show ¬ mm_n (mm_setN r 43 1) 6 = 59 from x)]), hs⟩
    have g175 : ∀ h, ¬ (mm_n r 2 = 0 ∧ mm_n r 6 ≠ 59) → mm_R G w h (mm_setN r 43 1) → mm_same w h0 h → AW G (aw_rm 6 0 0) yX5_readLine cX5_readLine 1 none (aw_N G (mm_Po G w h0 none (mm_rl s)) 0 0) 0 0 h 175 [(0, .ref w.1)] [] := by
      intro h x hR hs
      refine aw_aload_n dX5_readLine_175 rfl ?_
      refine aw_get dX5_readLine_176 fX5_182 rfl hR.1 (by rfl) ?_
      refine aw_if_neN (tgt := 186) dX5_readLine_179 (by decide) (by show mm_n r 2 < 2147483648; omega) (fun c_179 => ?_) (fun c_179 => ?_)
      · refine aw_vreturn dX5_readLine_186 rfl ?_
        refine ⟨rfl, mm_eq hR ?_, hs⟩
        unfold mm_rl mm_rl2
        rw [er]
        first
          | (rw [if_pos (show mm_n (mm_setN r 43 1) 2 = 0 from c_179), if_pos (show mm_n (mm_setN r 43 1) 6 = 59 from Decidable.of_not_not (fun q => x ⟨c_179, q⟩))]; done)
          | (rw [if_neg (show ¬ mm_n (mm_setN r 43 1) 2 = 0 from c_179)]; done)
      · refine aw_aload_n dX5_readLine_182 rfl ?_
        refine mm_call dX5_readLine_183 sX5_230 rfl hW hR hs ctk rfl rfl ⟨Nat.le_of_ble_eq_true rfl, Nat.le_of_ble_eq_true rfl⟩ (Nat.le_of_ble_eq_true rfl) (fun h hR hs => ?_)
        refine aw_vreturn dX5_readLine_186 rfl ?_
        refine ⟨rfl, mm_eq hR ?_, hs⟩
        unfold mm_rl mm_rl2
        rw [er]
        first
          | (rw [if_pos (show mm_n (mm_setN r 43 1) 2 = 0 from c_179), if_pos (show mm_n (mm_setN r 43 1) 6 = 59 from Decidable.of_not_not (fun q => x ⟨c_179, q⟩))]; done)
          | (rw [if_neg (show ¬ mm_n (mm_setN r 43 1) 2 = 0 from c_179)]; done)
    refine aw_aload_n dX5_readLine_149 rfl ?_
    refine aw_iconst (v := nI 1) dX5_readLine_150 rfl ?_
    refine mm_putZ (k := 43) hW hR hs dX5_readLine_151 (pX5_325 _) rfl rfl (mm_F_set43 _ _ _) (by decide) (by omega) (fun h hR hs => ?_)
    refine aw_aload_n dX5_readLine_154 rfl ?_
    refine aw_get dX5_readLine_155 fX5_182 rfl hR.1 (by rfl) ?_
    try simp only [mm_n_N, mm_n_A, mm_n_V, mm_n_Fp, mm_n_W, mm_n_Nm, mm_a_N, mm_a_A, mm_a_V, mm_a_Fp, mm_a_W, mm_a_Nm, mm_v_N, mm_v_A, mm_v_V, mm_fp_N, mm_fp_A, mm_fp_Fp, mm_w_N, mm_w_W, Nat.reduceEqDiff, reduceIte, if_true, if_false, mm_H_45, mm_H_46, mm_H_47, mm_H_50, mm_H_53, mm_H_54, mm_H_55, mm_H_56, mm_H_57, mm_H_58, mm_H_66, mm_H_67, mm_H_68]
    refine aw_if_neN (tgt := 175) dX5_readLine_158 (by decide) (by omega) (fun c_158 => ?_) (fun c_158 => ?_)
    · first
      | exact w175 h (by omega) (by omega) hR hs
      | exact g175 h (by omega) hR hs
    · refine aw_aload_n dX5_readLine_161 rfl ?_
      refine aw_get dX5_readLine_162 fX5_169 rfl hR.1 (by rfl) ?_
      try simp only [mm_n_N, mm_n_A, mm_n_V, mm_n_Fp, mm_n_W, mm_n_Nm, mm_a_N, mm_a_A, mm_a_V, mm_a_Fp, mm_a_W, mm_a_Nm, mm_v_N, mm_v_A, mm_v_V, mm_fp_N, mm_fp_A, mm_fp_Fp, mm_w_N, mm_w_W, Nat.reduceEqDiff, reduceIte, if_true, if_false, mm_H_45, mm_H_46, mm_H_47, mm_H_50, mm_H_53, mm_H_54, mm_H_55, mm_H_56, mm_H_57, mm_H_58, mm_H_66, mm_H_67, mm_H_68]
      refine aw_bipush (v := nI 59) dX5_readLine_165 rfl ?_
      refine aw_icmp_eqN (tgt := 175) dX5_readLine_167 (by decide) (by omega) (by omega) (fun c_167 => ?_) (fun c_167 => ?_)
      · first
        | exact w175 h (by omega) (by omega) hR hs
        | exact g175 h (by omega) hR hs
      · refine aw_aload_n dX5_readLine_170 rfl ?_
        refine aw_iconst (v := nI 2) dX5_readLine_171 rfl ?_
        refine mm_call dX5_readLine_172 sX5_227 rfl hW hR hs cw rfl rfl ⟨Nat.le_of_ble_eq_true rfl, Nat.le_of_ble_eq_true rfl⟩ (Nat.le_of_ble_eq_true rfl) (fun h hR hs => ?_)
        first
        | exact w175 h (by omega) (by omega) hR hs
        | exact g175 h (by omega) hR hs
  have cw : mm_Met _ _ _ _ _ _ s none (mm_wr s 2) := mm_wrong (s := s) (v := 2) (by omega) (by omega)
  have ctold : mm_Met _ _ _ _ _ _ (mm_setN s 44 1) (some (.int (nI (mm_tnv (mm_rd1 s))))) (mm_tn (mm_rd1 s) 0 999) := mm_told (s := mm_setN s 44 1) (v := 1685217655) (lo := 0) (hi := 999) ⟨p1, p2, p3, p4, p5, p6, p7⟩ (by decide) (by decide)
  have c6 : mm_n s 6 < 2147483648 := by omega
  have b5 : ∀ h, ¬ (mm_isW s 32497644331170163 ∧ mm_n s 43 = 0) → ¬ (mm_isW s 127978992397940 ∧ mm_n s 39 < 8) → ¬ (mm_isW s 109330362692723 ∧ mm_a s 19 0 = 0) → ¬ (mm_isW s 470021465459 ∧ mm_a s 19 1 = 0) → mm_R G w h s → mm_same w h0 h → AW G (aw_rm 6 0 0) yX5_readLine cX5_readLine 1 none (aw_N G (mm_Po G w h0 none (mm_rl s)) 0 0) 0 0 h 104 [(0, .ref w.1)] [] := by
    intro h x1 x2 x3 x4 hR hs
    have e0 : mm_rl1 s = if mm_isW s 1685217655 ∧ mm_n s 44 = 0 then mm_rd s else mm_wr s 2 := by
      unfold mm_rl1
      rw [if_neg x1, if_neg x2, if_neg x3, if_neg x4]
    have no : ∀ h, ¬ (mm_isW s 1685217655 ∧ mm_n s 44 = 0) → mm_R G w h s → mm_same w h0 h → AW G (aw_rm 6 0 0) yX5_readLine cX5_readLine 1 none (aw_N G (mm_Po G w h0 none (mm_rl s)) 0 0) 0 0 h 144 [(0, .ref w.1)] [] := by
      intro h y hR hs
      refine aw_aload_n dX5_readLine_144 rfl ?_
      refine aw_iconst (v := nI 2) dX5_readLine_145 rfl ?_
      refine mm_call dX5_readLine_146 sX5_227 rfl hW hR hs cw rfl rfl ⟨Nat.le_of_ble_eq_true rfl, Nat.le_of_ble_eq_true rfl⟩ (Nat.le_of_ble_eq_true rfl) (fun h hR hs => ?_)
      exact fin (mm_wr s 2) h (by rw [e0, if_neg y]) (mm_wr_ok hP (by decide)) hR hs
    refine aw_aload_n dX5_readLine_104 rfl ?_
    refine aw_ldc2 dX5_readLine_105 q1642 ?_
    refine mm_call dX5_readLine_108 sX5_223 rfl hW hR hs (mm_isWord (s := s) c6) rfl rfl ⟨Nat.le_of_ble_eq_true rfl, Nat.le_of_ble_eq_true rfl⟩ (Nat.le_of_ble_eq_true rfl) (fun h hR hs => ?_)
    refine aw_if_eqB (tgt := 144) dX5_readLine_111 (by decide) (fun c_111 => ?_) (fun c_111 => ?_)
    · exact no h (by first | exact fun q => c_111 q.1 | exact fun q => c_118 q.2) hR hs
    · refine aw_aload_n dX5_readLine_114 rfl ?_
      refine aw_get dX5_readLine_115 fX5_338 rfl hR.1 (by rfl) ?_
      refine aw_if_neN (tgt := 144) dX5_readLine_118 (by decide) (by omega) (fun c_118 => ?_) (fun c_118 => ?_)
      · exact no h (by first | exact fun q => c_111 q.1 | exact fun q => c_118 q.2) hR hs
      · refine aw_aload_n dX5_readLine_121 rfl ?_
        refine aw_iconst (v := nI 1) dX5_readLine_122 rfl ?_
        refine mm_putZ (k := 44) hW hR hs dX5_readLine_123 (pX5_338 _) rfl rfl (mm_F_set44 _ _ _) (by decide) (by omega) (fun h hR hs => ?_)
        refine aw_aload_n dX5_readLine_126 rfl ?_
        refine aw_aload_n dX5_readLine_127 rfl ?_
        refine aw_ldc2 dX5_readLine_128 q1642 ?_
        refine aw_iconst (v := nI 0) dX5_readLine_131 rfl ?_
        refine aw_sipush (v := nI 999) dX5_readLine_132 rfl ?_
        refine mm_call dX5_readLine_135 sX5_241 rfl hW hR hs ctold rfl rfl ⟨Nat.le_of_ble_eq_true rfl, Nat.le_of_ble_eq_true rfl⟩ (Nat.le_of_ble_eq_true rfl) (fun h hR hs => ?_)
        try simp only [mm_n_N, mm_n_A, mm_n_V, mm_n_Fp, mm_n_W, mm_n_Nm, mm_a_N, mm_a_A, mm_a_V, mm_a_Fp, mm_a_W, mm_a_Nm, mm_v_N, mm_v_A, mm_v_V, mm_fp_N, mm_fp_A, mm_fp_Fp, mm_w_N, mm_w_W, Nat.reduceEqDiff, reduceIte, if_true, if_false, mm_H_45, mm_H_46, mm_H_47, mm_H_50, mm_H_53, mm_H_54, mm_H_55, mm_H_56, mm_H_57, mm_H_58, mm_H_66, mm_H_67, mm_H_68]
        refine mm_putN (k := 40) hW hR hs dX5_readLine_138 (pX5_341 _) rfl rfl (mm_F_set40 _ _ _) (by decide) (fun h hR hs => ?_)
        refine aw_goto (tgt := 149) dX5_readLine_141 (by decide) ?_
        exact fin (mm_rd s) h (by rw [e0, if_pos ⟨c_111, c_118⟩]) (mm_rd_ok hP) (mm_eq hR rfl) hs
  have b4 : ∀ h, ¬ (mm_isW s 32497644331170163 ∧ mm_n s 43 = 0) → ¬ (mm_isW s 127978992397940 ∧ mm_n s 39 < 8) → ¬ (mm_isW s 109330362692723 ∧ mm_a s 19 0 = 0) → mm_R G w h s → mm_same w h0 h → AW G (aw_rm 6 0 0) yX5_readLine cX5_readLine 1 none (aw_N G (mm_Po G w h0 none (mm_rl s)) 0 0) 0 0 h 77 [(0, .ref w.1)] [] := by
    intro h x1 x2 x3 hR hs
    have e0 : mm_isW s 470021465459 ∧ mm_a s 19 1 = 0 → mm_rl1 s = mm_fm s 1 := fun y => by
      unfold mm_rl1
      rw [if_neg x1, if_neg x2, if_neg x3, if_pos y]
    refine aw_aload_n dX5_readLine_77 rfl ?_
    refine aw_ldc2 dX5_readLine_78 q1641 ?_
    refine mm_call dX5_readLine_81 sX5_223 rfl hW hR hs (mm_isWord (s := s) c6) rfl rfl ⟨Nat.le_of_ble_eq_true rfl, Nat.le_of_ble_eq_true rfl⟩ (Nat.le_of_ble_eq_true rfl) (fun h hR hs => ?_)
    refine aw_if_eqB (tgt := 104) dX5_readLine_84 (by decide) (fun c_84 => ?_) (fun c_84 => ?_)
    · exact b5 h x1 x2 x3 (by first | exact fun q => c_84 q.1 | exact fun q => c_93 q.2) hR hs
    · refine aw_aload_n dX5_readLine_87 rfl ?_
      refine aw_get dX5_readLine_88 fX5_45 rfl hR.1 (by rfl) ?_
      refine aw_iconst (v := nI 1) dX5_readLine_91 rfl ?_
      refine aw_zaldN dX5_readLine_92 (hR.2.2.1 19 2 rfl) (by decide) (by decide) ?_
      refine aw_if_neN (tgt := 104) dX5_readLine_93 (by decide) (by omega) (fun c_93 => ?_) (fun c_93 => ?_)
      · exact b5 h x1 x2 x3 (by first | exact fun q => c_84 q.1 | exact fun q => c_93 q.2) hR hs
      · refine aw_aload_n dX5_readLine_96 rfl ?_
        refine aw_iconst (v := nI 1) dX5_readLine_97 rfl ?_
        refine mm_call dX5_readLine_98 sX5_335 rfl hW hR hs (mm_formula (s := s) (v := 1) hP (by decide) h2) rfl rfl ⟨Nat.le_of_ble_eq_true rfl, Nat.le_of_ble_eq_true rfl⟩ (Nat.le_of_ble_eq_true rfl) (fun h hR hs => ?_)
        refine aw_goto (tgt := 149) dX5_readLine_101 (by decide) ?_
        exact fin (mm_fm s 1) h (e0 ⟨c_84, c_93⟩) (mm_fm_P hP (by decide) h2).2.1 hR hs
  have b3 : ∀ h, ¬ (mm_isW s 32497644331170163 ∧ mm_n s 43 = 0) → ¬ (mm_isW s 127978992397940 ∧ mm_n s 39 < 8) → mm_R G w h s → mm_same w h0 h → AW G (aw_rm 6 0 0) yX5_readLine cX5_readLine 1 none (aw_N G (mm_Po G w h0 none (mm_rl s)) 0 0) 0 0 h 50 [(0, .ref w.1)] [] := by
    intro h x1 x2 hR hs
    have e0 : mm_isW s 109330362692723 ∧ mm_a s 19 0 = 0 → mm_rl1 s = mm_fm s 0 := fun y => by
      unfold mm_rl1
      rw [if_neg x1, if_neg x2, if_pos y]
    refine aw_aload_n dX5_readLine_50 rfl ?_
    refine aw_ldc2 dX5_readLine_51 q1640 ?_
    refine mm_call dX5_readLine_54 sX5_223 rfl hW hR hs (mm_isWord (s := s) c6) rfl rfl ⟨Nat.le_of_ble_eq_true rfl, Nat.le_of_ble_eq_true rfl⟩ (Nat.le_of_ble_eq_true rfl) (fun h hR hs => ?_)
    refine aw_if_eqB (tgt := 77) dX5_readLine_57 (by decide) (fun c_57 => ?_) (fun c_57 => ?_)
    · exact b4 h x1 x2 (by first | exact fun q => c_57 q.1 | exact fun q => c_66 q.2) hR hs
    · refine aw_aload_n dX5_readLine_60 rfl ?_
      refine aw_get dX5_readLine_61 fX5_45 rfl hR.1 (by rfl) ?_
      refine aw_iconst (v := nI 0) dX5_readLine_64 rfl ?_
      refine aw_zaldN dX5_readLine_65 (hR.2.2.1 19 2 rfl) (by decide) (by decide) ?_
      refine aw_if_neN (tgt := 77) dX5_readLine_66 (by decide) (by omega) (fun c_66 => ?_) (fun c_66 => ?_)
      · exact b4 h x1 x2 (by first | exact fun q => c_57 q.1 | exact fun q => c_66 q.2) hR hs
      · refine aw_aload_n dX5_readLine_69 rfl ?_
        refine aw_iconst (v := nI 0) dX5_readLine_70 rfl ?_
        refine mm_call dX5_readLine_71 sX5_335 rfl hW hR hs (mm_formula (s := s) (v := 0) hP (by decide) h2) rfl rfl ⟨Nat.le_of_ble_eq_true rfl, Nat.le_of_ble_eq_true rfl⟩ (Nat.le_of_ble_eq_true rfl) (fun h hR hs => ?_)
        refine aw_goto (tgt := 149) dX5_readLine_74 (by decide) ?_
        exact fin (mm_fm s 0) h (e0 ⟨c_57, c_66⟩) (mm_fm_P hP (by decide) h2).2.1 hR hs
  have b2 : ∀ h, ¬ (mm_isW s 32497644331170163 ∧ mm_n s 43 = 0) → mm_R G w h s → mm_same w h0 h → AW G (aw_rm 6 0 0) yX5_readLine cX5_readLine 1 none (aw_N G (mm_Po G w h0 none (mm_rl s)) 0 0) 0 0 h 24 [(0, .ref w.1)] [] := by
    intro h x1 hR hs
    have e0 : mm_isW s 127978992397940 ∧ mm_n s 39 < 8 → mm_rl1 s = mm_rt s := fun y => by
      unfold mm_rl1
      rw [if_neg x1, if_pos y]
    have go : ∀ h, mm_n s 39 < 8 → mm_isW s 127978992397940 → mm_R G w h s → mm_same w h0 h → AW G (aw_rm 6 0 0) yX5_readLine cX5_readLine 1 none (aw_N G (mm_Po G w h0 none (mm_rl s)) 0 0) 0 0 h 43 [(0, .ref w.1)] [] := by
      intro h y1 y2 hR hs
      refine aw_aload_n dX5_readLine_43 rfl ?_
      refine mm_call dX5_readLine_44 sX5_332 rfl hW hR hs (mm_readTenant (s := s) hP z y1 h3) rfl rfl ⟨Nat.le_of_ble_eq_true rfl, Nat.le_of_ble_eq_true rfl⟩ (Nat.le_of_ble_eq_true rfl) (fun h hR hs => ?_)
      refine aw_goto (tgt := 149) dX5_readLine_47 (by decide) ?_
      exact fin (mm_rt s) h (e0 ⟨y2, y1⟩) (mm_rt_39 hP).1 hR hs
    refine aw_aload_n dX5_readLine_24 rfl ?_
    refine aw_ldc2 dX5_readLine_25 q1618 ?_
    refine mm_call dX5_readLine_28 sX5_223 rfl hW hR hs (mm_isWord (s := s) c6) rfl rfl ⟨Nat.le_of_ble_eq_true rfl, Nat.le_of_ble_eq_true rfl⟩ (Nat.le_of_ble_eq_true rfl) (fun h hR hs => ?_)
    refine aw_if_eqB (tgt := 50) dX5_readLine_31 (by decide) (fun c_31 => ?_) (fun c_31 => ?_)
    · exact b3 h x1 (by first | exact fun q => c_31 q.1 | (intro q; exact absurd q.2 (by omega))) hR hs
    · refine aw_aload_n dX5_readLine_34 rfl ?_
      refine aw_get dX5_readLine_35 fX5_248 rfl hR.1 (by rfl) ?_
      refine aw_bipush (v := nI 8) dX5_readLine_38 rfl ?_
      refine aw_icmp_geN (tgt := 50) dX5_readLine_40 (by decide) (by omega) (by omega) (fun c_40 => ?_) (fun c_40 => ?_)
      · exact b3 h x1 (by first | exact fun q => c_31 q.1 | (intro q; exact absurd q.2 (by omega))) hR hs
      · exact go h (by omega) c_31 hR hs
  refine aw_aload_n dX5_readLine_0 rfl ?_
  refine aw_ldc2 dX5_readLine_1 q1588 ?_
  refine mm_call dX5_readLine_4 sX5_223 rfl hW hR hs (mm_isWord (s := s) c6) rfl rfl ⟨Nat.le_of_ble_eq_true rfl, Nat.le_of_ble_eq_true rfl⟩ (Nat.le_of_ble_eq_true rfl) (fun h hR hs => ?_)
  refine aw_if_eqB (tgt := 24) dX5_readLine_7 (by decide) (fun c_7 => ?_) (fun c_7 => ?_)
  · exact b2 h (by first | exact fun q => c_7 q.1 | exact fun q => c_14 q.2) hR hs
  · refine aw_aload_n dX5_readLine_10 rfl ?_
    refine aw_get dX5_readLine_11 fX5_325 rfl hR.1 (by rfl) ?_
    refine aw_if_neN (tgt := 24) dX5_readLine_14 (by decide) (by omega) (fun c_14 => ?_) (fun c_14 => ?_)
    · exact b2 h (by first | exact fun q => c_7 q.1 | exact fun q => c_14 q.2) hR hs
    · refine aw_aload_n dX5_readLine_17 rfl ?_
      refine mm_call dX5_readLine_18 sX5_329 rfl hW hR hs (mm_readStoreys (s := s) hP) rfl rfl ⟨Nat.le_of_ble_eq_true rfl, Nat.le_of_ble_eq_true rfl⟩ (Nat.le_of_ble_eq_true rfl) (fun h hR hs => ?_)
      refine aw_goto (tgt := 149) dX5_readLine_21 (by decide) ?_
      exact fin (mm_rs s) h (by unfold mm_rl1; rw [if_pos ⟨c_7, c_14⟩]) (mm_rs_ok hP).1 hR hs

