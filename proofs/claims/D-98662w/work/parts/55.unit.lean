set_option maxRecDepth 100000
/-! the model: a unit -/
theorem mm_Met.eqv {y : MethodName} {cc : ByteArray} {nL : Nat} {ret : Option FieldType} {f : Nat} {args : List Value} {s s2 s3 : mm_S} {r r2 : Option Value} (h : mm_Met y cc nL ret f args s r s2) (e : r = r2) (e2 : s2 = s3) : mm_Met y cc nL ret f args s r2 s3 := e ▸ e2 ▸ h
/-- how tightly the top binds, 0: a bracket, a not, nothing -/
def sp_tt (f : Nat → Nat) : Nat → Nat
  | 0 => 0
  | k + 1 => if f k = 20 ∨ f k = 21 then 0 else sp_tight (f k)
theorem sp_tt_le (f : Nat → Nat) (k : Nat) : sp_tt f k ≤ 6 := by
  cases k with
  | zero => exact Nat.zero_le _
  | succ k =>
    show (if f k = 20 ∨ f k = 21 then 0 else sp_tight (f k)) ≤ 6
    split
    · exact Nat.zero_le _
    · exact sp_tight_le _
theorem sp_dp_c {f g : Nat → Nat} : ∀ n, (∀ j, j < n → f j = g j) → sp_dp f n = sp_dp g n := by
  intro n
  induction n with
  | zero => intro _; rfl
  | succ n ih =>
    intro h
    show sp_dp f n + _ = sp_dp g n + _
    rw [ih (fun j hj => h j (by omega)), h n (by omega)]
theorem sp_tt_c {f g : Nat → Nat} {n : Nat} (h : ∀ j, j < n → f j = g j) : sp_tt f n = sp_tt g n := by
  cases n with
  | zero => rfl
  | succ n =>
    show (if f n = 20 ∨ f n = 21 then 0 else sp_tight (f n)) = (if g n = 20 ∨ g n = 21 then 0 else sp_tight (g n))
    rw [h n (by omega)]
/-- a formula on its way: b more steps or signs than nine a unit -/
def mm_fI (b : Nat) (s : mm_S) : Prop := mm_okP s ∧ mm_n s 20 < 2 ∧ (∀ j, j < mm_n s 21 → sp_osg (mm_a s 17 j)) ∧ mm_n s 25 = sp_dp (mm_a s 17) (mm_n s 21) ∧ mm_n s 25 ≤ 7 ∧ mm_n s 24 ≤ 30 ∧ mm_n s 22 ≤ 60 ∧ (∀ j, j ≤ mm_n s 21 → j ≤ 7 * sp_dp (mm_a s 17) j + sp_tt (mm_a s 17) j) ∧ mm_a s 13 (mm_n s 20) + mm_n s 21 ≤ 9 * mm_n s 24 + b
theorem mm_fI.opens {b : Nat} {s : mm_S} (h : mm_fI b s) : mm_n s 21 ≤ 55 := by
  obtain ⟨h1, h2, h3, h4, h5, h6, h7, h8, h9⟩ := h
  have := h8 _ (Nat.le_refl _)
  have := sp_tt_le (mm_a s 17) (mm_n s 21)
  omega
theorem mm_wr_2 {s : mm_S} {v : Nat} (h : mm_n s 2 = 0) (hv : v ≠ 0) : mm_n (mm_wr s v) 2 ≠ 0 := by
  rw [mm_wr_n h]
  split <;> omega
/-- fields that a token leaves -/
theorem mm_fI.tk {b : Nat} {s : mm_S} (h : mm_fI b s) : mm_fI b (mm_tk s) := by
  obtain ⟨h1, h2⟩ := h
  exact ⟨mm_tk_ok h1, h2⟩
theorem mm_opS_fI {b : Nat} {s : mm_S} {v : Nat} (h : mm_fI b s) (hv : v = 20 ∨ v = 21) (hd : mm_n s 25 ≤ 6) : mm_fI (b + 1) (mm_opS s v) := by
  have ho := h.opens
  obtain ⟨h1, h2, h3, h4, h5, h6, h7, h8, h9⟩ := h
  have e17 : mm_a (mm_opS s v) 17 = aw_u (mm_a s 17) (mm_n s 21) v := rfl
  have e21 : mm_n (mm_opS s v) 21 = mm_n s 21 + 1 := rfl
  have e25 : mm_n (mm_opS s v) 25 = mm_n s 25 + 1 := rfl
  have pre : ∀ n, n ≤ mm_n s 21 → ∀ j, j < n → aw_u (mm_a s 17) (mm_n s 21) v j = mm_a s 17 j := fun n hn j hj => aw_u_n (by omega)
  have dn : sp_dp (aw_u (mm_a s 17) (mm_n s 21) v) (mm_n s 21 + 1) = sp_dp (mm_a s 17) (mm_n s 21) + 1 := by
    show sp_dp _ (mm_n s 21) + (if aw_u (mm_a s 17) (mm_n s 21) v (mm_n s 21) = 20 ∨ aw_u (mm_a s 17) (mm_n s 21) v (mm_n s 21) = 21 then 1 else 0) = _
    rw [aw_u_s, if_pos hv, sp_dp_c _ (pre _ (Nat.le_refl _))]
  refine ⟨mm_ok_A (s := s) (k := 17) (by decide) h1, h2, ?_, ?_, ?_, h6, h7, ?_, ?_⟩
  · intro j hj
    rw [e21] at hj
    rw [e17]
    by_cases z : j = mm_n s 21
    · rw [z, aw_u_s]
      unfold sp_osg
      omega
    · rw [aw_u_n z]
      exact h3 j (by omega)
  · rw [e25, e21, e17, dn, h4]
  · rw [e25]; omega
  · intro j hj
    rw [e21] at hj
    rw [e17]
    by_cases z : j = mm_n s 21 + 1
    · rw [z, dn]
      have q1 := h8 _ (Nat.le_refl _)
      have q2 := sp_tt_le (mm_a s 17) (mm_n s 21)
      omega
    · rw [sp_dp_c j (pre j (by omega)), sp_tt_c (pre j (by omega))]
      exact h8 j (by omega)
  · show mm_a s 13 (mm_n s 20) + (mm_n s 21 + 1) ≤ 9 * mm_n s 24 + (b + 1)
    omega
def mm_cnt (s : mm_S) : mm_S := mm_setN (mm_setN s 22 (mm_n s 22 + 1)) 24 (mm_n s 24 + 1)
theorem mm_cnt_fI {b b2 : Nat} {s : mm_S} (h : mm_fI b s) (hu : mm_n s 24 < 30) (hn : mm_n s 22 < 60) (hb : b ≤ b2 + 9) : mm_fI b2 (mm_cnt s) := by
  obtain ⟨h1, h2, h3, h4, h5, h6, h7, h8, h9⟩ := h
  refine ⟨h1, h2, h3, h4, h5, ?_, ?_, h8, ?_⟩
  · show mm_n s 24 + 1 ≤ 30
    omega
  · show mm_n s 22 + 1 ≤ 60
    omega
  · show mm_a s 13 (mm_n s 20) + mm_n s 21 ≤ 9 * (mm_n s 24 + 1) + b2
    omega
/-- nots and brackets ahead of a unit: n at most -/
abbrev mm_isNot (s : mm_S) : Prop := (mm_n s 6 = 1 ∧ mm_w s = 7237492) ∧ (mm_n s 21 = 0 ∨ mm_a s 17 (mm_n s 21 - 1) = 20 ∨ sp_tight (mm_a s 17 (mm_n s 21 - 1)) < 4)
abbrev mm_noB (s : mm_S) : Prop := (mm_n s 22 = 60 ∨ mm_n s 24 = 30) ∨ 6 < mm_n s 25
def mm_uN (s : mm_S) : mm_S := mm_opnS (if 6 < mm_n s 25 then mm_wr s 2 else s) 21
def mm_uB (s : mm_S) : mm_S := mm_opnS (mm_cnt (if mm_noB s then mm_wr s 2 else s)) 20
def mm_ul : Nat → mm_S → mm_S
  | 0, s => s
  | n + 1, s => if mm_n s 2 = 0 then (if mm_isNot s then mm_ul n (mm_uN s) else if mm_n s 6 = 40 then mm_ul n (mm_uB s) else s) else s
theorem mm_opn_0 {s : mm_S} {v : Nat} (h : mm_n s 2 = 0) : mm_opnS s v = mm_tk (mm_opS s v) := if_pos h
theorem mm_opn_1 {s : mm_S} {v : Nat} (h : mm_n s 2 ≠ 0) : mm_opnS s v = mm_opS s v := if_neg h
theorem mm_opS_ok {s : mm_S} {v : Nat} (h : mm_okP s) : mm_okP (mm_opS s v) := mm_ok_A (s := s) (k := 17) (by decide) h
theorem mm_opn_ok {s : mm_S} {v : Nat} (h : mm_okP s) : mm_okP (mm_opnS s v) := by
  by_cases z : mm_n s 2 = 0
  · rw [mm_opn_0 z]
    exact mm_tk_ok (mm_opS_ok h)
  · rw [mm_opn_1 z]
    exact mm_opS_ok h
theorem mm_opn_2 {s : mm_S} {v : Nat} : mm_n (mm_opnS s v) 2 = mm_n s 2 := by
  by_cases z : mm_n s 2 = 0
  · rw [mm_opn_0 z]
    rfl
  · rw [mm_opn_1 z]
    rfl
/-- at a place where a unit is wanted -/
def mm_uI (s : mm_S) : Prop := mm_okP s ∧ (mm_n s 2 = 0 → mm_fI (1 + mm_n s 25) s)
theorem mm_uN_I {s : mm_S} (h2 : mm_n s 2 = 0) (h : mm_fI (1 + mm_n s 25) s) : mm_okP (mm_uN s) ∧ (mm_n (mm_uN s) 2 = 0 → mm_fI (1 + mm_n (mm_uN s) 25) (mm_uN s) ∧ mm_n (mm_uN s) 25 = mm_n s 25 + 1 ∧ mm_n (mm_uN s) 24 = mm_n s 24) := by
  unfold mm_uN
  by_cases z : 6 < mm_n s 25
  · rw [if_pos z]
    refine ⟨mm_opn_ok (mm_wr_ok h.1 (by decide)), fun q => ?_⟩
    rw [mm_opn_2] at q
    exact absurd q (mm_wr_2 h2 (by decide))
  · rw [if_neg z]
    refine ⟨mm_opn_ok h.1, fun _ => ?_⟩
    rw [mm_opn_0 h2]
    have k := (mm_opS_fI (v := 21) h (Or.inr rfl) (by omega)).tk
    have e : mm_n (mm_tk (mm_opS s 21)) 25 = mm_n s 25 + 1 := rfl
    refine ⟨?_, e, rfl⟩
    rw [e, show 1 + (mm_n s 25 + 1) = 1 + mm_n s 25 + 1 by omega]
    exact k
theorem mm_uB_I {s : mm_S} (h2 : mm_n s 2 = 0) (h : mm_fI (1 + mm_n s 25) s) : mm_okP (mm_uB s) ∧ (mm_n (mm_uB s) 2 = 0 → mm_fI (1 + mm_n (mm_uB s) 25) (mm_uB s) ∧ mm_n (mm_uB s) 25 = mm_n s 25 + 1 ∧ mm_n (mm_uB s) 24 = mm_n s 24 + 1) := by
  have h0 := h
  obtain ⟨h1, -, -, -, h5, h6, h7, -, -⟩ := h0
  unfold mm_uB
  by_cases z : mm_noB s
  · rw [if_pos z]
    refine ⟨mm_opn_ok (mm_wr_ok (s := s) h.1 (by decide)), fun q => ?_⟩
    rw [mm_opn_2] at q
    exact absurd q (mm_wr_2 h2 (by decide))
  · rw [if_neg z]
    unfold mm_noB at z
    refine ⟨mm_opn_ok (s := mm_cnt s) h.1, fun _ => ?_⟩
    rw [mm_opn_0 (s := mm_cnt s) h2]
    have k := (mm_opS_fI (s := mm_cnt s) (v := 20) (mm_cnt_fI (b2 := 1 + mm_n s 25) h (by omega) (by omega) (by omega)) (Or.inl rfl) (by show mm_n s 25 ≤ 6; omega)).tk
    have e : mm_n (mm_tk (mm_opS (mm_cnt s) 20)) 25 = mm_n s 25 + 1 := rfl
    refine ⟨?_, e, rfl⟩
    rw [e, show 1 + (mm_n s 25 + 1) = 1 + mm_n s 25 + 1 by omega]
    exact k
theorem mm_ul_f {s : mm_S} (h : mm_n s 2 ≠ 0) (n : Nat) : mm_ul n s = s := by
  cases n with
  | zero => rfl
  | succ n => exact if_neg h
theorem mm_ul_N {s : mm_S} {n : Nat} (h : mm_n s 2 = 0) (y : mm_isNot s) : mm_ul (n + 1) s = mm_ul n (mm_uN s) := (if_pos h).trans (if_pos y)
theorem mm_ul_B {s : mm_S} {n : Nat} (h : mm_n s 2 = 0) (y : ¬ mm_isNot s) (x : mm_n s 6 = 40) : mm_ul (n + 1) s = mm_ul n (mm_uB s) := (if_pos h).trans ((if_neg y).trans (if_pos x))
theorem mm_ul_E {s : mm_S} {n : Nat} (y : ¬ mm_isNot s) (x : ¬ mm_n s 6 = 40) : mm_ul n s = s := by
  cases n with
  | zero => rfl
  | succ n =>
    by_cases h : mm_n s 2 = 0
    · exact (if_pos h).trans ((if_neg y).trans (if_neg x))
    · exact if_neg h
theorem mm_ul_I : ∀ (n : Nat) (s : mm_S), mm_uI s → mm_uI (mm_ul n s) ∧ (mm_n (mm_ul n s) 2 = 0 → mm_n s 24 ≤ mm_n (mm_ul n s) 24) := by
  intro n
  induction n with
  | zero => intro s h; exact ⟨h, fun _ => Nat.le_refl _⟩
  | succ n ih =>
    intro s h
    by_cases z : mm_n s 2 = 0
    · have hf := h.2 z
      by_cases y : mm_isNot s
      · obtain ⟨k1, k2⟩ := mm_uN_I z hf
        obtain ⟨j1, j2⟩ := ih (mm_uN s) ⟨k1, fun q => (k2 q).1⟩
        rw [mm_ul_N z y]
        refine ⟨j1, fun q => ?_⟩
        by_cases x : mm_n (mm_uN s) 2 = 0
        · have a := j2 q
          have b := (k2 x).2.2
          omega
        · rw [mm_ul_f x] at q
          exact absurd q x
      · by_cases x : mm_n s 6 = 40
        · obtain ⟨k1, k2⟩ := mm_uB_I z hf
          obtain ⟨j1, j2⟩ := ih (mm_uB s) ⟨k1, fun q => (k2 q).1⟩
          rw [mm_ul_B z y x]
          refine ⟨j1, fun q => ?_⟩
          by_cases x : mm_n (mm_uB s) 2 = 0
          · have a := j2 q
            have b := (k2 x).2.2
            omega
          · rw [mm_ul_f x] at q
            exact absurd q x
        · rw [mm_ul_E y x]
          exact ⟨h, fun _ => Nat.le_refl _⟩
    · rw [mm_ul_f z]
      exact ⟨h, fun _ => Nat.le_refl _⟩
def mm_akN (s : mm_S) : Nat := if mm_n s 6 = 1 then (if mm_w s = 32497644331170163 then 0 else if mm_w s = 448377484921 then 1 else if mm_w s = 474214787188 then 2 else if mm_w s = 2003133803 then 3 else if mm_w s = 27985222756885860 then 4 else if mm_w s = 1818846836 then 5 else 6) else 6
theorem mm_akN_le (s : mm_S) : mm_akN s ≤ 6 := by
  unfold mm_akN
  repeat' split
  all_goals decide
theorem mm_ak {s : mm_S} : mm_askd s = if mm_akN s < 6 then nI (mm_akN s) else -1 := by
  unfold mm_askd mm_akN
  by_cases h : mm_n s 6 = 1
  · rw [if_pos h, if_pos h]
    by_cases h1 : mm_w s = 32497644331170163
    · rw [if_pos h1, if_pos h1]; rfl
    · rw [if_neg h1, if_neg h1]
      by_cases h2 : mm_w s = 448377484921
      · rw [if_pos h2, if_pos h2]; rfl
      · rw [if_neg h2, if_neg h2]
        by_cases h3 : mm_w s = 474214787188
        · rw [if_pos h3, if_pos h3]; rfl
        · rw [if_neg h3, if_neg h3]
          by_cases h4 : mm_w s = 2003133803
          · rw [if_pos h4, if_pos h4]; rfl
          · rw [if_neg h4, if_neg h4]
            by_cases h5 : mm_w s = 27985222756885860
            · rw [if_pos h5, if_pos h5]; rfl
            · rw [if_neg h5, if_neg h5]
              by_cases h6 : mm_w s = 1818846836
              · rw [if_pos h6, if_pos h6]; rfl
              · rw [if_neg h6, if_neg h6]; rfl
  · rw [if_neg h, if_neg h]; rfl
abbrev mm_bad2 (s : mm_S) : Prop := (mm_n s 6 ≠ 2 ∧ mm_akN s = 6) ∨ (mm_n s 22 = 60 ∨ mm_n s 24 = 30)
def mm_psh (s : mm_S) : mm_S := mm_tk (mm_addS (mm_cnt s) (if mm_akN s < 6 then 1 else 0) (if mm_akN s < 6 then mm_akN s else mm_n s 8))
def mm_u2 (s : mm_S) : mm_S := if mm_n s 2 = 0 then (if mm_bad2 s then mm_wr s 2 else mm_psh s) else s
def mm_unt (s : mm_S) : mm_S := mm_u2 (mm_ul 8 s)
/-- what a unit leaves -/
theorem mm_add_ok {s : mm_S} {x v : Nat} (h : mm_okP s) : mm_okP (mm_addS s x v) := by
  unfold mm_addS
  exact mm_ok_A (by decide) (mm_ok_A (by decide) (mm_ok_A (by decide) h))
theorem mm_psh_I {s : mm_S} (h : mm_fI (1 + mm_n s 25) s) (hu : mm_n s 24 < 30) (hn : mm_n s 22 < 60) : mm_fI 0 (mm_psh s) ∧ mm_n (mm_psh s) 24 = mm_n s 24 + 1 ∧ mm_n (mm_psh s) 25 = mm_n s 25 := by
  obtain ⟨h1, h2, h3, h4, h5, h6, h7, h8, h9⟩ := h
  refine ⟨⟨mm_tk_ok (mm_add_ok (s := mm_cnt s) h1), h2, h3, h4, h5, ?_, ?_, h8, ?_⟩, rfl, rfl⟩
  · show mm_n s 24 + 1 ≤ 30
    omega
  · show mm_n s 22 + 1 ≤ 60
    omega
  · show mm_a (mm_addS (mm_cnt s) _ _) 13 (mm_n s 20) + mm_n s 21 ≤ 9 * (mm_n s 24 + 1) + 0
    rw [show mm_a (mm_addS (mm_cnt s) (if mm_akN s < 6 then 1 else 0) (if mm_akN s < 6 then mm_akN s else mm_n s 8)) 13 (mm_n s 20) = mm_a s 13 (mm_n s 20) + 1 from mm_add_13 (s := mm_cnt s)]
    omega
theorem mm_unt_I {s : mm_S} (h : mm_uI s) : mm_okP (mm_unt s) ∧ (mm_n (mm_unt s) 2 = 0 → mm_fI 0 (mm_unt s) ∧ mm_n s 24 + 1 ≤ mm_n (mm_unt s) 24) := by
  obtain ⟨j1, j2⟩ := mm_ul_I 8 s h
  unfold mm_unt mm_u2
  by_cases z : mm_n (mm_ul 8 s) 2 = 0
  · rw [if_pos z]
    have hf := j1.2 z
    by_cases y : mm_bad2 (mm_ul 8 s)
    · rw [if_pos y]
      exact ⟨mm_wr_ok j1.1 (by decide), fun q => absurd q (mm_wr_2 z (by decide))⟩
    · rw [if_neg y]
      unfold mm_bad2 at y
      have b1 := hf.2.2.2.2.2.1
      have b2 := hf.2.2.2.2.2.2.1
      obtain ⟨k1, k2, k3⟩ := mm_psh_I hf (by omega) (by omega)
      have b3 := j2 z
      exact ⟨k1.1, fun _ => ⟨k1, by omega⟩⟩
  · rw [if_neg z]
    exact ⟨j1.1, fun q => absurd q z⟩
set_option maxHeartbeats 4000000 in
theorem mm_unit {s : mm_S} (hI : mm_uI s) : mm_Met yX5_unit cX5_unit 3 none 3 [] s none (mm_unt s) := by
  refine mm_Met.of (by decide +kernel) (fun _ => Nat.le_of_ble_eq_true rfl) (fun G w h0 hW hR => ?_)
  have hs : mm_same w h0 h0 := mm_same.rf
  show AW G (aw_rm 3 0 0) yX5_unit cX5_unit 3 none (aw_N G (mm_Po G w h0 none (mm_unt s)) 0 0) 0 0 h0 0 [(0, .ref w.1)] []
  have fin : ∀ (t : mm_S) (v : Nat) (h : aw_H), mm_uI t → mm_u2 t = mm_unt s → mm_R G w h t → mm_same w h0 h → AW G (aw_rm 3 0 0) yX5_unit cX5_unit 3 none (aw_N G (mm_Po G w h0 none (mm_unt s)) 0 0) 0 0 h 101 [(0, .ref w.1), (1, .int (nI v))] [] := by
    intro t v h hJ eq hR hs
    obtain ⟨p1, p2, p3, p4, p5, p6, p7⟩ := hJ.1
    by_cases z : mm_n t 2 = 0
    · have hf := hJ.2 z
      have ho := hf.opens
      obtain ⟨i1, i2, i3, i4, i5, i6, i7, i8, i9⟩ := hf
      have wr2 : ∀ (a : Int32) (h : aw_H), mm_bad2 t → mm_R G w h (mm_wr t 2) → mm_same w h0 h → AW G (aw_rm 3 0 0) yX5_unit cX5_unit 3 none (aw_N G (mm_Po G w h0 none (mm_unt s)) 0 0) 0 0 h 138 [(0, .ref w.1), (1, .int (nI v)), (2, .int a)] [] := by
        intro a h y hR hs
        have e9 : mm_n (mm_wr t 2) 2 = if mm_n t 6 = 3 then 1 else 2 := mm_wr_n z
        have e2 : 0 < mm_n (mm_wr t 2) 2 ∧ mm_n (mm_wr t 2) 2 ≤ 2 := by rw [e9]; split <;> omega
        refine aw_aload_n dX5_unit_138 rfl ?_
        refine aw_get dX5_unit_139 fX5_182 rfl hR.1 (by rfl) ?_
        refine aw_if_leN (tgt := 146) dX5_unit_142 (by decide) (by omega) (fun c_142 => by exfalso; omega) (fun c_142 => ?_)
        refine aw_vreturn dX5_unit_145 rfl ?_
        exact ⟨rfl, mm_eq hR (by rw [← eq]; unfold mm_u2; rw [if_pos z, if_pos y]), hs⟩
      have cw : mm_Met _ _ _ _ _ _ t none (mm_wr t 2) := mm_wrong (s := t) (v := 2) (by omega) (by omega)
      have k6 := mm_akN_le t
      by_cases k : mm_akN t < 6
      · have ca : mm_Met _ _ _ _ _ _ t (some (.int (nI (mm_akN t)))) t := (mm_asked (s := t) p4).eqv (by rw [mm_ak, if_pos k]) rfl
        have good : ∀ h, ¬ mm_bad2 t → mm_R G w h t → mm_same w h0 h → AW G (aw_rm 3 0 0) yX5_unit cX5_unit 3 none (aw_N G (mm_Po G w h0 none (mm_unt s)) 0 0) 0 0 h 138 [(0, .ref w.1), (1, .int (nI v)), (2, .int (nI (mm_akN t)))] [] := by
          intro h y hR hs
          have y2 := y
          unfold mm_bad2 at y2
          have cadd : mm_Met _ _ _ _ _ _ (mm_cnt t) none (mm_addS (mm_cnt t) 1 (mm_akN t)) := mm_add (s := mm_cnt t) i2 (by show mm_a t 13 (mm_n t 20) < 320; omega)
          have ctk : mm_Met _ _ _ _ _ _ (mm_addS (mm_cnt t) 1 (mm_akN t)) none (mm_tk (mm_addS (mm_cnt t) 1 (mm_akN t))) := mm_token p1 p2 p3
          refine aw_aload_n dX5_unit_138 rfl ?_
          refine aw_get dX5_unit_139 fX5_182 rfl hR.1 (by rfl) ?_
          refine aw_if_leN (tgt := 146) dX5_unit_142 (by decide) (by omega) (fun c_142 => ?_) (fun c_142 => by exfalso; omega)
          refine aw_aload_n dX5_unit_146 rfl ?_
          refine mm_call dX5_unit_147 sX5_282 rfl hW hR hs (mm_countUnit) rfl rfl ⟨Nat.le_of_ble_eq_true rfl, Nat.le_of_ble_eq_true rfl⟩ (Nat.le_of_ble_eq_true rfl) (fun h hR hs => ?_)
          refine aw_aload_n dX5_unit_150 rfl ?_
          refine aw_iload_n dX5_unit_151 rfl ?_
          refine aw_if_geN (tgt := 159) dX5_unit_152 (by decide) (by omega) ?_
          refine aw_iconst (v := nI 1) dX5_unit_159 rfl ?_
          refine aw_iload_n dX5_unit_160 rfl ?_
          refine aw_if_geN (tgt := 171) dX5_unit_161 (by decide) (by omega) ?_
          refine aw_iload_n dX5_unit_171 rfl ?_
          refine mm_call dX5_unit_172 sX5_260 rfl hW hR hs cadd rfl rfl ⟨Nat.le_of_ble_eq_true rfl, Nat.le_of_ble_eq_true rfl⟩ (Nat.le_of_ble_eq_true rfl) (fun h hR hs => ?_)
          refine aw_aload_n dX5_unit_175 rfl ?_
          refine mm_call dX5_unit_176 sX5_230 rfl hW hR hs ctk rfl rfl ⟨Nat.le_of_ble_eq_true rfl, Nat.le_of_ble_eq_true rfl⟩ (Nat.le_of_ble_eq_true rfl) (fun h hR hs => ?_)
          refine aw_vreturn dX5_unit_179 rfl ?_
          exact ⟨rfl, mm_eq hR (by rw [← eq]; unfold mm_u2 mm_psh; rw [if_pos z, if_neg y, if_pos k, if_pos k]), hs⟩
        refine aw_aload_n dX5_unit_101 rfl ?_
        refine aw_get dX5_unit_102 fX5_182 rfl hR.1 (by rfl) ?_
        refine aw_if_leN (tgt := 109) dX5_unit_105 (by decide) (by omega) (fun c_105 => ?_) (fun c_105 => by exfalso; omega)
        refine aw_aload_n dX5_unit_109 rfl ?_
        refine mm_call dX5_unit_110 sX5_285 rfl hW hR hs ca rfl rfl ⟨Nat.le_of_ble_eq_true rfl, Nat.le_of_ble_eq_true rfl⟩ (Nat.le_of_ble_eq_true rfl) (fun h hR hs => ?_)
        refine aw_istore_n dX5_unit_113 (by decide) rfl rfl ?_
        refine aw_aload_n dX5_unit_114 rfl ?_
        refine aw_get dX5_unit_115 fX5_169 rfl hR.1 (by rfl) ?_
        refine aw_iconst (v := nI 2) dX5_unit_118 rfl ?_
        refine aw_icmp_eqN (tgt := 126) dX5_unit_119 (by decide) (by omega) (by omega) (fun c_119 => ?_) (fun c_119 => ?_)
        · refine aw_aload_n dX5_unit_126 rfl ?_
          refine mm_call dX5_unit_127 sX5_279 rfl hW hR hs (mm_isFull (s := t) (by omega) (by omega)) rfl rfl ⟨Nat.le_of_ble_eq_true rfl, Nat.le_of_ble_eq_true rfl⟩ (Nat.le_of_ble_eq_true rfl) (fun h hR hs => ?_)
          refine aw_if_eqB (tgt := 138) dX5_unit_130 (by decide) (fun c_130 => ?_) (fun c_130 => ?_)
          · first
            | exact wr2 _ h (Or.inr c_130) hR hs
            | exact good h (fun q => q.elim (fun q => absurd k (by omega)) (fun q => c_130 q)) hR hs
          · refine aw_aload_n dX5_unit_133 rfl ?_
            refine aw_iconst (v := nI 2) dX5_unit_134 rfl ?_
            refine mm_call dX5_unit_135 sX5_227 rfl hW hR hs cw rfl rfl ⟨Nat.le_of_ble_eq_true rfl, Nat.le_of_ble_eq_true rfl⟩ (Nat.le_of_ble_eq_true rfl) (fun h hR hs => ?_)
            first
            | exact wr2 _ h (Or.inr c_130) hR hs
            | exact good h (fun q => q.elim (fun q => absurd k (by omega)) (fun q => c_130 q)) hR hs
        · refine aw_iload_n dX5_unit_122 rfl ?_
          refine aw_if_ltN (tgt := 133) dX5_unit_123 (by decide) (by omega) ?_
          refine aw_aload_n dX5_unit_126 rfl ?_
          refine mm_call dX5_unit_127 sX5_279 rfl hW hR hs (mm_isFull (s := t) (by omega) (by omega)) rfl rfl ⟨Nat.le_of_ble_eq_true rfl, Nat.le_of_ble_eq_true rfl⟩ (Nat.le_of_ble_eq_true rfl) (fun h hR hs => ?_)
          refine aw_if_eqB (tgt := 138) dX5_unit_130 (by decide) (fun c_130 => ?_) (fun c_130 => ?_)
          · first
            | exact wr2 _ h (Or.inr c_130) hR hs
            | exact good h (fun q => q.elim (fun q => absurd k (by omega)) (fun q => c_130 q)) hR hs
          · refine aw_aload_n dX5_unit_133 rfl ?_
            refine aw_iconst (v := nI 2) dX5_unit_134 rfl ?_
            refine mm_call dX5_unit_135 sX5_227 rfl hW hR hs cw rfl rfl ⟨Nat.le_of_ble_eq_true rfl, Nat.le_of_ble_eq_true rfl⟩ (Nat.le_of_ble_eq_true rfl) (fun h hR hs => ?_)
            first
            | exact wr2 _ h (Or.inr c_130) hR hs
            | exact good h (fun q => q.elim (fun q => absurd k (by omega)) (fun q => c_130 q)) hR hs
      · have ca : mm_Met _ _ _ _ _ _ t (some (.int (-1))) t := (mm_asked (s := t) p4).eqv (by rw [mm_ak, if_neg k]) rfl
        have good : ∀ h, ¬ mm_bad2 t → mm_R G w h t → mm_same w h0 h → AW G (aw_rm 3 0 0) yX5_unit cX5_unit 3 none (aw_N G (mm_Po G w h0 none (mm_unt s)) 0 0) 0 0 h 138 [(0, .ref w.1), (1, .int (nI v)), (2, .int (-1))] [] := by
          intro h y hR hs
          have y2 := y
          unfold mm_bad2 at y2
          have cadd : mm_Met _ _ _ _ _ _ (mm_cnt t) none (mm_addS (mm_cnt t) 0 (mm_n t 8)) := mm_add (s := mm_cnt t) i2 (by show mm_a t 13 (mm_n t 20) < 320; omega)
          have ctk : mm_Met _ _ _ _ _ _ (mm_addS (mm_cnt t) 0 (mm_n t 8)) none (mm_tk (mm_addS (mm_cnt t) 0 (mm_n t 8))) := mm_token p1 p2 p3
          refine aw_aload_n dX5_unit_138 rfl ?_
          refine aw_get dX5_unit_139 fX5_182 rfl hR.1 (by rfl) ?_
          refine aw_if_leN (tgt := 146) dX5_unit_142 (by decide) (by omega) (fun c_142 => ?_) (fun c_142 => by exfalso; omega)
          refine aw_aload_n dX5_unit_146 rfl ?_
          refine mm_call dX5_unit_147 sX5_282 rfl hW hR hs (mm_countUnit) rfl rfl ⟨Nat.le_of_ble_eq_true rfl, Nat.le_of_ble_eq_true rfl⟩ (Nat.le_of_ble_eq_true rfl) (fun h hR hs => ?_)
          refine aw_aload_n dX5_unit_150 rfl ?_
          refine aw_iload_n dX5_unit_151 rfl ?_
          refine aw_if_ge (tgt := 159) dX5_unit_152 (by decide) (fun c_152 => by exfalso; exact absurd c_152 (by decide)) (fun c_152 => ?_)
          refine aw_iconst (v := nI 0) dX5_unit_155 rfl ?_
          refine aw_goto (tgt := 160) dX5_unit_156 (by decide) ?_
          refine aw_iload_n dX5_unit_160 rfl ?_
          refine aw_if_ge (tgt := 171) dX5_unit_161 (by decide) (fun c_161 => by exfalso; exact absurd c_161 (by decide)) (fun c_161 => ?_)
          refine aw_aload_n dX5_unit_164 rfl ?_
          refine aw_get dX5_unit_165 fX5_166 rfl hR.1 (by rfl) ?_
          try simp only [mm_n_N, mm_n_A, mm_n_V, mm_n_Fp, mm_n_W, mm_n_Nm, mm_a_N, mm_a_A, mm_a_V, mm_a_Fp, mm_a_W, mm_a_Nm, mm_v_N, mm_v_A, mm_v_V, mm_fp_N, mm_fp_A, mm_fp_Fp, mm_w_N, mm_w_W, Nat.reduceEqDiff, reduceIte, if_true, if_false, mm_H_45, mm_H_46, mm_H_47, mm_H_50, mm_H_53, mm_H_54, mm_H_55, mm_H_56, mm_H_57, mm_H_58, mm_H_66, mm_H_67, mm_H_68]
          refine aw_goto (tgt := 172) dX5_unit_168 (by decide) ?_
          refine mm_call dX5_unit_172 sX5_260 rfl hW hR hs cadd rfl rfl ⟨Nat.le_of_ble_eq_true rfl, Nat.le_of_ble_eq_true rfl⟩ (Nat.le_of_ble_eq_true rfl) (fun h hR hs => ?_)
          refine aw_aload_n dX5_unit_175 rfl ?_
          refine mm_call dX5_unit_176 sX5_230 rfl hW hR hs ctk rfl rfl ⟨Nat.le_of_ble_eq_true rfl, Nat.le_of_ble_eq_true rfl⟩ (Nat.le_of_ble_eq_true rfl) (fun h hR hs => ?_)
          refine aw_vreturn dX5_unit_179 rfl ?_
          exact ⟨rfl, mm_eq hR (by rw [← eq]; unfold mm_u2 mm_psh; rw [if_pos z, if_neg y, if_neg k, if_neg k]), hs⟩
        refine aw_aload_n dX5_unit_101 rfl ?_
        refine aw_get dX5_unit_102 fX5_182 rfl hR.1 (by rfl) ?_
        refine aw_if_leN (tgt := 109) dX5_unit_105 (by decide) (by omega) (fun c_105 => ?_) (fun c_105 => by exfalso; omega)
        refine aw_aload_n dX5_unit_109 rfl ?_
        refine mm_call dX5_unit_110 sX5_285 rfl hW hR hs ca rfl rfl ⟨Nat.le_of_ble_eq_true rfl, Nat.le_of_ble_eq_true rfl⟩ (Nat.le_of_ble_eq_true rfl) (fun h hR hs => ?_)
        refine aw_istore_n dX5_unit_113 (by decide) rfl rfl ?_
        refine aw_aload_n dX5_unit_114 rfl ?_
        refine aw_get dX5_unit_115 fX5_169 rfl hR.1 (by rfl) ?_
        refine aw_iconst (v := nI 2) dX5_unit_118 rfl ?_
        refine aw_icmp_eqN (tgt := 126) dX5_unit_119 (by decide) (by omega) (by omega) (fun c_119 => ?_) (fun c_119 => ?_)
        · refine aw_aload_n dX5_unit_126 rfl ?_
          refine mm_call dX5_unit_127 sX5_279 rfl hW hR hs (mm_isFull (s := t) (by omega) (by omega)) rfl rfl ⟨Nat.le_of_ble_eq_true rfl, Nat.le_of_ble_eq_true rfl⟩ (Nat.le_of_ble_eq_true rfl) (fun h hR hs => ?_)
          refine aw_if_eqB (tgt := 138) dX5_unit_130 (by decide) (fun c_130 => ?_) (fun c_130 => ?_)
          · first
            | exact wr2 _ h (Or.inr c_130) hR hs
            | exact wr2 _ h (Or.inl ⟨by omega, by omega⟩) hR hs
            | exact good h (fun q => q.elim (fun q => absurd q.1 (by omega)) (fun q => c_130 q)) hR hs
          · refine aw_aload_n dX5_unit_133 rfl ?_
            refine aw_iconst (v := nI 2) dX5_unit_134 rfl ?_
            refine mm_call dX5_unit_135 sX5_227 rfl hW hR hs cw rfl rfl ⟨Nat.le_of_ble_eq_true rfl, Nat.le_of_ble_eq_true rfl⟩ (Nat.le_of_ble_eq_true rfl) (fun h hR hs => ?_)
            first
            | exact wr2 _ h (Or.inr c_130) hR hs
            | exact wr2 _ h (Or.inl ⟨by omega, by omega⟩) hR hs
            | exact good h (fun q => q.elim (fun q => absurd q.1 (by omega)) (fun q => c_130 q)) hR hs
        · refine aw_iload_n dX5_unit_122 rfl ?_
          refine aw_if_lt (tgt := 133) dX5_unit_123 (by decide) (fun c_123 => ?_) (fun c_123 => by exfalso; exact absurd (by decide) c_123)
          refine aw_aload_n dX5_unit_133 rfl ?_
          refine aw_iconst (v := nI 2) dX5_unit_134 rfl ?_
          refine mm_call dX5_unit_135 sX5_227 rfl hW hR hs cw rfl rfl ⟨Nat.le_of_ble_eq_true rfl, Nat.le_of_ble_eq_true rfl⟩ (Nat.le_of_ble_eq_true rfl) (fun h hR hs => ?_)
          first
          | exact wr2 _ h (Or.inr c_130) hR hs
          | exact wr2 _ h (Or.inl ⟨by omega, by omega⟩) hR hs
          | exact good h (fun q => q.elim (fun q => absurd q.1 (by omega)) (fun q => c_130 q)) hR hs
    · have e2 : mm_n t 2 ≤ 4 := p6
      refine aw_aload_n dX5_unit_101 rfl ?_
      refine aw_get dX5_unit_102 fX5_182 rfl hR.1 (by rfl) ?_
      refine aw_if_leN (tgt := 109) dX5_unit_105 (by decide) (by omega) (fun c_105 => by exfalso; omega) (fun c_105 => ?_)
      refine aw_vreturn dX5_unit_108 rfl ?_
      exact ⟨rfl, mm_eq hR (by rw [← eq]; unfold mm_u2; rw [if_neg z]), hs⟩
  have out : ∀ (t : mm_S) (h : aw_H), mm_uI t → mm_u2 t = mm_unt s → mm_R G w h t → mm_same w h0 h → AW G (aw_rm 3 0 0) yX5_unit cX5_unit 3 none (aw_N G (mm_Po G w h0 none (mm_unt s)) 0 0) 0 0 h 2 [(0, .ref w.1), (1, .int (nI 0))] [] := by
    intro t h hJ eq hR hs
    refine aw_iload_n dX5_unit_2 rfl ?_
    refine aw_if_eqN (tgt := 101) dX5_unit_3 (by decide) (by omega) (fun c_3 => ?_) (fun c_3 => by exfalso; omega)
    exact fin t 0 h hJ eq hR hs
  have loop : ∀ (n : Nat) (t : mm_S) (h : aw_H), mm_uI t → (mm_n t 2 = 0 → 8 ≤ mm_n t 25 + n) → mm_u2 (mm_ul n t) = mm_unt s → mm_R G w h t → mm_same w h0 h → AW G (aw_rm 3 0 0) yX5_unit cX5_unit 3 none (aw_N G (mm_Po G w h0 none (mm_unt s)) 0 0) 0 0 h 2 [(0, .ref w.1), (1, .int (nI 1))] [] := by
    intro n
    induction n with
    | zero =>
      intro t h hJ hn eq hR hs
      have z : mm_n t 2 ≠ 0 := fun z => by
        have q1 := hn z
        have q2 := (hJ.2 z).2.2.2.2.1
        omega
      have e2 : mm_n t 2 ≤ 4 := hJ.1.2.2.2.2.2.1
      refine aw_iload_n dX5_unit_2 rfl ?_
      refine aw_if_eqN (tgt := 101) dX5_unit_3 (by decide) (by omega) (fun c_3 => by exfalso; omega) (fun c_3 => ?_)
      refine aw_aload_n dX5_unit_6 rfl ?_
      refine aw_get dX5_unit_7 fX5_182 rfl hR.1 (by rfl) ?_
      refine aw_if_neN (tgt := 101) dX5_unit_10 (by decide) (by omega) (fun c_10 => ?_) (fun c_10 => by exfalso; omega)
      exact fin t 1 h hJ eq hR hs
    | succ n ih =>
      intro t h hJ hn eq hR hs
      obtain ⟨p1, p2, p3, p4, p5, p6, p7⟩ := hJ.1
      by_cases z : mm_n t 2 = 0
      · have hf := hJ.2 z
        have ho := hf.opens
        have hn9 := hn z
        obtain ⟨i1, i2, i3, i4, i5, i6, i7, i8, i9⟩ := hf
        have cw : mm_Met _ _ _ _ _ _ t none (mm_wr t 2) := mm_wrong (s := t) (v := 2) (by omega) (by omega)
        have wok : mm_okP (mm_wr t 2) := mm_wr_ok hJ.1 (by decide)
        have w21 : mm_n (mm_wr t 2) 21 = mm_n t 21 := mm_wr_n2 (by decide)
        have ups : ∀ (x : mm_S) (h : aw_H), mm_isNot t → mm_okP x → mm_n x 21 = mm_n t 21 → mm_opnS x 21 = mm_uN t → mm_R G w h x → mm_same w h0 h → AW G (aw_rm 3 0 0) yX5_unit cX5_unit 3 none (aw_N G (mm_Po G w h0 none (mm_unt s)) 0 0) 0 0 h 44 [(0, .ref w.1), (1, .int (nI 1))] [] := by
          intro x h y xo x21 ex hR hs
          have cop : mm_Met _ _ _ _ _ _ x none (mm_uN t) := (mm_openUp (s := x) (v := 21) xo (by omega)).eqv rfl ex
          have k := mm_uN_I z (hJ.2 z)
          refine aw_aload_n dX5_unit_44 rfl ?_
          refine aw_bipush (v := nI 21) dX5_unit_45 rfl ?_
          refine mm_call dX5_unit_47 sX5_276 rfl hW hR hs cop rfl rfl ⟨Nat.le_of_ble_eq_true rfl, Nat.le_of_ble_eq_true rfl⟩ (Nat.le_of_ble_eq_true rfl) (fun h hR hs => ?_)
          refine aw_goto (tgt := 2) dX5_unit_50 (by decide) ?_
          exact ih (mm_uN t) h ⟨k.1, fun q => (k.2 q).1⟩ (fun q => by rw [(k.2 q).2.1]; omega) (by rw [← eq, mm_ul_N z y]) hR hs
        have bra : ∀ (x : mm_S) (h : aw_H), ¬ mm_isNot t → mm_n t 6 = 40 → mm_okP x → mm_n x 21 = mm_n t 21 → mm_n x 22 ≤ 60 → mm_n x 24 ≤ 30 → mm_opnS (mm_cnt x) 20 = mm_uB t → mm_R G w h x → mm_same w h0 h → AW G (aw_rm 3 0 0) yX5_unit cX5_unit 3 none (aw_N G (mm_Po G w h0 none (mm_unt s)) 0 0) 0 0 h 83 [(0, .ref w.1), (1, .int (nI 1))] [] := by
          intro x h y y2 xo x21 x22 x24 ex hR hs
          have cop : mm_Met _ _ _ _ _ _ (mm_cnt x) none (mm_uB t) := (mm_openUp (s := mm_cnt x) (v := 20) xo (by show mm_n x 21 < 160; omega)).eqv rfl ex
          have k := mm_uB_I z (hJ.2 z)
          refine aw_aload_n dX5_unit_83 rfl ?_
          refine mm_call dX5_unit_84 sX5_282 rfl hW hR hs (mm_countUnit) rfl rfl ⟨Nat.le_of_ble_eq_true rfl, Nat.le_of_ble_eq_true rfl⟩ (Nat.le_of_ble_eq_true rfl) (fun h hR hs => ?_)
          refine aw_aload_n dX5_unit_87 rfl ?_
          refine aw_bipush (v := nI 20) dX5_unit_88 rfl ?_
          refine mm_call dX5_unit_90 sX5_276 rfl hW hR hs cop rfl rfl ⟨Nat.le_of_ble_eq_true rfl, Nat.le_of_ble_eq_true rfl⟩ (Nat.le_of_ble_eq_true rfl) (fun h hR hs => ?_)
          refine aw_goto (tgt := 2) dX5_unit_93 (by decide) ?_
          exact ih (mm_uB t) h ⟨k.1, fun q => (k.2 q).1⟩ (fun q => by rw [(k.2 q).2.1]; omega) (by rw [← eq, mm_ul_B z y y2]) hR hs
        have w22 : mm_n (mm_wr t 2) 22 = mm_n t 22 := mm_wr_n2 (by decide)
        have w24 : mm_n (mm_wr t 2) 24 = mm_n t 24 := mm_wr_n2 (by decide)
        have b53 : ∀ h, ¬ mm_isNot t → mm_R G w h t → mm_same w h0 h → AW G (aw_rm 3 0 0) yX5_unit cX5_unit 3 none (aw_N G (mm_Po G w h0 none (mm_unt s)) 0 0) 0 0 h 53 [(0, .ref w.1), (1, .int (nI 1))] [] := by
          intro h y hR hs
          refine aw_aload_n dX5_unit_53 rfl ?_
          refine aw_get dX5_unit_54 fX5_169 rfl hR.1 (by rfl) ?_
          refine aw_bipush (v := nI 40) dX5_unit_57 rfl ?_
          refine aw_icmp_neN (tgt := 96) dX5_unit_59 (by decide) (by omega) (by omega) (fun c_59 => ?_) (fun c_59 => ?_)
          · refine aw_iconst (v := nI 0) dX5_unit_96 rfl ?_
            refine aw_istore_n dX5_unit_97 (by decide) rfl rfl ?_
            refine aw_goto (tgt := 2) dX5_unit_98 (by decide) ?_
            exact out t h hJ (by rw [← eq, mm_ul_E y (by omega)]) hR hs
          · refine aw_aload_n dX5_unit_62 rfl ?_
            refine mm_call dX5_unit_63 sX5_279 rfl hW hR hs (mm_isFull (s := t) (by omega) (by omega)) rfl rfl ⟨Nat.le_of_ble_eq_true rfl, Nat.le_of_ble_eq_true rfl⟩ (Nat.le_of_ble_eq_true rfl) (fun h hR hs => ?_)
            refine aw_if_neB (tgt := 78) dX5_unit_66 (by decide) (fun c_66 => ?_) (fun c_66 => ?_)
            · refine aw_aload_n dX5_unit_78 rfl ?_
              refine aw_iconst (v := nI 2) dX5_unit_79 rfl ?_
              refine mm_call dX5_unit_80 sX5_227 rfl hW hR hs cw rfl rfl ⟨Nat.le_of_ble_eq_true rfl, Nat.le_of_ble_eq_true rfl⟩ (Nat.le_of_ble_eq_true rfl) (fun h hR hs => ?_)
              first
              | (have q : mm_noB t := by first | exact Or.inl c_66 | exact Or.inr (by omega)
                 exact bra (mm_wr t 2) h y (by omega) wok w21 (by omega) (by omega) (by unfold mm_uB; rw [if_pos q]) hR hs)
              | (have q : ¬ mm_noB t := fun q => q.elim c_66 (fun q => absurd q (by omega))
                 exact bra t h y (by omega) hJ.1 rfl (by omega) (by omega) (by unfold mm_uB; rw [if_neg q]) hR hs)
            · refine aw_aload_n dX5_unit_69 rfl ?_
              refine aw_get dX5_unit_70 fX5_264 rfl hR.1 (by rfl) ?_
              refine aw_bipush (v := nI 6) dX5_unit_73 rfl ?_
              refine aw_icmp_leN (tgt := 83) dX5_unit_75 (by decide) (by omega) (by omega) (fun c_75 => ?_) (fun c_75 => ?_)
              · first
                | (have q : mm_noB t := by first | exact Or.inl c_66 | exact Or.inr (by omega)
                   exact bra (mm_wr t 2) h y (by omega) wok w21 (by omega) (by omega) (by unfold mm_uB; rw [if_pos q]) hR hs)
                | (have q : ¬ mm_noB t := fun q => q.elim c_66 (fun q => absurd q (by omega))
                   exact bra t h y (by omega) hJ.1 rfl (by omega) (by omega) (by unfold mm_uB; rw [if_neg q]) hR hs)
              · refine aw_aload_n dX5_unit_78 rfl ?_
                refine aw_iconst (v := nI 2) dX5_unit_79 rfl ?_
                refine mm_call dX5_unit_80 sX5_227 rfl hW hR hs cw rfl rfl ⟨Nat.le_of_ble_eq_true rfl, Nat.le_of_ble_eq_true rfl⟩ (Nat.le_of_ble_eq_true rfl) (fun h hR hs => ?_)
                first
                | (have q : mm_noB t := by first | exact Or.inl c_66 | exact Or.inr (by omega)
                   exact bra (mm_wr t 2) h y (by omega) wok w21 (by omega) (by omega) (by unfold mm_uB; rw [if_pos q]) hR hs)
                | (have q : ¬ mm_noB t := fun q => q.elim c_66 (fun q => absurd q (by omega))
                   exact bra t h y (by omega) hJ.1 rfl (by omega) (by omega) (by unfold mm_uB; rw [if_neg q]) hR hs)
        refine aw_iload_n dX5_unit_2 rfl ?_
        refine aw_if_eqN (tgt := 101) dX5_unit_3 (by decide) (by omega) (fun c_3 => by exfalso; omega) (fun c_3 => ?_)
        refine aw_aload_n dX5_unit_6 rfl ?_
        refine aw_get dX5_unit_7 fX5_182 rfl hR.1 (by rfl) ?_
        refine aw_if_neN (tgt := 101) dX5_unit_10 (by decide) (by omega) (fun c_10 => by exfalso; omega) (fun c_10 => ?_)
        refine aw_aload_n dX5_unit_13 rfl ?_
        refine aw_ldc2 dX5_unit_14 q1648 ?_
        refine mm_call dX5_unit_17 sX5_223 rfl hW hR hs (mm_isWord (s := t) (by omega)) rfl rfl ⟨Nat.le_of_ble_eq_true rfl, Nat.le_of_ble_eq_true rfl⟩ (Nat.le_of_ble_eq_true rfl) (fun h hR hs => ?_)
        refine aw_if_eqB (tgt := 53) dX5_unit_20 (by decide) (fun c_20 => ?_) (fun c_20 => ?_)
        · first
          | exact b53 h (fun q => c_20 q.1) hR hs
          | exact b53 h (fun q => c_27 q.2) hR hs
        · refine aw_aload_n dX5_unit_23 rfl ?_
          refine mm_call dX5_unit_24 sX5_273 rfl hW hR hs (mm_mayNot (s := t) (by omega) i3) rfl rfl ⟨Nat.le_of_ble_eq_true rfl, Nat.le_of_ble_eq_true rfl⟩ (Nat.le_of_ble_eq_true rfl) (fun h hR hs => ?_)
          refine aw_if_eqB (tgt := 53) dX5_unit_27 (by decide) (fun c_27 => ?_) (fun c_27 => ?_)
          · first
            | exact b53 h (fun q => c_20 q.1) hR hs
            | exact b53 h (fun q => c_27 q.2) hR hs
          · refine aw_aload_n dX5_unit_30 rfl ?_
            refine aw_get dX5_unit_31 fX5_264 rfl hR.1 (by rfl) ?_
            refine aw_bipush (v := nI 6) dX5_unit_34 rfl ?_
            refine aw_icmp_leN (tgt := 44) dX5_unit_36 (by decide) (by omega) (by omega) (fun c_36 => ?_) (fun c_36 => ?_)
            · first
              | exact ups t h ⟨c_20, c_27⟩ hJ.1 rfl (by unfold mm_uN; rw [if_neg (by omega)]) hR hs
              | exact ups (mm_wr t 2) h ⟨c_20, c_27⟩ wok w21 (by unfold mm_uN; rw [if_pos (by omega)]) hR hs
            · refine aw_aload_n dX5_unit_39 rfl ?_
              refine aw_iconst (v := nI 2) dX5_unit_40 rfl ?_
              refine mm_call dX5_unit_41 sX5_227 rfl hW hR hs cw rfl rfl ⟨Nat.le_of_ble_eq_true rfl, Nat.le_of_ble_eq_true rfl⟩ (Nat.le_of_ble_eq_true rfl) (fun h hR hs => ?_)
              first
              | exact ups t h ⟨c_20, c_27⟩ hJ.1 rfl (by unfold mm_uN; rw [if_neg (by omega)]) hR hs
              | exact ups (mm_wr t 2) h ⟨c_20, c_27⟩ wok w21 (by unfold mm_uN; rw [if_pos (by omega)]) hR hs
      · have e2 : mm_n t 2 ≤ 4 := p6
        refine aw_iload_n dX5_unit_2 rfl ?_
        refine aw_if_eqN (tgt := 101) dX5_unit_3 (by decide) (by omega) (fun c_3 => by exfalso; omega) (fun c_3 => ?_)
        refine aw_aload_n dX5_unit_6 rfl ?_
        refine aw_get dX5_unit_7 fX5_182 rfl hR.1 (by rfl) ?_
        refine aw_if_neN (tgt := 101) dX5_unit_10 (by decide) (by omega) (fun c_10 => ?_) (fun c_10 => by exfalso; omega)
        exact fin t 1 h hJ (by rw [← eq, mm_ul_f z]) hR hs
  refine aw_iconst (v := nI 1) dX5_unit_0 rfl ?_
  refine aw_istore_n dX5_unit_1 (by decide) rfl rfl ?_
  exact loop 8 s h0 hI (fun _ => by omega) rfl hR hs

