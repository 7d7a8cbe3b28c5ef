set_option maxRecDepth 100000
/-! the model: a text whole; a house -/
theorem mm_tk_ok2 {s : mm_S} (p1 : mm_n s 5 ≤ 1600) (p2 : mm_n s 4 ≤ mm_n s 5) (p3 : ∀ j, j < 1600 → mm_a s 0 j < 256) (p6 : mm_n s 2 ≤ 4) : mm_okP (mm_tk s) := by
  obtain ⟨q, eq⟩ : ∃ q, q = sp_ws (mm_a s 0) (mm_n s 5) (mm_n s 4) := ⟨_, rfl⟩
  have hq : q ≤ mm_n s 5 := by rw [eq]; exact sp_ws_le p2
  unfold mm_tk
  rw [← eq]
  refine ⟨p1, ?_, p3, sp_tks_lt (fun h => p3 q (by omega)), ?_, p6, by show q ≤ 1600; omega⟩
  · show (if _ then q else q + _) ≤ mm_n s 5
    split
    · exact hq
    · exact sp_tkn_le hq
  · show (if _ then sp_nm _ _ _ else 0) ≤ 100000
    split
    · have := @sp_nm_b (mm_a s 0) (mm_n s 5) q
      omega
    · omega
def mm_ra0 (s : mm_S) : mm_S := mm_setN (mm_setA (mm_setA (mm_setN (mm_setN (mm_setN (mm_setN (mm_setN (mm_setN (mm_setFp (mm_setN (mm_setN (mm_setN (mm_setN s 5 (mm_n s 1)) 1 0) 4 0) 2 0) (-1)) 37 9) 38 0) 39 0) 40 0) 43 0) 44 0) 19 (aw_u (mm_a s 19) 0 0)) 19 (aw_u (aw_u (mm_a s 19) 0 0) 1 0)) 22 0
def mm_lp : Nat → mm_S → mm_S
  | 0, s => s
  | n + 1, s => if mm_n s 2 = 0 ∧ mm_n s 6 ≠ 0 then mm_lp n (mm_rl s) else s
def mm_ra (s : mm_S) : mm_S := mm_lp 13 (mm_tk (mm_ra0 s))
theorem mm_ra0_I {s : mm_S} (h1 : mm_n s 1 ≤ 1600) (hT : ∀ j, j < 1600 → mm_a s 0 j < 256) : mm_lI (mm_tk (mm_ra0 s)) := by
  refine ⟨mm_tk_ok2 (s := mm_ra0 s) h1 (Nat.zero_le _) hT (Nat.zero_le _), fun _ => ⟨Nat.zero_le _, Nat.zero_le _, show 9 ≤ 100000 by decide, ?_, show 0 < 2 by decide, show 0 < 2 by decide⟩⟩
  have e : ∀ v, v < 2 → mm_a (mm_tk (mm_ra0 s)) 19 v = 0 := by
    intro v hv
    show aw_u (aw_u (mm_a s 19) 0 0) 1 0 v = 0
    rcases (show v = 0 ∨ v = 1 by omega) with rfl | rfl
    · rw [aw_u_n (by decide), aw_u_s]
    · rw [aw_u_s]
  intro v hv
  rw [e v hv]
  exact ⟨by decide, fun q => absurd q (by decide)⟩
theorem mm_lp_I : ∀ (n : Nat) (s : mm_S), mm_lI s → mm_lI (mm_lp n s) := by
  intro n
  induction n with
  | zero => intro s h; exact h
  | succ n ih =>
    intro s h
    by_cases z : mm_n s 2 = 0 ∧ mm_n s 6 ≠ 0
    · have e : mm_lp (n + 1) s = mm_lp n (mm_rl s) := if_pos z
      rw [e]
      exact ih _ (mm_rl_I h z.1).1
    · have e : mm_lp (n + 1) s = s := if_neg z
      rw [e]
      exact h
theorem mm_ra_I {s : mm_S} (h1 : mm_n s 1 ≤ 1600) (hT : ∀ j, j < 1600 → mm_a s 0 j < 256) : mm_lI (mm_ra s) := mm_lp_I 13 _ (mm_ra0_I h1 hT)
theorem mm_lp_E {s : mm_S} (h : ¬ (mm_n s 2 = 0 ∧ mm_n s 6 ≠ 0)) (n : Nat) : mm_lp n s = s := by
  cases n with
  | zero => rfl
  | succ n => exact if_neg h
set_option maxHeartbeats 4000000 in
theorem mm_readAll {s : mm_S} (h1 : mm_n s 1 ≤ 1600) (hT : ∀ j, j < 1600 → mm_a s 0 j < 256) : mm_Met yX5_readAll cX5_readAll 1 none 7 [] s none (mm_ra s) := by
  refine mm_Met.of (by decide +kernel) (fun _ => Nat.le_of_ble_eq_true rfl) (fun G w h0 hW hR => ?_)
  have hs : mm_same w h0 h0 := mm_same.rf
  show AW G (aw_rm 7 0 0) yX5_readAll cX5_readAll 1 none (aw_N G (mm_Po G w h0 none (mm_ra s)) 0 0) 0 0 h0 0 [(0, .ref w.1)] []
  have loop : ∀ (n : Nat) (t : mm_S) (h : aw_H), mm_lI t → (mm_n t 2 = 0 → mm_mu t < n) → mm_lp n t = mm_ra s → mm_R G w h t → mm_same w h0 h → AW G (aw_rm 7 0 0) yX5_readAll cX5_readAll 1 none (aw_N G (mm_Po G w h0 none (mm_ra s)) 0 0) 0 0 h 82 [(0, .ref w.1)] [] := by
    intro n
    induction n with
    | zero =>
      intro t h hI hn eq hR hs
      have z : mm_n t 2 ≠ 0 := fun z => absurd (hn z) (Nat.not_lt_zero _)
      have p6 : mm_n t 2 ≤ 4 := hI.1.2.2.2.2.2.1
      refine aw_aload_n dX5_readAll_82 rfl ?_
      refine aw_get dX5_readAll_83 fX5_182 rfl hR.1 (by rfl) ?_
      refine aw_if_neN (tgt := 103) dX5_readAll_86 (by decide) (by omega) (fun c_86 => ?_) (fun c_86 => by exfalso; omega)
      refine aw_vreturn dX5_readAll_103 rfl ?_
      exact ⟨rfl, mm_eq hR eq, hs⟩
    | succ n ih =>
      intro t h hI hn eq hR hs
      have p6 : mm_n t 2 ≤ 4 := hI.1.2.2.2.2.2.1
      have p4 : mm_n t 6 < 256 := hI.1.2.2.2.1
      by_cases z : mm_n t 2 = 0 ∧ mm_n t 6 ≠ 0
      · obtain ⟨k1, k2⟩ := mm_rl_I hI z.1
        have m := hn z.1
        refine aw_aload_n dX5_readAll_82 rfl ?_
        refine aw_get dX5_readAll_83 fX5_182 rfl hR.1 (by rfl) ?_
        refine aw_if_neN (tgt := 103) dX5_readAll_86 (by decide) (by omega) (fun c_86 => by exfalso; omega) (fun c_86 => ?_)
        refine aw_aload_n dX5_readAll_89 rfl ?_
        refine aw_get dX5_readAll_90 fX5_169 rfl hR.1 (by rfl) ?_
        refine aw_if_eqN (tgt := 103) dX5_readAll_93 (by decide) (by omega) (fun c_93 => by exfalso; omega) (fun c_93 => ?_)
        refine aw_aload_n dX5_readAll_96 rfl ?_
        refine mm_call dX5_readAll_97 sX5_344 rfl hW hR hs (mm_readLine (s := t) hI z.1) rfl rfl ⟨Nat.le_of_ble_eq_true rfl, Nat.le_of_ble_eq_true rfl⟩ (Nat.le_of_ble_eq_true rfl) (fun h hR hs => ?_)
        refine aw_goto (tgt := 82) dX5_readAll_100 (by decide) ?_
        exact ih (mm_rl t) h k1 (fun q => by have := k2 q; omega) (by rw [← eq]; exact (if_pos z).symm) hR hs
      ·
        refine aw_aload_n dX5_readAll_82 rfl ?_
        refine aw_get dX5_readAll_83 fX5_182 rfl hR.1 (by rfl) ?_
        refine aw_if_neN (tgt := 103) dX5_readAll_86 (by decide) (by omega) (fun c_86 => ?_) (fun c_86 => ?_)
        · refine aw_vreturn dX5_readAll_103 rfl ?_
          exact ⟨rfl, mm_eq hR (by rw [← eq, mm_lp_E z]), hs⟩
        · refine aw_aload_n dX5_readAll_89 rfl ?_
          refine aw_get dX5_readAll_90 fX5_169 rfl hR.1 (by rfl) ?_
          refine aw_if_eqN (tgt := 103) dX5_readAll_93 (by decide) (by omega) (fun c_93 => ?_) (fun c_93 => by exfalso; omega)
          refine aw_vreturn dX5_readAll_103 rfl ?_
          exact ⟨rfl, mm_eq hR (by rw [← eq, mm_lp_E z]), hs⟩
  refine aw_aload_n dX5_readAll_0 rfl ?_
  refine aw_aload_n dX5_readAll_1 rfl ?_
  refine aw_get dX5_readAll_2 fX5_142 rfl hR.1 (by rfl) ?_
  refine mm_putN (k := 5) hW hR hs dX5_readAll_5 (pX5_152 _) rfl rfl (mm_F_set5 _ _ _) (by decide) (fun h hR hs => ?_)
  refine aw_aload_n dX5_readAll_8 rfl ?_
  refine aw_iconst (v := nI 0) dX5_readAll_9 rfl ?_
  refine mm_putN (k := 1) hW hR hs dX5_readAll_10 (pX5_142 _) rfl rfl (mm_F_set1 _ _ _) (by decide) (fun h hR hs => ?_)
  refine aw_aload_n dX5_readAll_13 rfl ?_
  refine aw_iconst (v := nI 0) dX5_readAll_14 rfl ?_
  refine mm_putN (k := 4) hW hR hs dX5_readAll_15 (pX5_149 _) rfl rfl (mm_F_set4 _ _ _) (by decide) (fun h hR hs => ?_)
  refine aw_aload_n dX5_readAll_18 rfl ?_
  refine aw_iconst (v := nI 0) dX5_readAll_19 rfl ?_
  refine mm_putN (k := 2) hW hR hs dX5_readAll_20 (pX5_182 _) rfl rfl (mm_F_set2 _ _ _) (by decide) (fun h hR hs => ?_)
  refine aw_aload_n dX5_readAll_23 rfl ?_
  refine aw_iconst (v := -1) dX5_readAll_24 rfl ?_
  refine mm_putFp hW hR hs dX5_readAll_25 (pX5_13 _) rfl rfl (fun h hR hs => ?_)
  skip
  refine aw_aload_n dX5_readAll_28 rfl ?_
  refine aw_bipush (v := nI 9) dX5_readAll_29 rfl ?_
  refine mm_putN (k := 37) hW hR hs dX5_readAll_31 (pX5_312 _) rfl rfl (mm_F_set37 _ _ _) (by decide) (fun h hR hs => ?_)
  refine aw_aload_n dX5_readAll_34 rfl ?_
  refine aw_iconst (v := nI 0) dX5_readAll_35 rfl ?_
  refine mm_putN (k := 38) hW hR hs dX5_readAll_36 (pX5_319 _) rfl rfl (mm_F_set38 _ _ _) (by decide) (fun h hR hs => ?_)
  refine aw_aload_n dX5_readAll_39 rfl ?_
  refine aw_iconst (v := nI 0) dX5_readAll_40 rfl ?_
  refine mm_putN (k := 39) hW hR hs dX5_readAll_41 (pX5_248 _) rfl rfl (mm_F_set39 _ _ _) (by decide) (fun h hR hs => ?_)
  refine aw_aload_n dX5_readAll_44 rfl ?_
  refine aw_iconst (v := nI 0) dX5_readAll_45 rfl ?_
  refine mm_putN (k := 40) hW hR hs dX5_readAll_46 (pX5_341 _) rfl rfl (mm_F_set40 _ _ _) (by decide) (fun h hR hs => ?_)
  refine aw_aload_n dX5_readAll_49 rfl ?_
  refine aw_iconst (v := nI 0) dX5_readAll_50 rfl ?_
  refine mm_putZ (k := 43) hW hR hs dX5_readAll_51 (pX5_325 _) rfl rfl (mm_F_set43 _ _ _) (by decide) (by omega) (fun h hR hs => ?_)
  refine aw_aload_n dX5_readAll_54 rfl ?_
  refine aw_iconst (v := nI 0) dX5_readAll_55 rfl ?_
  refine mm_putZ (k := 44) hW hR hs dX5_readAll_56 (pX5_338 _) rfl rfl (mm_F_set44 _ _ _) (by decide) (by omega) (fun h hR hs => ?_)
  refine aw_aload_n dX5_readAll_59 rfl ?_
  refine aw_get dX5_readAll_60 fX5_45 rfl hR.1 (by rfl) ?_
  refine aw_iconst (v := nI 0) dX5_readAll_63 rfl ?_
  refine aw_iconst (v := nI 0) dX5_readAll_64 rfl ?_
  refine mm_zast (k := 19) rfl hW hR hs dX5_readAll_65 (by decide) (by decide) (by decide) (fun h hR hs => ?_)
  refine aw_aload_n dX5_readAll_66 rfl ?_
  refine aw_get dX5_readAll_67 fX5_45 rfl hR.1 (by rfl) ?_
  refine aw_iconst (v := nI 1) dX5_readAll_70 rfl ?_
  refine aw_iconst (v := nI 0) dX5_readAll_71 rfl ?_
  refine mm_zast (k := 19) rfl hW hR hs dX5_readAll_72 (by decide) (by decide) (by decide) (fun h hR hs => ?_)
  refine aw_aload_n dX5_readAll_73 rfl ?_
  refine aw_iconst (v := nI 0) dX5_readAll_74 rfl ?_
  refine mm_putN (k := 22) hW hR hs dX5_readAll_75 (pX5_267 _) rfl rfl (mm_F_set22 _ _ _) (by decide) (fun h hR hs => ?_)
  refine aw_aload_n dX5_readAll_78 rfl ?_
  have hR := mm_eq hR (show _ = mm_ra0 s from rfl)
  refine mm_call dX5_readAll_79 sX5_230 rfl hW hR hs (mm_token (s := mm_ra0 s) h1 (Nat.zero_le _) hT) rfl rfl ⟨Nat.le_of_ble_eq_true rfl, Nat.le_of_ble_eq_true rfl⟩ (Nat.le_of_ble_eq_true rfl) (fun h hR hs => ?_)
  exact loop 13 (mm_tk (mm_ra0 s)) h (mm_ra0_I h1 hT) (fun _ => by unfold mm_mu; omega) rfl hR hs

theorem mm_extA {s t : mm_S} (h1 : s.1 = t.1) (h2 : s.2.1 = t.2.1) (h3 : s.2.2.1 = t.2.2.1) (h4 : ∀ k, mm_a s k = mm_a t k) (h5 : s.2.2.2.2 = t.2.2.2.2) : s = t := by
  obtain ⟨a1, a2, a3, a4, a5⟩ := s
  obtain ⟨b1, b2, b3, b4, b5⟩ := t
  obtain rfl : a1 = b1 := h1
  obtain rfl : a2 = b2 := h2
  obtain rfl : a3 = b3 := h3
  obtain rfl : a4 = b4 := funext h4
  obtain rfl : a5 = b5 := h5
  rfl
/-- steps k.. of the formula f are taken over -/
def sp_cpy (f k : Nat) (a b : Nat → Nat) : Nat → Nat := fun j => if 320 * f ≤ j ∧ j < k then a j else b j
theorem sp_cpy_s {f k : Nat} {a b : Nat → Nat} (h : 320 * f ≤ k) : aw_u (sp_cpy f k a b) k (a k) = sp_cpy f (k + 1) a b := by
  funext j
  unfold aw_u sp_cpy
  by_cases h1 : j = k
  · rw [if_pos h1, if_pos (by omega), h1]
  · by_cases h2 : 320 * f ≤ j ∧ j < k
    · rw [if_neg h1, if_pos h2, if_pos (by omega)]
    · rw [if_neg h1, if_neg h2, if_neg (by omega)]
theorem sp_cpy_0 {f : Nat} {a b : Nat → Nat} : sp_cpy f (320 * f) a b = b := by
  funext j
  unfold sp_cpy
  rw [if_neg (by omega)]
def mm_cp (t : mm_S) (f k : Nat) : mm_S := mm_setA (mm_setA t 14 (sp_cpy f k (mm_a t 11) (mm_a t 14))) 15 (sp_cpy f k (mm_a t 12) (mm_a t 15))
def mm_st (t : mm_S) (f : Nat) : Nat := if mm_a t 19 f = 0 then 0 else mm_a t 13 f
def mm_c1 (t : mm_S) (f : Nat) : mm_S := mm_setA t 16 (aw_u (mm_a t 16) f (mm_st t f))
def mm_cpF (t : mm_S) (f : Nat) : mm_S := mm_cp (mm_c1 t f) f (320 * f + mm_st t f)
theorem mm_cp_0 {t : mm_S} {f : Nat} : mm_cp t f (320 * f) = t := by
  unfold mm_cp
  rw [sp_cpy_0, sp_cpy_0]
  refine mm_extA rfl rfl rfl (fun k => ?_) rfl
  rw [mm_a_A, mm_a_A]
  by_cases h : k = 15
  · rw [if_pos h, h]
  · rw [if_neg h]
    by_cases h2 : k = 14
    · rw [if_pos h2, h2]
    · rw [if_neg h2]
theorem mm_cp_s {t : mm_S} {f k : Nat} (h : 320 * f ≤ k) : mm_setA (mm_setA (mm_cp t f k) 14 (aw_u (sp_cpy f k (mm_a t 11) (mm_a t 14)) k (mm_a t 11 k))) 15 (aw_u (sp_cpy f k (mm_a t 12) (mm_a t 15)) k (mm_a t 12 k)) = mm_cp t f (k + 1) := by
  rw [sp_cpy_s h, sp_cpy_s h]
  unfold mm_cp
  refine mm_extA rfl rfl rfl (fun q => ?_) rfl
  rw [mm_a_A, mm_a_A, mm_a_A, mm_a_A, mm_a_A, mm_a_A]
  by_cases h : q = 15
  · rw [if_pos h, if_pos h]
  · rw [if_neg h, if_neg h]
    by_cases h2 : q = 14
    · subst h2; rfl
    · rw [if_neg h2, if_neg h2, if_neg h, if_neg h2]
/-- homes of the first k are taken over -/
def sp_tk1 (k : Nat) (a b : Nat → Nat) : Nat → Nat := fun j => if j < k then a j else b j
theorem sp_tk1_s {k : Nat} {a b : Nat → Nat} : aw_u (sp_tk1 k a b) k (a k) = sp_tk1 (k + 1) a b := aw_u_cp
theorem sp_tk1_0 {a b : Nat → Nat} : sp_tk1 0 a b = b := by
  funext j
  unfold sp_tk1
  rw [if_neg (Nat.not_lt_zero _)]
def mm_hT (t : mm_S) (k : Nat) : mm_S := mm_setA (mm_setA (mm_setA (mm_setA (mm_setA (mm_setA t 32 (sp_tk1 k (mm_a t 27) (mm_a t 32))) 33 (sp_tk1 k (mm_a t 28) (mm_a t 33))) 34 (sp_tk1 k (mm_a t 29) (mm_a t 34))) 35 (sp_tk1 k (mm_a t 30) (mm_a t 35))) 36 (sp_tk1 k (mm_a t 31) (mm_a t 36))) 45 (sp_tk1 k (mm_a t 28) (mm_a t 45))
/-- the house in force -/
def mm_h1 (t : mm_S) : mm_S := mm_setN (mm_setN (mm_setN t 41 (mm_n t 37)) 42 (mm_n t 39)) 23 (mm_n t 22)
def mm_h2 (t : mm_S) : mm_S := mm_cpF (mm_cpF (mm_h1 t) 0) 1
def mm_h3 (t : mm_S) : mm_S := mm_setA t 45 (sp_tk1 28 (fun _ => 0) (mm_a t 45))
def mm_h4 (t : mm_S) : mm_S := mm_hT t (mm_n t 42)
def mm_h5 (t : mm_S) : mm_S := mm_setN (mm_setN (mm_setN (mm_setN (mm_setA (mm_setA t 45 (aw_u (mm_a t 45) 25 (mm_n t 38))) 45 (aw_u (aw_u (mm_a t 45) 25 (mm_n t 38)) 27 (mm_n t 40))) 48 0) 49 0) 64 0) 52 0
def mm_h6 (t : mm_S) : mm_S := mm_setA t 67 (sp_tk1 3 (fun _ => 0) (mm_a t 67))
def mm_ho (t : mm_S) : mm_S := mm_h6 (mm_h5 (mm_h4 (mm_h3 (mm_h2 t))))
def op_houseS (s : mm_S) : mm_S := if mm_n (mm_ra s) 2 = 0 then mm_ho (mm_ra s) else mm_ra s
def op_house (s : mm_S) : Int32 := if mm_n (mm_ra s) 2 = 0 then nI (mm_n (mm_ra s) 39) else -1
theorem mm_hT_s {t : mm_S} {k v : Nat} (hv : v = mm_a t 28 k) : mm_setA (mm_setA (mm_setA (mm_setA (mm_setA (mm_setA (mm_hT t k) 32 (aw_u (sp_tk1 k (mm_a t 27) (mm_a t 32)) k (mm_a t 27 k))) 33 (aw_u (sp_tk1 k (mm_a t 28) (mm_a t 33)) k (mm_a t 28 k))) 34 (aw_u (sp_tk1 k (mm_a t 29) (mm_a t 34)) k (mm_a t 29 k))) 35 (aw_u (sp_tk1 k (mm_a t 30) (mm_a t 35)) k (mm_a t 30 k))) 36 (aw_u (sp_tk1 k (mm_a t 31) (mm_a t 36)) k (mm_a t 31 k))) 45 (aw_u (sp_tk1 k (mm_a t 28) (mm_a t 45)) k v) = mm_hT t (k + 1) := by
  subst hv
  rw [sp_tk1_s, sp_tk1_s, sp_tk1_s, sp_tk1_s, sp_tk1_s, sp_tk1_s]
  unfold mm_hT
  refine mm_extA rfl rfl rfl (fun q => ?_) rfl
  simp only [mm_a_A]
  by_cases g1 : q = 45
  · subst g1; rfl
  · rw [if_neg g1, if_neg g1]
    by_cases g2 : q = 36
    · subst g2; rfl
    · rw [if_neg g2, if_neg g2]
      by_cases g3 : q = 35
      · subst g3; rfl
      · rw [if_neg g3, if_neg g3]
        by_cases g4 : q = 34
        · subst g4; rfl
        · rw [if_neg g4, if_neg g4]
          by_cases g5 : q = 33
          · subst g5; rfl
          · rw [if_neg g5, if_neg g5]
            by_cases g6 : q = 32
            · subst g6; rfl
            · simp only [if_neg g1, if_neg g2, if_neg g3, if_neg g4, if_neg g5, if_neg g6]
theorem mm_hT_0 {t : mm_S} : mm_hT t 0 = t := by
  unfold mm_hT
  simp only [sp_tk1_0]
  refine mm_extA rfl rfl rfl (fun q => ?_) rfl
  simp only [mm_a_A]
  by_cases g1 : q = 45
  · rw [if_pos g1, g1]
  · rw [if_neg g1]
    by_cases g2 : q = 36
    · rw [if_pos g2, g2]
    · rw [if_neg g2]
      by_cases g3 : q = 35
      · rw [if_pos g3, g3]
      · rw [if_neg g3]
        by_cases g4 : q = 34
        · rw [if_pos g4, g4]
        · rw [if_neg g4]
          by_cases g5 : q = 33
          · rw [if_pos g5, g5]
          · rw [if_neg g5]
            by_cases g6 : q = 32
            · rw [if_pos g6, g6]
            · rw [if_neg g6]
set_option maxHeartbeats 4000000 in
theorem mo_house {s : mm_S} (h1 : mm_n s 1 ≤ 1600) (hT : ∀ j, j < 1600 → mm_a s 0 j < 256) : mm_Op yX5_house cX5_house 3 (some .int) 8 [] s (some (.int (op_house s))) (op_houseS s) := by
  refine mm_Op.of (by decide +kernel) (fun _ => Nat.le_of_ble_eq_true rfl) (fun G w h0 hW hR => ?_)
  have hs : mm_same w h0 h0 := mm_same.rf
  show AW G (aw_rm 8 0 0) yX5_house cX5_house 3 (some .int) (aw_N G (mm_PoC G w h0 (some (.int (op_house s))) (op_houseS s)) 0 0) 0 0 h0 0 [(0, .ref w.1)] []
  have hI := mm_ra_I h1 hT
  have cra : mm_Met _ _ _ _ _ _ s none (mm_ra s) := mm_readAll h1 hT
  have eo : op_house s = if mm_n (mm_ra s) 2 = 0 then nI (mm_n (mm_ra s) 39) else -1 := rfl
  have es : op_houseS s = if mm_n (mm_ra s) 2 = 0 then mm_ho (mm_ra s) else mm_ra s := rfl
  obtain ⟨t, ht⟩ : ∃ t, t = mm_ra s := ⟨_, rfl⟩
  rw [← ht] at hI cra eo es
  have p6 : mm_n t 2 ≤ 4 := hI.1.2.2.2.2.2.1
  by_cases z : mm_n t 2 = 0
  · rw [if_pos z] at eo es
    obtain ⟨i1, i2, i3, i4, i5, i6⟩ := hI.2 z
    have fin : ∀ (u : mm_S) (k : Nat) (h : aw_H), mm_h6 u = mm_ho t → mm_n u 42 = mm_n t 39 → mm_R G w h u → mm_same w h0 h → AW G (aw_rm 8 0 0) yX5_house cX5_house 3 (some .int) (aw_N G (mm_PoC G w h0 (some (.int (op_house s))) (op_houseS s)) 0 0) 0 0 h 278 [(0, .ref w.1), (1, .int (nI k))] [] := by
      intro u k h eq e42 hR hs
      have loop : ∀ (m k : Nat) (h : aw_H), 3 - k = m → k ≤ 3 → mm_R G w h (mm_setA u 67 (sp_tk1 k (fun _ => 0) (mm_a u 67))) → mm_same w h0 h → AW G (aw_rm 8 0 0) yX5_house cX5_house 3 (some .int) (aw_N G (mm_PoC G w h0 (some (.int (op_house s))) (op_houseS s)) 0 0) 0 0 h 280 [(0, .ref w.1), (1, .int (nI k))] [] := by
        intro m
        induction m using Nat.strongRecOn with
        | _ m ih =>
          intro k h hm hk hR hs
          refine aw_iload_n dX5_house_280 rfl ?_
          refine aw_iconst (v := nI 3) dX5_house_281 rfl ?_
          refine aw_icmp_geN (tgt := 298) dX5_house_282 (by decide) (by omega) (by omega) (fun c_282 => ?_) (fun c_282 => ?_)
          · refine aw_aload_n dX5_house_298 rfl ?_
            refine aw_get dX5_house_299 fX5_350 rfl hR.1 (by rfl) ?_
            refine aw_ireturn dX5_house_302 rfl ?_
            refine ⟨?_, _, mm_core.rf, mm_eq hR ?_, hs⟩
            · show some (Value.int (nI (mm_n u 42))) = _
              rw [e42, eo]
            · rw [es, ← eq, show k = 3 by omega]; rfl
          · refine aw_aload_n dX5_house_285 rfl ?_
            refine aw_get dX5_house_286 fX5_136 rfl hR.1 (by rfl) ?_
            refine aw_iload_n dX5_house_289 rfl ?_
            refine aw_iconst (v := nI 0) dX5_house_290 rfl ?_
            refine mm_zast (k := 67) rfl hW hR hs dX5_house_291 (by omega) (by decide) (by omega) (fun h hR hs => ?_)
            have hR := mm_eq hR (show _ = mm_setA u 67 (sp_tk1 (k + 1) (fun _ => 0) (mm_a u 67)) by rw [mm_A_A]; congr 1; exact sp_tk1_s (a := fun _ => 0))
            refine aw_iincN (b := 1) dX5_house_292 rfl rfl (by decide) rfl rfl ?_
            refine aw_goto (tgt := 280) dX5_house_295 (by decide) ?_
            exact ih (3 - (k + 1)) (by omega) (k + 1) h rfl (by omega) hR hs
      refine aw_iconst (v := nI 0) dX5_house_278 rfl ?_
      refine aw_istore_n dX5_house_279 (by decide) rfl rfl ?_
      exact loop 3 0 h rfl (Nat.zero_le _) (mm_eq hR (by rw [sp_tk1_0, mm_A_self])) hs
    have f5 : ∀ (u : mm_S) (k : Nat) (h : aw_H), mm_h6 (mm_h5 u) = mm_ho t → mm_n u 42 = mm_n t 39 → mm_R G w h u → mm_same w h0 h → AW G (aw_rm 8 0 0) yX5_house cX5_house 3 (some .int) (aw_N G (mm_PoC G w h0 (some (.int (op_house s))) (op_houseS s)) 0 0) 0 0 h 236 [(0, .ref w.1), (1, .int (nI k))] [] := by
      intro u k h eq e42 hR hs
      refine aw_aload_n dX5_house_236 rfl ?_
      refine aw_get dX5_house_237 fX5_85 rfl hR.1 (by rfl) ?_
      refine aw_bipush (v := nI 25) dX5_house_240 rfl ?_
      refine aw_aload_n dX5_house_242 rfl ?_
      refine aw_get dX5_house_243 fX5_319 rfl hR.1 (by rfl) ?_
      refine mm_iast (k := 45) rfl hW hR hs dX5_house_246 (by omega) (by decide) (fun h hR hs => ?_)
      refine aw_aload_n dX5_house_247 rfl ?_
      refine aw_get dX5_house_248 fX5_85 rfl hR.1 (by rfl) ?_
      refine aw_bipush (v := nI 27) dX5_house_251 rfl ?_
      refine aw_aload_n dX5_house_253 rfl ?_
      refine aw_get dX5_house_254 fX5_341 rfl hR.1 (by rfl) ?_
      try simp only [mm_n_N, mm_n_A, mm_n_V, mm_n_Fp, mm_n_W, mm_n_Nm, mm_a_N, mm_a_A, mm_a_V, mm_a_Fp, mm_a_W, mm_a_Nm, mm_v_N, mm_v_A, mm_v_V, mm_fp_N, mm_fp_A, mm_fp_Fp, mm_w_N, mm_w_W, Nat.reduceEqDiff, reduceIte, if_true, if_false, mm_H_45, mm_H_46, mm_H_47, mm_H_50, mm_H_53, mm_H_54, mm_H_55, mm_H_56, mm_H_57, mm_H_58, mm_H_66, mm_H_67, mm_H_68]
      refine mm_iast (k := 45) rfl hW hR hs dX5_house_257 (by omega) (by decide) (fun h hR hs => ?_)
      refine aw_aload_n dX5_house_258 rfl ?_
      refine aw_iconst (v := nI 0) dX5_house_259 rfl ?_
      refine mm_putN (k := 48) hW hR hs dX5_house_260 (pX5_356 _) rfl rfl (mm_F_set48 _ _ _) (by decide) (fun h hR hs => ?_)
      refine aw_aload_n dX5_house_263 rfl ?_
      refine aw_iconst (v := nI 0) dX5_house_264 rfl ?_
      refine mm_putN (k := 49) hW hR hs dX5_house_265 (pX5_359 _) rfl rfl (mm_F_set49 _ _ _) (by decide) (fun h hR hs => ?_)
      refine aw_aload_n dX5_house_268 rfl ?_
      refine aw_iconst (v := nI 0) dX5_house_269 rfl ?_
      refine mm_putN (k := 64) hW hR hs dX5_house_270 (pX5_362 _) rfl rfl (mm_F_set64 _ _ _) (by decide) (fun h hR hs => ?_)
      refine aw_aload_n dX5_house_273 rfl ?_
      refine aw_iconst (v := nI 0) dX5_house_274 rfl ?_
      refine mm_putN (k := 52) hW hR hs dX5_house_275 (pX5_365 _) rfl rfl (mm_F_set52 _ _ _) (by decide) (fun h hR hs => ?_)
      exact fin (mm_h5 u) k h eq e42 (mm_eq hR rfl) hs
    have f4 : ∀ (u : mm_S) (k : Nat) (h : aw_H), mm_h6 (mm_h5 (mm_h4 u)) = mm_ho t → mm_n u 42 = mm_n t 39 → mm_R G w h u → mm_same w h0 h → AW G (aw_rm 8 0 0) yX5_house cX5_house 3 (some .int) (aw_N G (mm_PoC G w h0 (some (.int (op_house s))) (op_houseS s)) 0 0) 0 0 h 148 [(0, .ref w.1), (1, .int (nI k))] [] := by
      intro u k h eq e42 hR hs
      have loop : ∀ (m k : Nat) (h : aw_H), mm_n u 42 - k = m → k ≤ mm_n u 42 → mm_R G w h (mm_hT u k) → mm_same w h0 h → AW G (aw_rm 8 0 0) yX5_house cX5_house 3 (some .int) (aw_N G (mm_PoC G w h0 (some (.int (op_house s))) (op_houseS s)) 0 0) 0 0 h 150 [(0, .ref w.1), (1, .int (nI k))] [] := by
        intro m
        induction m using Nat.strongRecOn with
        | _ m ih =>
          intro k h hm hk hR hs
          have e9 : mm_n (mm_hT u k) 42 = mm_n u 42 := rfl
          refine aw_iload_n dX5_house_150 rfl ?_
          refine aw_aload_n dX5_house_151 rfl ?_
          refine aw_get dX5_house_152 fX5_350 rfl hR.1 (by rfl) ?_
          rw [e9]
          refine aw_icmp_geN (tgt := 236) dX5_house_155 (by decide) (by omega) (by omega) (fun c_155 => ?_) (fun c_155 => ?_)
          · exact f5 (mm_h4 u) k h eq e42 (mm_eq hR (by rw [show k = mm_n u 42 by omega]; rfl)) hs
          · refine aw_aload_n dX5_house_158 rfl ?_
            refine aw_get dX5_house_159 fX5_67 rfl hR.1 (by rfl) ?_
            refine aw_iload_n dX5_house_162 rfl ?_
            refine aw_aload_n dX5_house_163 rfl ?_
            refine aw_get dX5_house_164 fX5_52 rfl hR.1 (by rfl) ?_
            refine aw_iload_n dX5_house_167 rfl ?_
            refine aw_ialdN dX5_house_168 (hR.2.1 27 8 rfl) (by omega) (by decide) ?_
            refine mm_iast (k := 32) rfl hW hR hs dX5_house_169 (by omega) (by decide) (fun h hR hs => ?_)
            refine aw_aload_n dX5_house_170 rfl ?_
            refine aw_get dX5_house_171 fX5_70 rfl hR.1 (by rfl) ?_
            refine aw_iload_n dX5_house_174 rfl ?_
            refine aw_aload_n dX5_house_175 rfl ?_
            refine aw_get dX5_house_176 fX5_55 rfl hR.1 (by rfl) ?_
            refine aw_iload_n dX5_house_179 rfl ?_
            refine aw_ialdN dX5_house_180 (hR.2.1 28 8 rfl) (by omega) (by decide) ?_
            try simp only [mm_n_N, mm_n_A, mm_n_V, mm_n_Fp, mm_n_W, mm_n_Nm, mm_a_N, mm_a_A, mm_a_V, mm_a_Fp, mm_a_W, mm_a_Nm, mm_v_N, mm_v_A, mm_v_V, mm_fp_N, mm_fp_A, mm_fp_Fp, mm_w_N, mm_w_W, Nat.reduceEqDiff, reduceIte, if_true, if_false, mm_H_45, mm_H_46, mm_H_47, mm_H_50, mm_H_53, mm_H_54, mm_H_55, mm_H_56, mm_H_57, mm_H_58, mm_H_66, mm_H_67, mm_H_68]
            refine mm_iast (k := 33) rfl hW hR hs dX5_house_181 (by omega) (by decide) (fun h hR hs => ?_)
            refine aw_aload_n dX5_house_182 rfl ?_
            refine aw_get dX5_house_183 fX5_73 rfl hR.1 (by rfl) ?_
            refine aw_iload_n dX5_house_186 rfl ?_
            refine aw_aload_n dX5_house_187 rfl ?_
            refine aw_get dX5_house_188 fX5_58 rfl hR.1 (by rfl) ?_
            refine aw_iload_n dX5_house_191 rfl ?_
            refine aw_ialdN dX5_house_192 (hR.2.1 29 8 rfl) (by omega) (by decide) ?_
            try simp only [mm_n_N, mm_n_A, mm_n_V, mm_n_Fp, mm_n_W, mm_n_Nm, mm_a_N, mm_a_A, mm_a_V, mm_a_Fp, mm_a_W, mm_a_Nm, mm_v_N, mm_v_A, mm_v_V, mm_fp_N, mm_fp_A, mm_fp_Fp, mm_w_N, mm_w_W, Nat.reduceEqDiff, reduceIte, if_true, if_false, mm_H_45, mm_H_46, mm_H_47, mm_H_50, mm_H_53, mm_H_54, mm_H_55, mm_H_56, mm_H_57, mm_H_58, mm_H_66, mm_H_67, mm_H_68]
            refine mm_iast (k := 34) rfl hW hR hs dX5_house_193 (by omega) (by decide) (fun h hR hs => ?_)
            refine aw_aload_n dX5_house_194 rfl ?_
            refine aw_get dX5_house_195 fX5_76 rfl hR.1 (by rfl) ?_
            refine aw_iload_n dX5_house_198 rfl ?_
            refine aw_aload_n dX5_house_199 rfl ?_
            refine aw_get dX5_house_200 fX5_61 rfl hR.1 (by rfl) ?_
            refine aw_iload_n dX5_house_203 rfl ?_
            refine aw_ialdN dX5_house_204 (hR.2.1 30 8 rfl) (by omega) (by decide) ?_
            try simp only [mm_n_N, mm_n_A, mm_n_V, mm_n_Fp, mm_n_W, mm_n_Nm, mm_a_N, mm_a_A, mm_a_V, mm_a_Fp, mm_a_W, mm_a_Nm, mm_v_N, mm_v_A, mm_v_V, mm_fp_N, mm_fp_A, mm_fp_Fp, mm_w_N, mm_w_W, Nat.reduceEqDiff, reduceIte, if_true, if_false, mm_H_45, mm_H_46, mm_H_47, mm_H_50, mm_H_53, mm_H_54, mm_H_55, mm_H_56, mm_H_57, mm_H_58, mm_H_66, mm_H_67, mm_H_68]
            refine mm_iast (k := 35) rfl hW hR hs dX5_house_205 (by omega) (by decide) (fun h hR hs => ?_)
            refine aw_aload_n dX5_house_206 rfl ?_
            refine aw_get dX5_house_207 fX5_79 rfl hR.1 (by rfl) ?_
            refine aw_iload_n dX5_house_210 rfl ?_
            refine aw_aload_n dX5_house_211 rfl ?_
            refine aw_get dX5_house_212 fX5_64 rfl hR.1 (by rfl) ?_
            refine aw_iload_n dX5_house_215 rfl ?_
            refine aw_ialdN dX5_house_216 (hR.2.1 31 8 rfl) (by omega) (by decide) ?_
            try simp only [mm_n_N, mm_n_A, mm_n_V, mm_n_Fp, mm_n_W, mm_n_Nm, mm_a_N, mm_a_A, mm_a_V, mm_a_Fp, mm_a_W, mm_a_Nm, mm_v_N, mm_v_A, mm_v_V, mm_fp_N, mm_fp_A, mm_fp_Fp, mm_w_N, mm_w_W, Nat.reduceEqDiff, reduceIte, if_true, if_false, mm_H_45, mm_H_46, mm_H_47, mm_H_50, mm_H_53, mm_H_54, mm_H_55, mm_H_56, mm_H_57, mm_H_58, mm_H_66, mm_H_67, mm_H_68]
            refine mm_iast (k := 36) rfl hW hR hs dX5_house_217 (by omega) (by decide) (fun h hR hs => ?_)
            refine aw_aload_n dX5_house_218 rfl ?_
            refine aw_get dX5_house_219 fX5_85 rfl hR.1 (by rfl) ?_
            refine aw_iload_n dX5_house_222 rfl ?_
            refine aw_aload_n dX5_house_223 rfl ?_
            refine aw_get dX5_house_224 fX5_70 rfl hR.1 (by rfl) ?_
            refine aw_iload_n dX5_house_227 rfl ?_
            refine aw_ialdN dX5_house_228 (hR.2.1 33 8 rfl) (by omega) (by decide) ?_
            try simp only [mm_n_N, mm_n_A, mm_n_V, mm_n_Fp, mm_n_W, mm_n_Nm, mm_a_N, mm_a_A, mm_a_V, mm_a_Fp, mm_a_W, mm_a_Nm, mm_v_N, mm_v_A, mm_v_V, mm_fp_N, mm_fp_A, mm_fp_Fp, mm_w_N, mm_w_W, Nat.reduceEqDiff, reduceIte, if_true, if_false, mm_H_45, mm_H_46, mm_H_47, mm_H_50, mm_H_53, mm_H_54, mm_H_55, mm_H_56, mm_H_57, mm_H_58, mm_H_66, mm_H_67, mm_H_68]
            refine mm_iast (k := 45) rfl hW hR hs dX5_house_229 (by omega) (by decide) (fun h hR hs => ?_)
            refine aw_iincN (b := 1) dX5_house_230 rfl rfl (by decide) rfl rfl ?_
            refine aw_goto (tgt := 150) dX5_house_233 (by decide) ?_
            exact ih (mm_n u 42 - (k + 1)) (by omega) (k + 1) h rfl (by omega) (mm_eq hR (mm_hT_s (t := u) (k := k) (aw_u_s _ _ _))) hs
      refine aw_iconst (v := nI 0) dX5_house_148 rfl ?_
      refine aw_istore_n dX5_house_149 (by decide) rfl rfl ?_
      exact loop _ 0 h rfl (Nat.zero_le _) (mm_eq hR mm_hT_0.symm) hs
    have f3 : ∀ (u : mm_S) (k : Nat) (h : aw_H), mm_h6 (mm_h5 (mm_h4 (mm_h3 u))) = mm_ho t → mm_n u 42 = mm_n t 39 → mm_R G w h u → mm_same w h0 h → AW G (aw_rm 8 0 0) yX5_house cX5_house 3 (some .int) (aw_N G (mm_PoC G w h0 (some (.int (op_house s))) (op_houseS s)) 0 0) 0 0 h 127 [(0, .ref w.1), (1, .int (nI k))] [] := by
      intro u k h eq e42 hR hs
      have loop : ∀ (m k : Nat) (h : aw_H), 28 - k = m → k ≤ 28 → mm_R G w h (mm_setA u 45 (sp_tk1 k (fun _ => 0) (mm_a u 45))) → mm_same w h0 h → AW G (aw_rm 8 0 0) yX5_house cX5_house 3 (some .int) (aw_N G (mm_PoC G w h0 (some (.int (op_house s))) (op_houseS s)) 0 0) 0 0 h 129 [(0, .ref w.1), (1, .int (nI k))] [] := by
        intro m
        induction m using Nat.strongRecOn with
        | _ m ih =>
          intro k h hm hk hR hs
          refine aw_iload_n dX5_house_129 rfl ?_
          refine aw_bipush (v := nI 28) dX5_house_130 rfl ?_
          refine aw_icmp_geN (tgt := 148) dX5_house_132 (by decide) (by omega) (by omega) (fun c_132 => ?_) (fun c_132 => ?_)
          · exact f4 (mm_h3 u) k h eq e42 (mm_eq hR (by rw [show k = 28 by omega]; rfl)) hs
          · refine aw_aload_n dX5_house_135 rfl ?_
            refine aw_get dX5_house_136 fX5_85 rfl hR.1 (by rfl) ?_
            refine aw_iload_n dX5_house_139 rfl ?_
            refine aw_iconst (v := nI 0) dX5_house_140 rfl ?_
            refine mm_iast (k := 45) rfl hW hR hs dX5_house_141 (by omega) (by decide) (fun h hR hs => ?_)
            have hR := mm_eq hR (show _ = mm_setA u 45 (sp_tk1 (k + 1) (fun _ => 0) (mm_a u 45)) by rw [mm_A_A]; congr 1; exact sp_tk1_s (a := fun _ => 0))
            refine aw_iincN (b := 1) dX5_house_142 rfl rfl (by decide) rfl rfl ?_
            refine aw_goto (tgt := 129) dX5_house_145 (by decide) ?_
            exact ih (28 - (k + 1)) (by omega) (k + 1) h rfl (by omega) hR hs
      refine aw_iconst (v := nI 0) dX5_house_127 rfl ?_
      refine aw_istore_n dX5_house_128 (by decide) rfl rfl ?_
      exact loop 28 0 h rfl (Nat.zero_le _) (mm_eq hR (by rw [sp_tk1_0, mm_A_self])) hs
    have cpy : ∀ (f : Nat) (u : mm_S) (h : aw_H), f < 2 → mm_n u 42 = mm_n t 39 → mm_a u 19 f < 2 → mm_st u f ≤ 320 → (∀ h, mm_R G w h (mm_cpF u f) → mm_same w h0 h → AW G (aw_rm 8 0 0) yX5_house cX5_house 3 (some .int) (aw_N G (mm_PoC G w h0 (some (.int (op_house s))) (op_houseS s)) 0 0) 0 0 h 39 [(0, .ref w.1), (1, .int (nI (f + 1)))] []) → mm_R G w h u → mm_same w h0 h → AW G (aw_rm 8 0 0) yX5_house cX5_house 3 (some .int) (aw_N G (mm_PoC G w h0 (some (.int (op_house s))) (op_houseS s)) 0 0) 0 0 h 39 [(0, .ref w.1), (1, .int (nI f))] [] := by
      intro f u h hf e42 h19 hst next hR hs
      have e16 : mm_a (mm_c1 u f) 16 f = mm_st u f := aw_u_s _ _ _
      have lp : ∀ (m k : Nat) (h : aw_H), 320 * f + mm_st u f - k = m → 320 * f ≤ k → k ≤ 320 * f + mm_st u f → mm_R G w h (mm_cp (mm_c1 u f) f k) → mm_same w h0 h → AW G (aw_rm 8 0 0) yX5_house cX5_house 3 (some .int) (aw_N G (mm_PoC G w h0 (some (.int (op_house s))) (op_houseS s)) 0 0) 0 0 h 75 [(0, .ref w.1), (1, .int (nI f)), (2, .int (nI k))] [] := by
        intro m
        induction m using Nat.strongRecOn with
        | _ m ih =>
          intro k h hm hk1 hk2 hR hs
          have e9 : mm_a (mm_cp (mm_c1 u f) f k) 16 f = mm_st u f := e16
          refine aw_iload_n dX5_house_75 rfl ?_
          refine aw_sipush (v := nI 320) dX5_house_76 rfl ?_
          refine aw_iload_n dX5_house_79 rfl ?_
          refine aw_imulN dX5_house_80 ?_
          refine aw_aload_n dX5_house_81 rfl ?_
          refine aw_get dX5_house_82 fX5_36 rfl hR.1 (by rfl) ?_
          refine aw_iload_n dX5_house_85 rfl ?_
          refine aw_ialdN dX5_house_86 (hR.2.1 16 2 rfl) (by omega) (by decide) ?_
          rw [e9]
          refine aw_iaddN dX5_house_87 ?_
          refine aw_icmp_geN (tgt := 121) dX5_house_88 (by decide) (by omega) (by omega) (fun c_88 => ?_) (fun c_88 => ?_)
          · refine aw_iincN (b := 1) dX5_house_121 rfl rfl (by decide) rfl rfl ?_
            refine aw_goto (tgt := 39) dX5_house_124 (by decide) ?_
            exact AW_dr (next h (mm_eq hR (by rw [show k = 320 * f + mm_st u f by omega]; rfl)) hs)
          · refine aw_aload_n dX5_house_91 rfl ?_
            refine aw_get dX5_house_92 fX5_30 rfl hR.1 (by rfl) ?_
            refine aw_iload_n dX5_house_95 rfl ?_
            refine aw_aload_n dX5_house_96 rfl ?_
            refine aw_get dX5_house_97 fX5_21 rfl hR.1 (by rfl) ?_
            refine aw_iload_n dX5_house_100 rfl ?_
            refine aw_ialdN dX5_house_101 (hR.2.1 11 640 rfl) (by omega) (by decide) ?_
            refine mm_iast (k := 14) rfl hW hR hs dX5_house_102 (by omega) (by decide) (fun h hR hs => ?_)
            refine aw_aload_n dX5_house_103 rfl ?_
            refine aw_get dX5_house_104 fX5_33 rfl hR.1 (by rfl) ?_
            refine aw_iload_n dX5_house_107 rfl ?_
            refine aw_aload_n dX5_house_108 rfl ?_
            refine aw_get dX5_house_109 fX5_24 rfl hR.1 (by rfl) ?_
            refine aw_iload_n dX5_house_112 rfl ?_
            refine aw_ialdN dX5_house_113 (hR.2.1 12 640 rfl) (by omega) (by decide) ?_
            try simp only [mm_n_N, mm_n_A, mm_n_V, mm_n_Fp, mm_n_W, mm_n_Nm, mm_a_N, mm_a_A, mm_a_V, mm_a_Fp, mm_a_W, mm_a_Nm, mm_v_N, mm_v_A, mm_v_V, mm_fp_N, mm_fp_A, mm_fp_Fp, mm_w_N, mm_w_W, Nat.reduceEqDiff, reduceIte, if_true, if_false, mm_H_45, mm_H_46, mm_H_47, mm_H_50, mm_H_53, mm_H_54, mm_H_55, mm_H_56, mm_H_57, mm_H_58, mm_H_66, mm_H_67, mm_H_68]
            refine mm_iast (k := 15) rfl hW hR hs dX5_house_114 (by omega) (by decide) (fun h hR hs => ?_)
            refine aw_iincN (b := 1) dX5_house_115 rfl rfl (by decide) rfl rfl ?_
            refine aw_goto (tgt := 75) dX5_house_118 (by decide) ?_
            exact ih (320 * f + mm_st u f - (k + 1)) (by omega) (k + 1) h rfl (by omega) (by omega) (mm_eq hR (mm_cp_s (t := mm_c1 u f) hk1)) hs
      have go : ∀ h, mm_R G w h (mm_c1 u f) → mm_same w h0 h → AW G (aw_rm 8 0 0) yX5_house cX5_house 3 (some .int) (aw_N G (mm_PoC G w h0 (some (.int (op_house s))) (op_houseS s)) 0 0) 0 0 h 69 [(0, .ref w.1), (1, .int (nI f))] [] := by
        intro h hR hs
        refine aw_sipush (v := nI 320) dX5_house_69 rfl ?_
        refine aw_iload_n dX5_house_72 rfl ?_
        refine aw_imulN dX5_house_73 ?_
        refine aw_istore_n dX5_house_74 (by decide) rfl rfl ?_
        refine AW_ls ?_ (lp _ (320 * f) h rfl (Nat.le_refl _) (by omega) (mm_eq hR mm_cp_0.symm) hs)
        rfl
      refine aw_iload_n dX5_house_39 rfl ?_
      refine aw_iconst (v := nI 2) dX5_house_40 rfl ?_
      refine aw_icmp_geN (tgt := 127) dX5_house_41 (by decide) (by omega) (by omega) (fun c_41 => by exfalso; omega) (fun c_41 => ?_)
      refine aw_aload_n dX5_house_44 rfl ?_
      refine aw_get dX5_house_45 fX5_36 rfl hR.1 (by rfl) ?_
      refine aw_iload_n dX5_house_48 rfl ?_
      refine aw_aload_n dX5_house_49 rfl ?_
      refine aw_get dX5_house_50 fX5_45 rfl hR.1 (by rfl) ?_
      refine aw_iload_n dX5_house_53 rfl ?_
      refine aw_zaldN dX5_house_54 (hR.2.2.1 19 2 rfl) (by omega) (by decide) ?_
      refine aw_if_eqN (tgt := 67) dX5_house_55 (by decide) (by omega) (fun c_55 => ?_) (fun c_55 => ?_)
      · refine aw_iconst (v := nI 0) dX5_house_67 rfl ?_
        refine mm_iast (k := 16) rfl hW hR hs dX5_house_68 (by omega) (by decide) (fun h hR hs => ?_)
        refine go h (mm_eq hR ?_) hs
        unfold mm_c1 mm_st
        first
          | (rw [if_pos (by omega)]; done)
          | (rw [if_neg (by omega)]; done)
      · refine aw_aload_n dX5_house_58 rfl ?_
        refine aw_get dX5_house_59 fX5_27 rfl hR.1 (by rfl) ?_
        refine aw_iload_n dX5_house_62 rfl ?_
        refine aw_ialdN dX5_house_63 (hR.2.1 13 2 rfl) (by omega) (by decide) ?_
        refine aw_goto (tgt := 68) dX5_house_64 (by decide) ?_
        refine mm_iast (k := 16) rfl hW hR hs dX5_house_68 (by omega) (by decide) (fun h hR hs => ?_)
        refine go h (mm_eq hR ?_) hs
        unfold mm_c1 mm_st
        first
          | (rw [if_pos (by omega)]; done)
          | (rw [if_neg (by omega)]; done)
    have out : ∀ (h : aw_H), mm_R G w h (mm_h2 t) → mm_same w h0 h → AW G (aw_rm 8 0 0) yX5_house cX5_house 3 (some .int) (aw_N G (mm_PoC G w h0 (some (.int (op_house s))) (op_houseS s)) 0 0) 0 0 h 39 [(0, .ref w.1), (1, .int (nI 2))] [] := by
      intro h hR hs
      refine aw_iload_n dX5_house_39 rfl ?_
      refine aw_iconst (v := nI 2) dX5_house_40 rfl ?_
      refine aw_icmp_geN (tgt := 127) dX5_house_41 (by decide) (by omega) (by omega) (fun c_41 => ?_) (fun c_41 => by exfalso; omega)
      exact f3 (mm_h2 t) 2 h rfl rfl hR hs
    have s0 : mm_st (mm_h1 t) 0 ≤ 320 := by
      show (if mm_a t 19 0 = 0 then 0 else mm_a t 13 0) ≤ 320
      have q := i4 0 (by decide)
      split
      · omega
      · have := q.2 (by omega)
        omega
    have s1 : mm_st (mm_cpF (mm_h1 t) 0) 1 ≤ 320 := by
      show (if mm_a t 19 1 = 0 then 0 else mm_a t 13 1) ≤ 320
      have q := i4 1 (by decide)
      split
      · omega
      · have := q.2 (by omega)
        omega
    refine aw_aload_n dX5_house_0 rfl ?_
    refine mm_call dX5_house_1 sX5_347 rfl hW hR hs cra rfl rfl ⟨Nat.le_of_ble_eq_true rfl, Nat.le_of_ble_eq_true rfl⟩ (Nat.le_of_ble_eq_true rfl) (fun h hR hs => ?_)
    refine aw_aload_n dX5_house_4 rfl ?_
    refine aw_get dX5_house_5 fX5_182 rfl hR.1 (by rfl) ?_
    try simp only [mm_n_N, mm_n_A, mm_n_V, mm_n_Fp, mm_n_W, mm_n_Nm, mm_a_N, mm_a_A, mm_a_V, mm_a_Fp, mm_a_W, mm_a_Nm, mm_v_N, mm_v_A, mm_v_V, mm_fp_N, mm_fp_A, mm_fp_Fp, mm_w_N, mm_w_W, Nat.reduceEqDiff, reduceIte, if_true, if_false, mm_H_45, mm_H_46, mm_H_47, mm_H_50, mm_H_53, mm_H_54, mm_H_55, mm_H_56, mm_H_57, mm_H_58, mm_H_66, mm_H_67, mm_H_68]
    refine aw_if_leN (tgt := 13) dX5_house_8 (by decide) (by omega) (fun c_8 => ?_) (fun c_8 => by exfalso; omega)
    refine aw_aload_n dX5_house_13 rfl ?_
    refine aw_aload_n dX5_house_14 rfl ?_
    refine aw_get dX5_house_15 fX5_312 rfl hR.1 (by rfl) ?_
    try simp only [mm_n_N, mm_n_A, mm_n_V, mm_n_Fp, mm_n_W, mm_n_Nm, mm_a_N, mm_a_A, mm_a_V, mm_a_Fp, mm_a_W, mm_a_Nm, mm_v_N, mm_v_A, mm_v_V, mm_fp_N, mm_fp_A, mm_fp_Fp, mm_w_N, mm_w_W, Nat.reduceEqDiff, reduceIte, if_true, if_false, mm_H_45, mm_H_46, mm_H_47, mm_H_50, mm_H_53, mm_H_54, mm_H_55, mm_H_56, mm_H_57, mm_H_58, mm_H_66, mm_H_67, mm_H_68]
    refine mm_putN (k := 41) hW hR hs dX5_house_18 (pX5_82 _) rfl rfl (mm_F_set41 _ _ _) (by decide) (fun h hR hs => ?_)
    refine aw_aload_n dX5_house_21 rfl ?_
    refine aw_aload_n dX5_house_22 rfl ?_
    refine aw_get dX5_house_23 fX5_248 rfl hR.1 (by rfl) ?_
    try simp only [mm_n_N, mm_n_A, mm_n_V, mm_n_Fp, mm_n_W, mm_n_Nm, mm_a_N, mm_a_A, mm_a_V, mm_a_Fp, mm_a_W, mm_a_Nm, mm_v_N, mm_v_A, mm_v_V, mm_fp_N, mm_fp_A, mm_fp_Fp, mm_w_N, mm_w_W, Nat.reduceEqDiff, reduceIte, if_true, if_false, mm_H_45, mm_H_46, mm_H_47, mm_H_50, mm_H_53, mm_H_54, mm_H_55, mm_H_56, mm_H_57, mm_H_58, mm_H_66, mm_H_67, mm_H_68]
    refine mm_putN (k := 42) hW hR hs dX5_house_26 (pX5_350 _) rfl rfl (mm_F_set42 _ _ _) (by decide) (fun h hR hs => ?_)
    refine aw_aload_n dX5_house_29 rfl ?_
    refine aw_aload_n dX5_house_30 rfl ?_
    refine aw_get dX5_house_31 fX5_267 rfl hR.1 (by rfl) ?_
    try simp only [mm_n_N, mm_n_A, mm_n_V, mm_n_Fp, mm_n_W, mm_n_Nm, mm_a_N, mm_a_A, mm_a_V, mm_a_Fp, mm_a_W, mm_a_Nm, mm_v_N, mm_v_A, mm_v_V, mm_fp_N, mm_fp_A, mm_fp_Fp, mm_w_N, mm_w_W, Nat.reduceEqDiff, reduceIte, if_true, if_false, mm_H_45, mm_H_46, mm_H_47, mm_H_50, mm_H_53, mm_H_54, mm_H_55, mm_H_56, mm_H_57, mm_H_58, mm_H_66, mm_H_67, mm_H_68]
    refine mm_putN (k := 23) hW hR hs dX5_house_34 (pX5_353 _) rfl rfl (mm_F_set23 _ _ _) (by decide) (fun h hR hs => ?_)
    have hR := mm_eq hR (show _ = mm_h1 t from rfl)
    refine aw_iconst (v := nI 0) dX5_house_37 rfl ?_
    refine aw_istore_n dX5_house_38 (by decide) rfl rfl ?_
    exact cpy 0 (mm_h1 t) h (by decide) rfl (i4 0 (by decide)).1 s0 (fun h hR hs => cpy 1 (mm_cpF (mm_h1 t) 0) h (by decide) rfl (i4 1 (by decide)).1 s1 (fun h hR hs => out h hR hs) hR hs) hR hs
  · rw [if_neg z] at eo es
    refine aw_aload_n dX5_house_0 rfl ?_
    refine mm_call dX5_house_1 sX5_347 rfl hW hR hs cra rfl rfl ⟨Nat.le_of_ble_eq_true rfl, Nat.le_of_ble_eq_true rfl⟩ (Nat.le_of_ble_eq_true rfl) (fun h hR hs => ?_)
    refine aw_aload_n dX5_house_4 rfl ?_
    refine aw_get dX5_house_5 fX5_182 rfl hR.1 (by rfl) ?_
    try simp only [mm_n_N, mm_n_A, mm_n_V, mm_n_Fp, mm_n_W, mm_n_Nm, mm_a_N, mm_a_A, mm_a_V, mm_a_Fp, mm_a_W, mm_a_Nm, mm_v_N, mm_v_A, mm_v_V, mm_fp_N, mm_fp_A, mm_fp_Fp, mm_w_N, mm_w_W, Nat.reduceEqDiff, reduceIte, if_true, if_false, mm_H_45, mm_H_46, mm_H_47, mm_H_50, mm_H_53, mm_H_54, mm_H_55, mm_H_56, mm_H_57, mm_H_58, mm_H_66, mm_H_67, mm_H_68]
    refine aw_if_leN (tgt := 13) dX5_house_8 (by decide) (by omega) (fun c_8 => by exfalso; omega) (fun c_8 => ?_)
    refine aw_iconst (v := -1) dX5_house_11 rfl ?_
    refine aw_ireturn dX5_house_12 rfl ?_
    exact ⟨by rw [eo], _, mm_core.rf, mm_eq hR es.symm, hs⟩

