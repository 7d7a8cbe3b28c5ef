set_option maxRecDepth 100000
/-! the model: tokens. T: the tape, z: its size -/
def sp_at (T : Nat → Nat) (z p : Nat) : Int32 := if p < z then nI (T p) else -1
def sp_isW (T : Nat → Nat) (z p : Nat) : Bool := decide (p < z ∧ (T p = 32 ∨ T p = 10))
def sp_isL (T : Nat → Nat) (z p : Nat) : Bool := decide (p < z ∧ 97 ≤ T p ∧ T p ≤ 122)
def sp_isD (T : Nat → Nat) (z p : Nat) : Bool := decide (p < z ∧ 48 ≤ T p ∧ T p ≤ 57)
/-- from p on, so many of r in a row -/
def sp_ln (P : Nat → Bool) : Nat → Nat → Nat
  | 0, _ => 0
  | r + 1, p => if P p then sp_ln P r (p + 1) + 1 else 0
theorem sp_ln_le {P : Nat → Bool} {z : Nat} (h : ∀ p, P p = true → p < z) : ∀ r p, p ≤ z → p + sp_ln P r p ≤ z := by
  intro r
  induction r with
  | zero => intro p hp; exact hp
  | succ r ih =>
    intro p hp
    unfold sp_ln
    by_cases e : P p = true
    · rw [if_pos e]
      have := ih (p + 1) (h p e)
      omega
    · rw [if_neg e]; exact hp
theorem sp_ln_in {P : Nat → Bool} : ∀ r p k, k < sp_ln P r p → P (p + k) = true := by
  intro r
  induction r with
  | zero => intro p k hk; exact absurd hk (Nat.not_lt_zero _)
  | succ r ih =>
    intro p k hk
    unfold sp_ln at hk
    by_cases e : P p = true
    · rw [if_pos e] at hk
      cases k with
      | zero => exact e
      | succ k =>
        have := ih (p + 1) k (by omega)
        rw [show p + (k + 1) = p + 1 + k by omega]
        exact this
    · rw [if_neg e] at hk; exact absurd hk (Nat.not_lt_zero _)
/-- behind the row comes another one (rows end ahead of z) -/
theorem sp_ln_out {P : Nat → Bool} {z : Nat} (h : ∀ p, P p = true → p < z) : ∀ r p, z ≤ p + r → P (p + sp_ln P r p) = false := by
  intro r
  induction r with
  | zero =>
    intro p hp
    cases e : P (p + sp_ln P 0 p) with
    | false => rfl
    | true =>
      have := h _ e
      have e0 : sp_ln P 0 p = 0 := rfl
      omega
  | succ r ih =>
    intro p hp
    unfold sp_ln
    by_cases e : P p = true
    · rw [if_pos e, show p + (sp_ln P r (p + 1) + 1) = p + 1 + sp_ln P r (p + 1) by omega]
      exact ih (p + 1) (by omega)
    · rw [if_neg e]
      cases e2 : P p with
      | false => rfl
      | true => exact absurd e2 e
def sp_ws (T : Nat → Nat) (z p : Nat) : Nat := p + sp_ln (sp_isW T z) (z - p) p
def sp_wl (T : Nat → Nat) (z q : Nat) : Nat := sp_ln (sp_isL T z) (z - q) q
def sp_dl (T : Nat → Nat) (z q : Nat) : Nat := sp_ln (sp_isD T z) (z - q) q
/-- the word of k letters, as the model holds it -/
def sp_wd (T : Nat → Nat) (q : Nat) : Nat → Int64
  | 0 => 0
  | k + 1 => sp_wd T q k <<< ((nI 8).toInt64 &&& 63) ||| (nI (T (q + k))).toInt64
def sp_nm (T : Nat → Nat) (q : Nat) : Nat → Nat
  | 0 => 0
  | k + 1 => 10 * sp_nm T q k + T (q + k) - 48
def sp_sgn (c : Nat) : Bool := decide (c = 59 ∨ c = 40 ∨ c = 41 ∨ c = 60 ∨ c = 62 ∨ c = 61 ∨ c = 43 ∨ c = 45 ∨ c = 42 ∨ c = 47 ∨ c = 37)
/-- the sort of what begins at q: 0 end, 1 word, 2 number, 3 bad, else a sign -/
def sp_tks (T : Nat → Nat) (z q : Nat) : Nat := if z ≤ q then 0 else if sp_isL T z q then (if 8 < sp_wl T z q then 3 else 1) else if sp_isD T z q then (if 4 < sp_dl T z q ∨ sp_isL T z (q + sp_dl T z q) = true then 3 else 2) else if sp_sgn (T q) then T q else 3
def sp_tkn (T : Nat → Nat) (z q : Nat) : Nat := if z ≤ q then 0 else if sp_isL T z q then sp_wl T z q else if sp_isD T z q then sp_dl T z q else 1
set_option maxHeartbeats 4000000 in
theorem mm_here {s : mm_S} {k : Nat} (hz : mm_n s 5 ≤ 1600) (hk : mm_n s 4 + k < 2147483648) : mm_Met yX5_here cX5_here 2 (some .int) 0 [.int (nI (k))] s (some (.int (sp_at (mm_a s 0) (mm_n s 5) (mm_n s 4 + k)))) (s) := by
  refine mm_Met.of (by decide +kernel) (fun _ => Nat.le_of_ble_eq_true rfl) (fun G w h0 hW hR => ?_)
  have hs : mm_same w h0 h0 := mm_same.rf
  show AW G (aw_rm 0 0 0) yX5_here cX5_here 2 (some .int) (aw_N G (mm_Po G w h0 (some (.int (sp_at (mm_a s 0) (mm_n s 5) (mm_n s 4 + k)))) (s)) 0 0) 0 0 h0 0 [(0, .ref w.1), (1, .int (nI (k)))] []
  refine aw_aload_n dX5_here_0 rfl ?_
  refine aw_get dX5_here_1 fX5_149 rfl hR.1 (by rfl) ?_
  refine aw_iload_n dX5_here_4 rfl ?_
  refine aw_iaddN dX5_here_5 ?_
  refine aw_aload_n dX5_here_6 rfl ?_
  refine aw_get dX5_here_7 fX5_152 rfl hR.1 (by rfl) ?_
  refine aw_icmp_geN (tgt := 27) dX5_here_10 (by decide) (by omega) (by omega) (fun c_10 => ?_) (fun c_10 => ?_)
  · refine aw_iconst (v := -1) dX5_here_27 rfl ?_
    refine aw_ireturn dX5_here_28 rfl ?_
    refine ⟨?_, hR, hs⟩
    unfold sp_at
    first
      | (rw [if_pos (by omega)]; done)
      | (rw [if_neg (by omega)])
  · refine aw_aload_n dX5_here_13 rfl ?_
    refine aw_get dX5_here_14 fX5_7 rfl hR.1 (by rfl) ?_
    refine aw_aload_n dX5_here_17 rfl ?_
    refine aw_get dX5_here_18 fX5_149 rfl hR.1 (by rfl) ?_
    refine aw_iload_n dX5_here_21 rfl ?_
    refine aw_iaddN dX5_here_22 ?_
    refine aw_ialdN dX5_here_23 (hR.2.1 0 1600 rfl) (by omega) (by decide) ?_
    refine aw_goto (tgt := 28) dX5_here_24 (by decide) ?_
    refine aw_ireturn dX5_here_28 rfl ?_
    refine ⟨?_, hR, hs⟩
    unfold sp_at
    first
      | (rw [if_pos (by omega)]; done)
      | (rw [if_neg (by omega)])
set_option maxHeartbeats 4000000 in
theorem mm_wrong {s : mm_S} {v : Nat} (h2 : mm_n s 2 < 2147483648) (h6 : mm_n s 6 < 2147483648) : mm_Met yX5_wrong cX5_wrong 2 none 0 [.int (nI (v))] s none (if mm_n s 2 = 0 then mm_setFp (mm_setN s 2 (if mm_n s 6 = 3 then 1 else v)) (nI (mm_n s 7)) else s) := by
  refine mm_Met.of (by decide +kernel) (fun _ => Nat.le_of_ble_eq_true rfl) (fun G w h0 hW hR => ?_)
  have hs : mm_same w h0 h0 := mm_same.rf
  show AW G (aw_rm 0 0 0) yX5_wrong cX5_wrong 2 none (aw_N G (mm_Po G w h0 none (if mm_n s 2 = 0 then mm_setFp (mm_setN s 2 (if mm_n s 6 = 3 then 1 else v)) (nI (mm_n s 7)) else s)) 0 0) 0 0 h0 0 [(0, .ref w.1), (1, .int (nI (v)))] []
  refine aw_aload_n dX5_wrong_0 rfl ?_
  refine aw_get dX5_wrong_1 fX5_182 rfl hR.1 (by rfl) ?_
  refine aw_if_leN (tgt := 8) dX5_wrong_4 (by decide) (by omega) (fun c_4 => ?_) (fun c_4 => ?_)
  · refine aw_aload_n dX5_wrong_8 rfl ?_
    refine aw_aload_n dX5_wrong_9 rfl ?_
    refine aw_get dX5_wrong_10 fX5_169 rfl hR.1 (by rfl) ?_
    refine aw_iconst (v := nI 3) dX5_wrong_13 rfl ?_
    refine aw_icmp_neN (tgt := 21) dX5_wrong_14 (by decide) (by omega) (by omega) (fun c_14 => ?_) (fun c_14 => ?_)
    · refine aw_iload_n dX5_wrong_21 rfl ?_
      refine mm_putN (k := 2) hW hR hs dX5_wrong_22 (pX5_182 _) rfl rfl (mm_F_set2 _ _ _) (by decide) (fun h hR hs => ?_)
      refine aw_aload_n dX5_wrong_25 rfl ?_
      refine aw_aload_n dX5_wrong_26 rfl ?_
      refine aw_get dX5_wrong_27 fX5_159 rfl hR.1 (by rfl) ?_
      try simp only [mm_n_N, mm_n_A, mm_n_V, mm_n_Fp, mm_n_W, mm_n_Nm, mm_a_N, mm_a_A, mm_a_V, mm_a_Fp, mm_a_W, mm_a_Nm, mm_v_N, mm_v_A, mm_v_V, mm_fp_N, mm_fp_A, mm_fp_Fp, mm_w_N, mm_w_W, Nat.reduceEqDiff, reduceIte, if_true, if_false, mm_H_45, mm_H_46, mm_H_47, mm_H_50, mm_H_53, mm_H_54, mm_H_55, mm_H_56, mm_H_57, mm_H_58, mm_H_66, mm_H_67, mm_H_68]
      refine mm_putFp hW hR hs dX5_wrong_30 (pX5_13 _) rfl rfl (fun h hR hs => ?_)
      refine aw_vreturn dX5_wrong_33 rfl ?_
      refine ⟨rfl, mm_eq hR ?_, hs⟩
      rw [if_pos (show mm_n s 2 = 0 by omega)]
      first
        | (rw [if_pos (show mm_n s 6 = 3 by omega)]; done)
        | (rw [if_pos (show mm_n s 6 = 3 by omega)]; rfl)
        | (rw [if_neg (show ¬ mm_n s 6 = 3 by omega)]; done)
        | (rw [if_neg (show ¬ mm_n s 6 = 3 by omega)]; rfl)
    · refine aw_iconst (v := nI 1) dX5_wrong_17 rfl ?_
      refine aw_goto (tgt := 22) dX5_wrong_18 (by decide) ?_
      refine mm_putN (k := 2) hW hR hs dX5_wrong_22 (pX5_182 _) rfl rfl (mm_F_set2 _ _ _) (by decide) (fun h hR hs => ?_)
      refine aw_aload_n dX5_wrong_25 rfl ?_
      refine aw_aload_n dX5_wrong_26 rfl ?_
      refine aw_get dX5_wrong_27 fX5_159 rfl hR.1 (by rfl) ?_
      try simp only [mm_n_N, mm_n_A, mm_n_V, mm_n_Fp, mm_n_W, mm_n_Nm, mm_a_N, mm_a_A, mm_a_V, mm_a_Fp, mm_a_W, mm_a_Nm, mm_v_N, mm_v_A, mm_v_V, mm_fp_N, mm_fp_A, mm_fp_Fp, mm_w_N, mm_w_W, Nat.reduceEqDiff, reduceIte, if_true, if_false, mm_H_45, mm_H_46, mm_H_47, mm_H_50, mm_H_53, mm_H_54, mm_H_55, mm_H_56, mm_H_57, mm_H_58, mm_H_66, mm_H_67, mm_H_68]
      refine mm_putFp hW hR hs dX5_wrong_30 (pX5_13 _) rfl rfl (fun h hR hs => ?_)
      refine aw_vreturn dX5_wrong_33 rfl ?_
      refine ⟨rfl, mm_eq hR ?_, hs⟩
      rw [if_pos (show mm_n s 2 = 0 by omega)]
      first
        | (rw [if_pos (show mm_n s 6 = 3 by omega)]; done)
        | (rw [if_pos (show mm_n s 6 = 3 by omega)]; rfl)
        | (rw [if_neg (show ¬ mm_n s 6 = 3 by omega)]; done)
        | (rw [if_neg (show ¬ mm_n s 6 = 3 by omega)]; rfl)
  · refine aw_vreturn dX5_wrong_7 rfl ?_
    exact ⟨rfl, mm_eq hR (by rw [if_neg (by omega)]), hs⟩
set_option maxHeartbeats 4000000 in
theorem mm_isWord {s : mm_S} {v : Int64} (h6 : mm_n s 6 < 2147483648) : mm_Met yX5_isWord cX5_isWord 3 (some .boolean) 0 [.long (v)] s (some (.int (nI (aw_t (mm_n s 6 = 1 ∧ mm_w s = v))))) (s) := by
  refine mm_Met.of (by decide +kernel) (fun _ => Nat.le_of_ble_eq_true rfl) (fun G w h0 hW hR => ?_)
  have hs : mm_same w h0 h0 := mm_same.rf
  show AW G (aw_rm 0 0 0) yX5_isWord cX5_isWord 3 (some .boolean) (aw_N G (mm_Po G w h0 (some (.int (nI (aw_t (mm_n s 6 = 1 ∧ mm_w s = v))))) (s)) 0 0) 0 0 h0 0 [(0, .ref w.1), (1, .long (v))] []
  refine aw_aload_n dX5_isWord_0 rfl ?_
  refine aw_get dX5_isWord_1 fX5_169 rfl hR.1 (by rfl) ?_
  refine aw_iconst (v := nI 1) dX5_isWord_4 rfl ?_
  refine aw_icmp_neN (tgt := 21) dX5_isWord_5 (by decide) (by omega) (by omega) (fun c_5 => ?_) (fun c_5 => ?_)
  · refine aw_iconst (v := nI 0) dX5_isWord_21 rfl ?_
    refine aw_zreturn dX5_isWord_22 rfl rfl ?_
    by_cases z : mm_n s 6 = 1 ∧ mm_w s = v
    · rw [aw_t1 z]
      first
        | exact ⟨rfl, hR, hs⟩
        | exact absurd z.1 c_5
        | exact absurd z.2 c_14
    · rw [aw_t0 z]
      first
        | exact ⟨rfl, hR, hs⟩
        | exact absurd ⟨c_5, c_14⟩ z
  · refine aw_aload_n dX5_isWord_8 rfl ?_
    refine aw_get dX5_isWord_9 fX5_162 rfl hR.1 (by rfl) ?_
    refine aw_lload_n dX5_isWord_12 rfl ?_
    refine aw_lcmp dX5_isWord_13 ?_
    refine aw_if_neL (tgt := 21) dX5_isWord_14 (by decide) (fun c_14 => ?_) (fun c_14 => ?_)
    · refine aw_iconst (v := nI 0) dX5_isWord_21 rfl ?_
      refine aw_zreturn dX5_isWord_22 rfl rfl ?_
      by_cases z : mm_n s 6 = 1 ∧ mm_w s = v
      · rw [aw_t1 z]
        first
          | exact ⟨rfl, hR, hs⟩
          | exact absurd z.1 c_5
          | exact absurd z.2 c_14
      · rw [aw_t0 z]
        first
          | exact ⟨rfl, hR, hs⟩
          | exact absurd ⟨c_5, c_14⟩ z
    · refine aw_iconst (v := nI 1) dX5_isWord_17 rfl ?_
      refine aw_goto (tgt := 22) dX5_isWord_18 (by decide) ?_
      refine aw_zreturn dX5_isWord_22 rfl rfl ?_
      by_cases z : mm_n s 6 = 1 ∧ mm_w s = v
      · rw [aw_t1 z]
        first
          | exact ⟨rfl, hR, hs⟩
          | exact absurd z.1 c_5
          | exact absurd z.2 c_14
      · rw [aw_t0 z]
        first
          | exact ⟨rfl, hR, hs⟩
          | exact absurd ⟨c_5, c_14⟩ z
theorem sp_at_in {T : Nat → Nat} {z p : Nat} (h : p < z) : sp_at T z p = nI (T p) := if_pos h
theorem sp_at_out {T : Nat → Nat} {z p : Nat} (h : ¬ p < z) : sp_at T z p = -1 := if_neg h
theorem sp_ln_s {P : Nat → Bool} {z p : Nat} (h : p < z) : sp_ln P (z - p) p = if P p then sp_ln P (z - (p + 1)) (p + 1) + 1 else 0 := by
  rw [show z - p = z - (p + 1) + 1 by omega]
  rfl
theorem mm_ext6 {s t : mm_S} (h1 : ∀ j, mm_n s j = mm_n t j) (h2 : mm_fp s = mm_fp t) (h3 : mm_w s = mm_w t) (h4 : mm_a s = mm_a t) (h5 : mm_v s = mm_v t) (h6 : mm_nm s = mm_nm t) : s = t := by
  obtain ⟨a1, a2, a3, a4, a5, a6⟩ := s
  obtain ⟨b1, b2, b3, b4, b5, b6⟩ := t
  obtain rfl : a1 = b1 := funext h1
  obtain rfl : a2 = b2 := h2
  obtain rfl : a3 = b3 := h3
  obtain rfl : a4 = b4 := h4
  obtain rfl : a5 = b5 := h5
  obtain rfl : a6 = b6 := h6
  rfl
/-- the token's fields -/
def mm_tkS (s : mm_S) (q : Nat) (wd : Int64) (nu k p : Nat) : mm_S := mm_setN (mm_setN (mm_setN (mm_setW (mm_setN s 7 q) wd) 8 nu) 6 k) 4 p
theorem mm_tkS_n {s : mm_S} {q nu k p : Nat} {wd : Int64} (j : Nat) : mm_n (mm_tkS s q wd nu k p) j = if j = 4 then p else if j = 6 then k else if j = 8 then nu else if j = 7 then q else mm_n s j := rfl
theorem aw_bf {b : Bool} (h : ¬ b = true) : b = false := by cases b with | false => rfl | true => exact absurd rfl h
theorem mm_tk6 {s : mm_S} {q nu k k0 p : Nat} {wd : Int64} : mm_setN (mm_tkS s q wd nu k0 p) 6 k = mm_tkS s q wd nu k p := mm_ext6 (fun j => by
  show (if j = 6 then k else mm_n (mm_tkS s q wd nu k0 p) j) = _
  rw [mm_tkS_n, mm_tkS_n]
  by_cases e : j = 6
  · subst e; rfl
  · rw [if_neg e, if_neg e, if_neg e]) rfl rfl rfl rfl rfl
theorem mm_tk8 {s : mm_S} {q nu nu0 k p : Nat} {wd : Int64} : mm_setN (mm_tkS s q wd nu0 k p) 8 nu = mm_tkS s q wd nu k p := mm_ext6 (fun j => by
  show (if j = 8 then nu else mm_n (mm_tkS s q wd nu0 k p) j) = _
  rw [mm_tkS_n, mm_tkS_n]
  by_cases e : j = 8
  · subst e; rfl
  · rw [if_neg e, if_neg e, if_neg e]) rfl rfl rfl rfl rfl
theorem mm_tk0 {s : mm_S} {q : Nat} : mm_setN (mm_setW (mm_setN (mm_setN s 4 q) 7 q) 0) 8 0 = mm_tkS s q 0 0 (mm_n s 6) q := mm_ext6 (fun j => by
  show (if j = 8 then 0 else if j = 7 then q else if j = 4 then q else mm_n s j) = _
  rw [mm_tkS_n]
  by_cases e4 : j = 4
  · subst e4; rfl
  · by_cases e6 : j = 6
    · subst e6; rfl
    · rw [if_neg e4, if_neg e4, if_neg e6]) rfl rfl rfl rfl rfl
theorem sp_sgn_at {c : Nat} (hc : c < 256) : sp_sign (nI c).toInt ↔ sp_sgn c = true := by
  unfold sp_sgn sp_sign
  rw [decide_eq_true_iff, aw_ti (by omega)]
  omega
theorem sp_isL_at {T : Nat → Nat} {z p : Nat} (hT : p < z → T p < 256) : (97 ≤ (sp_at T z p).toInt ∧ (sp_at T z p).toInt ≤ 122) ↔ sp_isL T z p = true := by
  unfold sp_isL
  rw [decide_eq_true_iff]
  by_cases h : p < z
  · rw [sp_at_in h, aw_ti (by have := hT h; omega)]
    omega
  · rw [sp_at_out h]
    constructor
    · intro y; exact absurd y.1 (by decide)
    · intro y; exact absurd y.1 h
theorem sp_isD_at {T : Nat → Nat} {z p : Nat} (hT : p < z → T p < 256) : (48 ≤ (sp_at T z p).toInt ∧ (sp_at T z p).toInt ≤ 57) ↔ sp_isD T z p = true := by
  unfold sp_isD
  rw [decide_eq_true_iff]
  by_cases h : p < z
  · rw [sp_at_in h, aw_ti (by have := hT h; omega)]
    omega
  · rw [sp_at_out h]
    constructor
    · intro y; exact absurd y.1 (by decide)
    · intro y; exact absurd y.1 h
def mm_tk (s : mm_S) : mm_S := mm_tkS s (sp_ws (mm_a s 0) (mm_n s 5) (mm_n s 4)) (if sp_isL (mm_a s 0) (mm_n s 5) (sp_ws (mm_a s 0) (mm_n s 5) (mm_n s 4)) = true then sp_wd (mm_a s 0) (sp_ws (mm_a s 0) (mm_n s 5) (mm_n s 4)) (min 8 (sp_wl (mm_a s 0) (mm_n s 5) (sp_ws (mm_a s 0) (mm_n s 5) (mm_n s 4)))) else 0) (if sp_isD (mm_a s 0) (mm_n s 5) (sp_ws (mm_a s 0) (mm_n s 5) (mm_n s 4)) = true then sp_nm (mm_a s 0) (sp_ws (mm_a s 0) (mm_n s 5) (mm_n s 4)) (min 4 (sp_dl (mm_a s 0) (mm_n s 5) (sp_ws (mm_a s 0) (mm_n s 5) (mm_n s 4)))) else 0) (sp_tks (mm_a s 0) (mm_n s 5) (sp_ws (mm_a s 0) (mm_n s 5) (mm_n s 4))) (if sp_tks (mm_a s 0) (mm_n s 5) (sp_ws (mm_a s 0) (mm_n s 5) (mm_n s 4)) = 3 then sp_ws (mm_a s 0) (mm_n s 5) (mm_n s 4) else sp_ws (mm_a s 0) (mm_n s 5) (mm_n s 4) + sp_tkn (mm_a s 0) (mm_n s 5) (sp_ws (mm_a s 0) (mm_n s 5) (mm_n s 4)))
theorem mm_N_id {s : mm_S} {k v : Nat} (h : v = mm_n s k) : mm_setN s k v = s := by
  subst h
  unfold mm_setN mm_n
  obtain ⟨a, b⟩ := s
  dsimp only
  congr 1
  funext j
  unfold aw_u
  split
  · rename_i h; rw [h]
  · rfl
set_option maxHeartbeats 4000000 in
theorem mm_token {s : mm_S} (hz : mm_n s 5 ≤ 1600) (hp : mm_n s 4 ≤ mm_n s 5) (hT : ∀ j, j < 1600 → mm_a s 0 j < 256) : mm_Met yX5_token cX5_token 3 none 1 [] s none (mm_tk s) := by
  refine mm_Met.of (by decide +kernel) (fun _ => Nat.le_of_ble_eq_true rfl) (fun G w h0 hW hR => ?_)
  have hs : mm_same w h0 h0 := mm_same.rf
  show AW G (aw_rm 1 0 0) yX5_token cX5_token 3 none (aw_N G (mm_Po G w h0 none (mm_tk s)) 0 0) 0 0 h0 0 [(0, .ref w.1)] []
  obtain ⟨T, eT⟩ : ∃ T, T = mm_a s 0 := ⟨_, rfl⟩
  obtain ⟨z, ez⟩ : ∃ z, z = mm_n s 5 := ⟨_, rfl⟩
  obtain ⟨q, eq⟩ : ∃ q, q = sp_ws T z (mm_n s 4) := ⟨_, rfl⟩
  have hq : q ≤ z := by rw [eq]; exact sp_ln_le (P := sp_isW T z) (fun p hp => (of_decide_eq_true hp).1) _ _ (by omega)
  have hT2 : ∀ p, p < z → T p < 256 := fun p hp => by rw [eT]; exact hT p (by omega)
  have last : ∀ (x : Int32) (wd : Int64) (nu k n o : Nat) (h : aw_H), wd = (if sp_isL T z q = true then sp_wd T q (min 8 (sp_wl T z q)) else 0) → nu = (if sp_isD T z q = true then sp_nm T q (min 4 (sp_dl T z q)) else 0) → k = sp_tks T z q → k < 256 → n = sp_tkn T z q → mm_R G w h (mm_tkS s q wd nu k q) → mm_same w h0 h → AW G (aw_rm 1 0 0) yX5_token cX5_token 3 none (aw_N G (mm_Po G w h0 none (mm_tk s)) 0 0) 0 0 h 232 [(0, .ref w.1), (1, .int x), (2, .int (nI n))] [] := by
    intro x wd nu k n o h e1 e2 e3 e4 e5 hR hs
    have f6 : mm_n (mm_tkS s q wd nu k q) 6 = k := rfl
    have fin : mm_tk s = mm_tkS s q wd nu k (if k = 3 then q else q + n) := by
      unfold mm_tk
      rw [← eT, ← ez, ← eq, ← e1, ← e2, ← e3, ← e5]
    refine aw_aload_n dX5_token_232 rfl ?_
    refine aw_get dX5_token_233 fX5_169 rfl hR.1 (by rfl) ?_
    refine aw_iconst (v := nI 3) dX5_token_236 rfl ?_
    rw [f6]
    refine aw_icmp_eqN (tgt := 250) dX5_token_237 (by decide) (by omega) (by omega) (fun c_237 => ?_) (fun c_237 => ?_)
    · refine aw_vreturn dX5_token_250 rfl ?_
      refine ⟨rfl, mm_eq hR ?_, hs⟩
      rw [fin]
      first
        | (rw [if_pos (show k = 3 by omega)]; done)
        | (rw [if_neg (show ¬ k = 3 by omega)]; exact mm_N_N _ _ _ _)
    · refine aw_aload_n dX5_token_240 rfl ?_
      refine aw_dup dX5_token_241 rfl ?_
      refine aw_get dX5_token_242 fX5_149 rfl hR.1 (by rfl) ?_
      refine aw_iload_n dX5_token_245 rfl ?_
      refine aw_iaddN dX5_token_246 ?_
      refine mm_putN (k := 4) hW hR hs dX5_token_247 (pX5_149 _) rfl rfl (mm_F_set4 _ _ _) (by decide) (fun h hR hs => ?_)
      refine aw_vreturn dX5_token_250 rfl ?_
      refine ⟨rfl, mm_eq hR ?_, hs⟩
      rw [fin]
      first
        | (rw [if_pos (show k = 3 by omega)]; done)
        | (rw [if_neg (show ¬ k = 3 by omega)]; exact mm_N_N _ _ _ _)
  have here : ∀ (wd : Int64) (nu i : Nat), i ≤ 1600 → mm_Met yX5_here cX5_here 2 (some .int) 0 [.int (nI i)] (mm_tkS s q wd nu (mm_n s 6) q) (some (.int (sp_at T z (q + i)))) (mm_tkS s q wd nu (mm_n s 6) q) := fun wd nu i hi => by
    have c := mm_here (s := mm_tkS s q wd nu (mm_n s 6) q) (k := i) hz (by show q + i < _; omega)
    rw [eT, ez]
    exact c
  have wlz : q + sp_wl T z q ≤ z := sp_ln_le (P := sp_isL T z) (fun p hp => (of_decide_eq_true hp).1) _ _ hq
  have dlz : q + sp_dl T z q ≤ z := sp_ln_le (P := sp_isD T z) (fun p hp => (of_decide_eq_true hp).1) _ _ hq
  have wlo : sp_isL T z (q + sp_wl T z q) = false := sp_ln_out (P := sp_isL T z) (z := z) (fun p hp => (of_decide_eq_true hp).1) _ _ (by omega)
  have dlo : sp_isD T z (q + sp_dl T z q) = false := sp_ln_out (P := sp_isD T z) (z := z) (fun p hp => (of_decide_eq_true hp).1) _ _ (by omega)
  have w78 : ∀ (x : Int32), sp_isL T z q = true → sp_isD T z q = false → ∀ (m i : Nat) (h : aw_H), sp_wl T z q - i = m → i ≤ sp_wl T z q → mm_R G w h (mm_tkS s q (sp_wd T q (min 8 i)) 0 (mm_n s 6) q) → mm_same w h0 h → AW G (aw_rm 1 0 0) yX5_token cX5_token 3 none (aw_N G (mm_Po G w h0 none (mm_tk s)) 0 0) 0 0 h 78 [(0, .ref w.1), (1, .int x), (2, .int (nI i))] [] := by
    intro x hL hD m
    induction m using Nat.strongRecOn with
    | _ m ih =>
      intro i h hm hi hR hs
      have chr := here (sp_wd T q (min 8 i)) 0 i (by omega)
      have lat := sp_isL_at (T := T) (z := z) (p := q + i) (fun hp => hT2 _ hp)
      by_cases hi9 : i < sp_wl T z q
      · have hl := sp_ln_in (P := sp_isL T z) _ _ i hi9
        have hp9 := (of_decide_eq_true hl).1
        have hc := lat.mpr hl
        have next : ∀ (h : aw_H), mm_R G w h (mm_tkS s q (sp_wd T q (min 8 (i + 1))) 0 (mm_n s 6) q) → mm_same w h0 h → AW G (aw_rm 1 0 0) yX5_token cX5_token 3 none (aw_N G (mm_Po G w h0 none (mm_tk s)) 0 0) 0 0 h 113 [(0, .ref w.1), (1, .int x), (2, .int (nI i))] [] := by
          intro h hR hs
          refine aw_iincN (b := 1) dX5_token_113 rfl rfl (by decide) rfl rfl ?_
          refine aw_goto (tgt := 78) dX5_token_116 (by decide) ?_
          exact ih (sp_wl T z q - (i + 1)) (by omega) (i + 1) h rfl (by omega) hR hs
        refine aw_aload_n dX5_token_78 rfl ?_
        refine aw_iload_n dX5_token_79 rfl ?_
        refine mm_call dX5_token_80 sX5_155 rfl hW hR hs chr rfl rfl ⟨Nat.le_of_ble_eq_true rfl, Nat.le_of_ble_eq_true rfl⟩ (Nat.le_of_ble_eq_true rfl) (fun h hR hs => ?_)
        refine aw_callP (r := _) dX5_token_83 sX5_172 rfl (mp_isLetter) rfl rfl ⟨Nat.le_of_ble_eq_true rfl, Nat.le_of_ble_eq_true rfl⟩ (Nat.le_of_ble_eq_true rfl) ?_
        refine aw_if_eqB (tgt := 119) dX5_token_86 (by decide) (fun c_86 => by exfalso; exact c_86 hc) (fun c_86 => ?_)
        refine aw_iload_n dX5_token_89 rfl ?_
        refine aw_bipush (v := nI 8) dX5_token_90 rfl ?_
        refine aw_icmp_geN (tgt := 113) dX5_token_92 (by decide) (by omega) (by omega) (fun c_92 => ?_) (fun c_92 => ?_)
        · first
            | (refine next h (mm_eq hR ?_) hs
               rw [show min 8 (i + 1) = i + 1 by omega, show min 8 i = i by omega, sp_at_in hp9]
               rfl)
            | (refine next h (mm_eq hR ?_) hs
               rw [show min 8 (i + 1) = 8 by omega, show min 8 i = 8 by omega])
        · refine aw_aload_n dX5_token_95 rfl ?_
          refine aw_aload_n dX5_token_96 rfl ?_
          refine aw_get dX5_token_97 fX5_162 rfl hR.1 (by rfl) ?_
          refine aw_bipush (v := nI 8) dX5_token_100 rfl ?_
          refine aw_lshl dX5_token_102 rfl ?_
          refine aw_aload_n dX5_token_103 rfl ?_
          refine aw_iload_n dX5_token_104 rfl ?_
          refine mm_call dX5_token_105 sX5_155 rfl hW hR hs chr rfl rfl ⟨Nat.le_of_ble_eq_true rfl, Nat.le_of_ble_eq_true rfl⟩ (Nat.le_of_ble_eq_true rfl) (fun h hR hs => ?_)
          refine aw_i2l dX5_token_108 rfl ?_
          refine aw_lor dX5_token_109 ?_
          refine mm_putW hW hR hs dX5_token_110 (pX5_162 _) rfl rfl (fun h hR hs => ?_)
          first
            | (refine next h (mm_eq hR ?_) hs
               rw [show min 8 (i + 1) = i + 1 by omega, show min 8 i = i by omega, sp_at_in hp9]
               rfl)
            | (refine next h (mm_eq hR ?_) hs
               rw [show min 8 (i + 1) = 8 by omega, show min 8 i = 8 by omega])
      · obtain rfl : i = sp_wl T z q := by omega
        have hc : ¬ (97 ≤ (sp_at T z (q + sp_wl T z q)).toInt ∧ (sp_at T z (q + sp_wl T z q)).toInt ≤ 122) := fun y => by
          have := lat.mp y
          rw [wlo] at this
          cases this
        have hqz : ¬ z ≤ q := by have := (of_decide_eq_true hL).1; omega
        have ek : sp_tks T z q = if 8 < sp_wl T z q then 3 else 1 := by unfold sp_tks; rw [if_neg hqz, if_pos hL]
        have en : sp_tkn T z q = sp_wl T z q := by unfold sp_tkn; rw [if_neg hqz, if_pos hL]
        refine aw_aload_n dX5_token_78 rfl ?_
        refine aw_iload_n dX5_token_79 rfl ?_
        refine mm_call dX5_token_80 sX5_155 rfl hW hR hs chr rfl rfl ⟨Nat.le_of_ble_eq_true rfl, Nat.le_of_ble_eq_true rfl⟩ (Nat.le_of_ble_eq_true rfl) (fun h hR hs => ?_)
        refine aw_callP (r := _) dX5_token_83 sX5_172 rfl (mp_isLetter) rfl rfl ⟨Nat.le_of_ble_eq_true rfl, Nat.le_of_ble_eq_true rfl⟩ (Nat.le_of_ble_eq_true rfl) ?_
        refine aw_if_eqB (tgt := 119) dX5_token_86 (by decide) (fun c_86 => ?_) (fun c_86 => by exfalso; exact hc c_86)
        refine aw_aload_n dX5_token_119 rfl ?_
        refine aw_iload_n dX5_token_120 rfl ?_
        refine aw_bipush (v := nI 8) dX5_token_121 rfl ?_
        refine aw_icmp_leN (tgt := 130) dX5_token_123 (by decide) (by omega) (by omega) (fun c_123 => ?_) (fun c_123 => ?_)
        · refine aw_iconst (v := nI 1) dX5_token_130 rfl ?_
          refine mm_putN (k := 6) hW hR hs dX5_token_131 (pX5_169 _) rfl rfl (mm_F_set6 _ _ _) (by decide) (fun h hR hs => ?_)
          refine aw_goto (tgt := 232) dX5_token_134 (by decide) ?_
          first
            | exact last x _ _ 3 _ 0 h (by rw [if_pos hL]) (by rw [if_neg (by rw [hD]; decide)]) (by rw [ek, if_pos (by omega)]) (by decide) en.symm (mm_eq hR mm_tk6) hs
            | exact last x _ _ 1 _ 0 h (by rw [if_pos hL]) (by rw [if_neg (by rw [hD]; decide)]) (by rw [ek, if_neg (by omega)]) (by decide) en.symm (mm_eq hR mm_tk6) hs
        · refine aw_iconst (v := nI 3) dX5_token_126 rfl ?_
          refine aw_goto (tgt := 131) dX5_token_127 (by decide) ?_
          refine mm_putN (k := 6) hW hR hs dX5_token_131 (pX5_169 _) rfl rfl (mm_F_set6 _ _ _) (by decide) (fun h hR hs => ?_)
          refine aw_goto (tgt := 232) dX5_token_134 (by decide) ?_
          first
            | exact last x _ _ 3 _ 0 h (by rw [if_pos hL]) (by rw [if_neg (by rw [hD]; decide)]) (by rw [ek, if_pos (by omega)]) (by decide) en.symm (mm_eq hR mm_tk6) hs
            | exact last x _ _ 1 _ 0 h (by rw [if_pos hL]) (by rw [if_neg (by rw [hD]; decide)]) (by rw [ek, if_neg (by omega)]) (by decide) en.symm (mm_eq hR mm_tk6) hs
  have nmb : ∀ k, k ≤ sp_dl T z q → sp_nm T q (min 4 k) ≤ 100000 := fun k hk => by
    have e : ∀ j, j ≤ sp_dl T z q → sp_nm T q j + 1 ≤ 10 ^ j := by
      intro j
      induction j with
      | zero => intro _; exact Nat.le_refl _
      | succ j ih =>
        intro hj
        have := ih (by omega)
        have hd := of_decide_eq_true (sp_ln_in (P := sp_isD T z) _ _ j (show j < sp_ln (sp_isD T z) (z - q) q from hj))
        show 10 * sp_nm T q j + T (q + j) - 48 + 1 ≤ 10 ^ j * 10
        omega
    have h1 := e (min 4 k) (by omega)
    have h2 : 10 ^ min 4 k ≤ 10 ^ 4 := Nat.pow_le_pow_right (by decide) (Nat.min_le_left _ _)
    omega
  have w144 : ∀ (x : Int32), sp_isL T z q = false → sp_isD T z q = true → ∀ (m i : Nat) (h : aw_H), sp_dl T z q - i = m → i ≤ sp_dl T z q → mm_R G w h (mm_tkS s q 0 (sp_nm T q (min 4 i)) (mm_n s 6) q) → mm_same w h0 h → AW G (aw_rm 1 0 0) yX5_token cX5_token 3 none (aw_N G (mm_Po G w h0 none (mm_tk s)) 0 0) 0 0 h 144 [(0, .ref w.1), (1, .int x), (2, .int (nI i))] [] := by
    intro x hL hD m
    induction m using Nat.strongRecOn with
    | _ m ih =>
      intro i h hm hi hR hs
      have chr := here 0 (sp_nm T q (min 4 i)) i (by omega)
      have lat := sp_isD_at (T := T) (z := z) (p := q + i) (fun hp => hT2 _ hp)
      have f8 : mm_n (mm_tkS s q 0 (sp_nm T q (min 4 i)) (mm_n s 6) q) 8 = sp_nm T q (min 4 i) := rfl
      by_cases hi9 : i < sp_dl T z q
      · have hl := sp_ln_in (P := sp_isD T z) _ _ i hi9
        have hp9 := (of_decide_eq_true hl).1
        have hd9 := (of_decide_eq_true hl).2
        have hc := lat.mpr hl
        have chr2 := chr
        rw [sp_at_in hp9] at chr2
        have next : ∀ (h : aw_H), mm_R G w h (mm_tkS s q 0 (sp_nm T q (min 4 (i + 1))) (mm_n s 6) q) → mm_same w h0 h → AW G (aw_rm 1 0 0) yX5_token cX5_token 3 none (aw_N G (mm_Po G w h0 none (mm_tk s)) 0 0) 0 0 h 180 [(0, .ref w.1), (1, .int x), (2, .int (nI i))] [] := by
          intro h hR hs
          refine aw_iincN (b := 1) dX5_token_180 rfl rfl (by decide) rfl rfl ?_
          refine aw_goto (tgt := 144) dX5_token_183 (by decide) ?_
          exact ih (sp_dl T z q - (i + 1)) (by omega) (i + 1) h rfl (by omega) hR hs
        refine aw_aload_n dX5_token_144 rfl ?_
        refine aw_iload_n dX5_token_145 rfl ?_
        refine mm_call dX5_token_146 sX5_155 rfl hW hR hs chr rfl rfl ⟨Nat.le_of_ble_eq_true rfl, Nat.le_of_ble_eq_true rfl⟩ (Nat.le_of_ble_eq_true rfl) (fun h hR hs => ?_)
        refine aw_callP (r := _) dX5_token_149 sX5_176 rfl (mp_isDigit) rfl rfl ⟨Nat.le_of_ble_eq_true rfl, Nat.le_of_ble_eq_true rfl⟩ (Nat.le_of_ble_eq_true rfl) ?_
        refine aw_if_eqB (tgt := 186) dX5_token_152 (by decide) (fun c_152 => by exfalso; exact c_152 hc) (fun c_152 => ?_)
        refine aw_iload_n dX5_token_155 rfl ?_
        refine aw_iconst (v := nI 4) dX5_token_156 rfl ?_
        refine aw_icmp_geN (tgt := 180) dX5_token_157 (by decide) (by omega) (by omega) (fun c_157 => ?_) (fun c_157 => ?_)
        · first
            | (refine next h (mm_eq hR ?_) hs
               rw [mm_tk8, show min 4 (i + 1) = i + 1 by omega, f8, show min 4 i = i by omega]
               rfl)
            | (refine next h (mm_eq hR ?_) hs
               rw [show min 4 (i + 1) = 4 by omega, show min 4 i = 4 by omega])
        · refine aw_aload_n dX5_token_160 rfl ?_
          refine aw_bipush (v := nI 10) dX5_token_161 rfl ?_
          refine aw_aload_n dX5_token_163 rfl ?_
          refine aw_get dX5_token_164 fX5_166 rfl hR.1 (by rfl) ?_
          refine aw_imulN dX5_token_167 ?_
          refine aw_aload_n dX5_token_168 rfl ?_
          refine aw_iload_n dX5_token_169 rfl ?_
          refine mm_call dX5_token_170 sX5_155 rfl hW hR hs chr2 rfl rfl ⟨Nat.le_of_ble_eq_true rfl, Nat.le_of_ble_eq_true rfl⟩ (Nat.le_of_ble_eq_true rfl) (fun h hR hs => ?_)
          refine aw_iaddN dX5_token_173 ?_
          refine aw_bipush (v := nI 48) dX5_token_174 rfl ?_
          refine aw_isubN dX5_token_176 (by omega) ?_
          refine mm_putN (k := 8) hW hR hs dX5_token_177 (pX5_166 _) rfl rfl (mm_F_set8 _ _ _) (by decide) (fun h hR hs => ?_)
          first
            | (refine next h (mm_eq hR ?_) hs
               rw [mm_tk8, show min 4 (i + 1) = i + 1 by omega, f8, show min 4 i = i by omega]
               rfl)
            | (refine next h (mm_eq hR ?_) hs
               rw [show min 4 (i + 1) = 4 by omega, show min 4 i = 4 by omega])
      · obtain rfl : i = sp_dl T z q := by omega
        have hc : ¬ (48 ≤ (sp_at T z (q + sp_dl T z q)).toInt ∧ (sp_at T z (q + sp_dl T z q)).toInt ≤ 57) := fun y => by
          have := lat.mp y
          rw [dlo] at this
          cases this
        have lal := sp_isL_at (T := T) (z := z) (p := q + sp_dl T z q) (fun hp => hT2 _ hp)
        have hqz : ¬ z ≤ q := by have := (of_decide_eq_true hD).1; omega
        have ek : sp_tks T z q = if 4 < sp_dl T z q ∨ sp_isL T z (q + sp_dl T z q) = true then 3 else 2 := by unfold sp_tks; rw [if_neg hqz, if_neg (by rw [hL]; decide), if_pos hD]
        have en : sp_tkn T z q = sp_dl T z q := by unfold sp_tkn; rw [if_neg hqz, if_neg (by rw [hL]; decide), if_pos hD]
        have e3 : (4 < sp_dl T z q ∨ sp_isL T z (q + sp_dl T z q) = true) → sp_tks T z q = 3 := fun y => by rw [ek, if_pos y]
        have e2 : ¬ (4 < sp_dl T z q ∨ sp_isL T z (q + sp_dl T z q) = true) → sp_tks T z q = 2 := fun y => by rw [ek, if_neg y]
        refine aw_aload_n dX5_token_144 rfl ?_
        refine aw_iload_n dX5_token_145 rfl ?_
        refine mm_call dX5_token_146 sX5_155 rfl hW hR hs chr rfl rfl ⟨Nat.le_of_ble_eq_true rfl, Nat.le_of_ble_eq_true rfl⟩ (Nat.le_of_ble_eq_true rfl) (fun h hR hs => ?_)
        refine aw_callP (r := _) dX5_token_149 sX5_176 rfl (mp_isDigit) rfl rfl ⟨Nat.le_of_ble_eq_true rfl, Nat.le_of_ble_eq_true rfl⟩ (Nat.le_of_ble_eq_true rfl) ?_
        refine aw_if_eqB (tgt := 186) dX5_token_152 (by decide) (fun c_152 => ?_) (fun c_152 => by exfalso; exact hc c_152)
        refine aw_aload_n dX5_token_186 rfl ?_
        refine aw_iload_n dX5_token_187 rfl ?_
        refine aw_iconst (v := nI 4) dX5_token_188 rfl ?_
        refine aw_icmp_gtN (tgt := 203) dX5_token_189 (by decide) (by omega) (by omega) (fun c_189 => ?_) (fun c_189 => ?_)
        · refine aw_iconst (v := nI 3) dX5_token_203 rfl ?_
          refine aw_goto (tgt := 208) dX5_token_204 (by decide) ?_
          refine mm_putN (k := 6) hW hR hs dX5_token_208 (pX5_169 _) rfl rfl (mm_F_set6 _ _ _) (by decide) (fun h hR hs => ?_)
          refine aw_goto (tgt := 232) dX5_token_211 (by decide) ?_
          by_cases y : 4 < sp_dl T z q ∨ sp_isL T z (q + sp_dl T z q) = true
          · first
              | exact last x _ _ 3 _ 0 h (by rw [if_neg (by rw [hL]; decide)]) (by rw [if_pos hD]) (e3 y).symm (by decide) en.symm (mm_eq hR mm_tk6) hs
              | exact absurd y (fun y => y.elim c_189 (fun y => c_200 (lal.mpr y)))
          · first
              | exact last x _ _ 2 _ 0 h (by rw [if_neg (by rw [hL]; decide)]) (by rw [if_pos hD]) (e2 y).symm (by decide) en.symm (mm_eq hR mm_tk6) hs
              | exact absurd (Or.inl c_189) y
              | exact absurd (Or.inr (lal.mp c_200)) y
        · refine aw_aload_n dX5_token_192 rfl ?_
          refine aw_iload_n dX5_token_193 rfl ?_
          refine mm_call dX5_token_194 sX5_155 rfl hW hR hs chr rfl rfl ⟨Nat.le_of_ble_eq_true rfl, Nat.le_of_ble_eq_true rfl⟩ (Nat.le_of_ble_eq_true rfl) (fun h hR hs => ?_)
          refine aw_callP (r := _) dX5_token_197 sX5_172 rfl (mp_isLetter) rfl rfl ⟨Nat.le_of_ble_eq_true rfl, Nat.le_of_ble_eq_true rfl⟩ (Nat.le_of_ble_eq_true rfl) ?_
          refine aw_if_eqB (tgt := 207) dX5_token_200 (by decide) (fun c_200 => ?_) (fun c_200 => ?_)
          · refine aw_iconst (v := nI 2) dX5_token_207 rfl ?_
            refine mm_putN (k := 6) hW hR hs dX5_token_208 (pX5_169 _) rfl rfl (mm_F_set6 _ _ _) (by decide) (fun h hR hs => ?_)
            refine aw_goto (tgt := 232) dX5_token_211 (by decide) ?_
            by_cases y : 4 < sp_dl T z q ∨ sp_isL T z (q + sp_dl T z q) = true
            · first
                | exact last x _ _ 3 _ 0 h (by rw [if_neg (by rw [hL]; decide)]) (by rw [if_pos hD]) (e3 y).symm (by decide) en.symm (mm_eq hR mm_tk6) hs
                | exact absurd y (fun y => y.elim c_189 (fun y => c_200 (lal.mpr y)))
            · first
                | exact last x _ _ 2 _ 0 h (by rw [if_neg (by rw [hL]; decide)]) (by rw [if_pos hD]) (e2 y).symm (by decide) en.symm (mm_eq hR mm_tk6) hs
                | exact absurd (Or.inl c_189) y
                | exact absurd (Or.inr (lal.mp c_200)) y
          · refine aw_iconst (v := nI 3) dX5_token_203 rfl ?_
            refine aw_goto (tgt := 208) dX5_token_204 (by decide) ?_
            refine mm_putN (k := 6) hW hR hs dX5_token_208 (pX5_169 _) rfl rfl (mm_F_set6 _ _ _) (by decide) (fun h hR hs => ?_)
            refine aw_goto (tgt := 232) dX5_token_211 (by decide) ?_
            by_cases y : 4 < sp_dl T z q ∨ sp_isL T z (q + sp_dl T z q) = true
            · first
                | exact last x _ _ 3 _ 0 h (by rw [if_neg (by rw [hL]; decide)]) (by rw [if_pos hD]) (e3 y).symm (by decide) en.symm (mm_eq hR mm_tk6) hs
                | exact absurd y (fun y => y.elim c_189 (fun y => c_200 (lal.mpr y)))
            · first
                | exact last x _ _ 2 _ 0 h (by rw [if_neg (by rw [hL]; decide)]) (by rw [if_pos hD]) (e2 y).symm (by decide) en.symm (mm_eq hR mm_tk6) hs
                | exact absurd (Or.inl c_189) y
                | exact absurd (Or.inr (lal.mp c_200)) y
  have main : ∀ (h : aw_H), mm_R G w h (mm_setN s 4 q) → mm_same w h0 h → AW G (aw_rm 1 0 0) yX5_token cX5_token 3 none (aw_N G (mm_Po G w h0 none (mm_tk s)) 0 0) 0 0 h 33 [(0, .ref w.1)] [] := by
    intro h hR hs
    have chr := mm_here (s := mm_setN (mm_setN s 4 q) 7 q) (k := 0) hz (by show q + 0 < _; omega)
    have chr : mm_Met yX5_here cX5_here 2 (some .int) 0 [.int (nI 0)] (mm_setN (mm_setN s 4 q) 7 q) (some (.int (sp_at T z q))) (mm_setN (mm_setN s 4 q) 7 q) := by rw [eT, ez]; exact chr
    by_cases hqz : q < z
    · have ht := hT2 q hqz
      rw [sp_at_in hqz] at chr
      have lat := sp_isL_at (T := T) (z := z) (p := q) (fun hp => hT2 _ hp)
      have dat := sp_isD_at (T := T) (z := z) (p := q) (fun hp => hT2 _ hp)
      rw [sp_at_in hqz] at lat dat
      have sat := sp_sgn_at ht
      have noLD : sp_isL T z q = true → sp_isD T z q = false := fun y => by
        cases e : sp_isD T z q with
        | false => rfl
        | true =>
          have h1 := (of_decide_eq_true y).2
          have h2 := (of_decide_eq_true e).2
          omega
      refine aw_aload_n dX5_token_33 rfl ?_
      refine aw_aload_n dX5_token_34 rfl ?_
      refine aw_get dX5_token_35 fX5_149 rfl hR.1 (by rfl) ?_
      try simp only [mm_n_N, mm_n_A, mm_n_V, mm_n_Fp, mm_n_W, mm_n_Nm, mm_a_N, mm_a_A, mm_a_V, mm_a_Fp, mm_a_W, mm_a_Nm, mm_v_N, mm_v_A, mm_v_V, mm_fp_N, mm_fp_A, mm_fp_Fp, mm_w_N, mm_w_W, Nat.reduceEqDiff, reduceIte, if_true, if_false, mm_H_45, mm_H_46, mm_H_47, mm_H_50, mm_H_53, mm_H_54, mm_H_55, mm_H_56, mm_H_57, mm_H_58, mm_H_66, mm_H_67, mm_H_68]
      refine mm_putN (k := 7) hW hR hs dX5_token_38 (pX5_159 _) rfl rfl (mm_F_set7 _ _ _) (by decide) (fun h hR hs => ?_)
      refine aw_aload_n dX5_token_41 rfl ?_
      refine aw_iconst (v := nI 0) dX5_token_42 rfl ?_
      refine mm_call dX5_token_43 sX5_155 rfl hW hR hs chr rfl rfl ⟨Nat.le_of_ble_eq_true rfl, Nat.le_of_ble_eq_true rfl⟩ (Nat.le_of_ble_eq_true rfl) (fun h hR hs => ?_)
      try simp only [mm_n_N, mm_n_A, mm_n_V, mm_n_Fp, mm_n_W, mm_n_Nm, mm_a_N, mm_a_A, mm_a_V, mm_a_Fp, mm_a_W, mm_a_Nm, mm_v_N, mm_v_A, mm_v_V, mm_fp_N, mm_fp_A, mm_fp_Fp, mm_w_N, mm_w_W, Nat.reduceEqDiff, reduceIte, if_true, if_false, mm_H_45, mm_H_46, mm_H_47, mm_H_50, mm_H_53, mm_H_54, mm_H_55, mm_H_56, mm_H_57, mm_H_58, mm_H_66, mm_H_67, mm_H_68]
      refine aw_istore_n dX5_token_46 (by decide) rfl rfl ?_
      refine aw_iconst (v := nI 0) dX5_token_47 rfl ?_
      refine aw_istore_n dX5_token_48 (by decide) rfl rfl ?_
      refine aw_aload_n dX5_token_49 rfl ?_
      refine aw_lconst (v := 0) dX5_token_50 rfl ?_
      refine mm_putW hW hR hs dX5_token_51 (pX5_162 _) rfl rfl (fun h hR hs => ?_)
      refine aw_aload_n dX5_token_54 rfl ?_
      refine aw_iconst (v := nI 0) dX5_token_55 rfl ?_
      refine mm_putN (k := 8) hW hR hs dX5_token_56 (pX5_166 _) rfl rfl (mm_F_set8 _ _ _) (by decide) (fun h hR hs => ?_)
      have hR := mm_eq hR mm_tk0
      refine aw_iload_n dX5_token_59 rfl ?_
      refine aw_if_geN (tgt := 71) dX5_token_60 (by decide) (by omega) ?_
      refine aw_iload_n dX5_token_71 rfl ?_
      refine aw_callP (r := _) dX5_token_72 sX5_172 rfl (mp_isLetter) rfl rfl ⟨Nat.le_of_ble_eq_true rfl, Nat.le_of_ble_eq_true rfl⟩ (Nat.le_of_ble_eq_true rfl) ?_
      refine aw_if_eqB (tgt := 137) dX5_token_75 (by decide) (fun c_75 => ?_) (fun c_75 => ?_)
      · refine aw_iload_n dX5_token_137 rfl ?_
        refine aw_callP (r := _) dX5_token_138 sX5_176 rfl (mp_isDigit) rfl rfl ⟨Nat.le_of_ble_eq_true rfl, Nat.le_of_ble_eq_true rfl⟩ (Nat.le_of_ble_eq_true rfl) ?_
        refine aw_if_eqB (tgt := 214) dX5_token_141 (by decide) (fun c_141 => ?_) (fun c_141 => ?_)
        · refine aw_iconst (v := nI 1) dX5_token_214 rfl ?_
          refine aw_istore_n dX5_token_215 (by decide) rfl rfl ?_
          refine aw_aload_n dX5_token_216 rfl ?_
          refine aw_iload_n dX5_token_217 rfl ?_
          refine aw_callP (r := _) dX5_token_218 sX5_179 rfl (mp_isSign (dc := sp_signD _)) rfl rfl ⟨Nat.le_of_ble_eq_true rfl, Nat.le_of_ble_eq_true rfl⟩ (Nat.le_of_ble_eq_true rfl) ?_
          refine aw_if_eqB (tgt := 228) dX5_token_221 (by decide) (fun c_221 => ?_) (fun c_221 => ?_)
          · refine aw_iconst (v := nI 3) dX5_token_228 rfl ?_
            refine mm_putN (k := 6) hW hR hs dX5_token_229 (pX5_169 _) rfl rfl (mm_F_set6 _ _ _) (by decide) (fun h hR hs => ?_)
            have nL : sp_isL T z q = false := aw_bf (fun y => c_75 (lat.mpr y))
            have nD : sp_isD T z q = false := aw_bf (fun y => c_141 (dat.mpr y))
            have ek : sp_tks T z q = if sp_sgn (T q) then T q else 3 := by unfold sp_tks; rw [if_neg (by omega), if_neg (by rw [nL]; decide), if_neg (by rw [nD]; decide)]
            have en : sp_tkn T z q = 1 := by unfold sp_tkn; rw [if_neg (by omega), if_neg (by rw [nL]; decide), if_neg (by rw [nD]; decide)]
            by_cases y : sp_sgn (T q) = true
            · rw [if_pos y] at ek
              first
                | exact last _ 0 0 (T q) 1 0 h (by rw [if_neg (by rw [nL]; decide)]) (by rw [if_neg (by rw [nD]; decide)]) ek.symm ht en.symm (mm_eq hR mm_tk6) hs
                | exact absurd (sat.mpr y) c_221
            · rw [if_neg y] at ek
              first
                | exact last _ 0 0 3 1 0 h (by rw [if_neg (by rw [nL]; decide)]) (by rw [if_neg (by rw [nD]; decide)]) ek.symm (by decide) en.symm (mm_eq hR mm_tk6) hs
                | exact absurd (sat.mp c_221) y
          · refine aw_iload_n dX5_token_224 rfl ?_
            refine aw_goto (tgt := 229) dX5_token_225 (by decide) ?_
            refine mm_putN (k := 6) hW hR hs dX5_token_229 (pX5_169 _) rfl rfl (mm_F_set6 _ _ _) (by decide) (fun h hR hs => ?_)
            have nL : sp_isL T z q = false := aw_bf (fun y => c_75 (lat.mpr y))
            have nD : sp_isD T z q = false := aw_bf (fun y => c_141 (dat.mpr y))
            have ek : sp_tks T z q = if sp_sgn (T q) then T q else 3 := by unfold sp_tks; rw [if_neg (by omega), if_neg (by rw [nL]; decide), if_neg (by rw [nD]; decide)]
            have en : sp_tkn T z q = 1 := by unfold sp_tkn; rw [if_neg (by omega), if_neg (by rw [nL]; decide), if_neg (by rw [nD]; decide)]
            by_cases y : sp_sgn (T q) = true
            · rw [if_pos y] at ek
              first
                | exact last _ 0 0 (T q) 1 0 h (by rw [if_neg (by rw [nL]; decide)]) (by rw [if_neg (by rw [nD]; decide)]) ek.symm ht en.symm (mm_eq hR mm_tk6) hs
                | exact absurd (sat.mpr y) c_221
            · rw [if_neg y] at ek
              first
                | exact last _ 0 0 3 1 0 h (by rw [if_neg (by rw [nL]; decide)]) (by rw [if_neg (by rw [nD]; decide)]) ek.symm (by decide) en.symm (mm_eq hR mm_tk6) hs
                | exact absurd (sat.mp c_221) y
        · exact w144 _ (Bool.not_eq_true _ ▸ fun y => c_75 (lat.mpr y)) (dat.mp c_141) _ 0 h rfl (Nat.zero_le _) hR hs
      · exact w78 _ (lat.mp c_75) (noLD (lat.mp c_75)) _ 0 h rfl (Nat.zero_le _) hR hs
    ·
      rw [sp_at_out hqz] at chr
      refine aw_aload_n dX5_token_33 rfl ?_
      refine aw_aload_n dX5_token_34 rfl ?_
      refine aw_get dX5_token_35 fX5_149 rfl hR.1 (by rfl) ?_
      try simp only [mm_n_N, mm_n_A, mm_n_V, mm_n_Fp, mm_n_W, mm_n_Nm, mm_a_N, mm_a_A, mm_a_V, mm_a_Fp, mm_a_W, mm_a_Nm, mm_v_N, mm_v_A, mm_v_V, mm_fp_N, mm_fp_A, mm_fp_Fp, mm_w_N, mm_w_W, Nat.reduceEqDiff, reduceIte, if_true, if_false, mm_H_45, mm_H_46, mm_H_47, mm_H_50, mm_H_53, mm_H_54, mm_H_55, mm_H_56, mm_H_57, mm_H_58, mm_H_66, mm_H_67, mm_H_68]
      refine mm_putN (k := 7) hW hR hs dX5_token_38 (pX5_159 _) rfl rfl (mm_F_set7 _ _ _) (by decide) (fun h hR hs => ?_)
      refine aw_aload_n dX5_token_41 rfl ?_
      refine aw_iconst (v := nI 0) dX5_token_42 rfl ?_
      refine mm_call dX5_token_43 sX5_155 rfl hW hR hs chr rfl rfl ⟨Nat.le_of_ble_eq_true rfl, Nat.le_of_ble_eq_true rfl⟩ (Nat.le_of_ble_eq_true rfl) (fun h hR hs => ?_)
      try simp only [mm_n_N, mm_n_A, mm_n_V, mm_n_Fp, mm_n_W, mm_n_Nm, mm_a_N, mm_a_A, mm_a_V, mm_a_Fp, mm_a_W, mm_a_Nm, mm_v_N, mm_v_A, mm_v_V, mm_fp_N, mm_fp_A, mm_fp_Fp, mm_w_N, mm_w_W, Nat.reduceEqDiff, reduceIte, if_true, if_false, mm_H_45, mm_H_46, mm_H_47, mm_H_50, mm_H_53, mm_H_54, mm_H_55, mm_H_56, mm_H_57, mm_H_58, mm_H_66, mm_H_67, mm_H_68]
      refine aw_istore_n dX5_token_46 (by decide) rfl rfl ?_
      refine aw_iconst (v := nI 0) dX5_token_47 rfl ?_
      refine aw_istore_n dX5_token_48 (by decide) rfl rfl ?_
      refine aw_aload_n dX5_token_49 rfl ?_
      refine aw_lconst (v := 0) dX5_token_50 rfl ?_
      refine mm_putW hW hR hs dX5_token_51 (pX5_162 _) rfl rfl (fun h hR hs => ?_)
      refine aw_aload_n dX5_token_54 rfl ?_
      refine aw_iconst (v := nI 0) dX5_token_55 rfl ?_
      refine mm_putN (k := 8) hW hR hs dX5_token_56 (pX5_166 _) rfl rfl (mm_F_set8 _ _ _) (by decide) (fun h hR hs => ?_)
      have hR := mm_eq hR mm_tk0
      refine aw_iload_n dX5_token_59 rfl ?_
      refine aw_if_ge (tgt := 71) dX5_token_60 (by decide) (fun c_60 => by exfalso; exact absurd c_60 (by decide)) (fun c_60 => ?_)
      refine aw_aload_n dX5_token_63 rfl ?_
      refine aw_iconst (v := nI 0) dX5_token_64 rfl ?_
      refine mm_putN (k := 6) hW hR hs dX5_token_65 (pX5_169 _) rfl rfl (mm_F_set6 _ _ _) (by decide) (fun h hR hs => ?_)
      refine aw_goto (tgt := 232) dX5_token_68 (by decide) ?_
      have nL : sp_isL T z q = false := aw_bf (fun y => hqz (of_decide_eq_true y).1)
      have nD : sp_isD T z q = false := aw_bf (fun y => hqz (of_decide_eq_true y).1)
      exact last _ 0 0 0 0 0 h (by rw [if_neg (by rw [nL]; decide)]) (by rw [if_neg (by rw [nD]; decide)]) (by unfold sp_tks; rw [if_pos (by omega)]) (by decide) (by unfold sp_tkn; rw [if_pos (by omega)]) (mm_eq hR mm_tk6) hs
  have r0 : ∀ (m p : Nat) (h : aw_H), z - p = m → p ≤ z → sp_ws T z p = sp_ws T z (mm_n s 4) → mm_R G w h (mm_setN s 4 p) → mm_same w h0 h → AW G (aw_rm 1 0 0) yX5_token cX5_token 3 none (aw_N G (mm_Po G w h0 none (mm_tk s)) 0 0) 0 0 h 0 [(0, .ref w.1)] [] := by
    intro m
    induction m using Nat.strongRecOn with
    | _ m ih =>
      intro p h hm hpz ews hR hs
      have chr := mm_here (s := mm_setN s 4 p) (k := 0) hz (by show p + 0 < _; omega)
      have chr : mm_Met yX5_here cX5_here 2 (some .int) 0 [.int (nI 0)] (mm_setN s 4 p) (some (.int (sp_at T z p))) (mm_setN s 4 p) := by rw [eT, ez]; exact chr
      by_cases hp9 : p < z
      · have ht := hT p (by omega)
        rw [← eT] at ht
        rw [sp_at_in hp9] at chr
        have els := sp_ln_s (P := sp_isW T z) hp9
        have go : ∀ (h : aw_H), (T p = 32 ∨ T p = 10) → mm_R G w h (mm_setN s 4 p) → mm_same w h0 h → AW G (aw_rm 1 0 0) yX5_token cX5_token 3 none (aw_N G (mm_Po G w h0 none (mm_tk s)) 0 0) 0 0 h 20 [(0, .ref w.1)] [] := by
          intro h hw hR hs
          refine aw_aload_n dX5_token_20 rfl ?_
          refine aw_dup dX5_token_21 rfl ?_
          refine aw_get dX5_token_22 fX5_149 rfl hR.1 (by rfl) ?_
          try simp only [mm_n_N, mm_n_A, mm_n_V, mm_n_Fp, mm_n_W, mm_n_Nm, mm_a_N, mm_a_A, mm_a_V, mm_a_Fp, mm_a_W, mm_a_Nm, mm_v_N, mm_v_A, mm_v_V, mm_fp_N, mm_fp_A, mm_fp_Fp, mm_w_N, mm_w_W, Nat.reduceEqDiff, reduceIte, if_true, if_false, mm_H_45, mm_H_46, mm_H_47, mm_H_50, mm_H_53, mm_H_54, mm_H_55, mm_H_56, mm_H_57, mm_H_58, mm_H_66, mm_H_67, mm_H_68]
          refine aw_iconst (v := nI 1) dX5_token_25 rfl ?_
          refine aw_iaddN dX5_token_26 ?_
          refine mm_putN (k := 4) hW hR hs dX5_token_27 (pX5_149 _) rfl rfl (mm_F_set4 _ _ _) (by decide) (fun h hR hs => ?_)
          refine aw_goto (tgt := 0) dX5_token_30 (by decide) ?_
          refine ih (z - (p + 1)) (by omega) (p + 1) h rfl (by omega) ?_ (mm_eq hR (mm_N_N _ _ _ _)) hs
          rw [← ews]
          unfold sp_ws
          have e2 : sp_isW T z p = true := decide_eq_true ⟨hp9, hw⟩
          rw [els, e2, if_pos rfl]
          omega
        refine aw_aload_n dX5_token_0 rfl ?_
        refine aw_iconst (v := nI 0) dX5_token_1 rfl ?_
        refine mm_call dX5_token_2 sX5_155 rfl hW hR hs chr rfl rfl ⟨Nat.le_of_ble_eq_true rfl, Nat.le_of_ble_eq_true rfl⟩ (Nat.le_of_ble_eq_true rfl) (fun h hR hs => ?_)
        refine aw_bipush (v := nI 32) dX5_token_5 rfl ?_
        refine aw_icmp_eqN (tgt := 20) dX5_token_7 (by decide) (by omega) (by omega) (fun c_7 => ?_) (fun c_7 => ?_)
        · exact go h (by omega) hR hs
        · refine aw_aload_n dX5_token_10 rfl ?_
          refine aw_iconst (v := nI 0) dX5_token_11 rfl ?_
          refine mm_call dX5_token_12 sX5_155 rfl hW hR hs chr rfl rfl ⟨Nat.le_of_ble_eq_true rfl, Nat.le_of_ble_eq_true rfl⟩ (Nat.le_of_ble_eq_true rfl) (fun h hR hs => ?_)
          refine aw_bipush (v := nI 10) dX5_token_15 rfl ?_
          refine aw_icmp_neN (tgt := 33) dX5_token_17 (by decide) (by omega) (by omega) (fun c_17 => ?_) (fun c_17 => ?_)
          · refine main h (mm_eq hR ?_) hs
            have e2 : sp_isW T z p = false := aw_bf (fun y => by have := (of_decide_eq_true y).2; omega)
            have e3 : sp_ws T z p = p := by unfold sp_ws; rw [els, e2]; rfl
            rw [eq, ← ews, e3]
          · exact go h (by omega) hR hs
      ·
        rw [sp_at_out hp9] at chr
        refine aw_aload_n dX5_token_0 rfl ?_
        refine aw_iconst (v := nI 0) dX5_token_1 rfl ?_
        refine mm_call dX5_token_2 sX5_155 rfl hW hR hs chr rfl rfl ⟨Nat.le_of_ble_eq_true rfl, Nat.le_of_ble_eq_true rfl⟩ (Nat.le_of_ble_eq_true rfl) (fun h hR hs => ?_)
        refine aw_bipush (v := nI 32) dX5_token_5 rfl ?_
        refine aw_icmp_eq (tgt := 20) dX5_token_7 (by decide) (fun c_7 => ?_) (fun c_7 => ?_)
        · first
            | exact absurd c_7 (by decide)
            | exact absurd (by assumption) (by decide)
        · refine aw_aload_n dX5_token_10 rfl ?_
          refine aw_iconst (v := nI 0) dX5_token_11 rfl ?_
          refine mm_call dX5_token_12 sX5_155 rfl hW hR hs chr rfl rfl ⟨Nat.le_of_ble_eq_true rfl, Nat.le_of_ble_eq_true rfl⟩ (Nat.le_of_ble_eq_true rfl) (fun h hR hs => ?_)
          refine aw_bipush (v := nI 10) dX5_token_15 rfl ?_
          refine aw_icmp_ne (tgt := 33) dX5_token_17 (by decide) (fun c_17 => ?_) (fun c_17 => ?_)
          · refine main h (mm_eq hR ?_) hs
            have e3 : sp_ws T z p = p := by
              unfold sp_ws
              rw [show z - p = 0 by omega]
              rfl
            rw [eq, ← ews, e3]
          · first
              | exact absurd c_7 (by decide)
              | exact absurd (by assumption) (by decide)
  exact r0 _ (mm_n s 4) h0 rfl (by omega) rfl (mm_eq hR (mm_N_id rfl).symm) hs

