set_option maxRecDepth 100000
/-! the model: calls, the third lot -/
theorem sp_or_lt {f : Nat → Nat} (hf : ∀ k, f k < 2) : ∀ n, sp_or f n < 2 ^ n := by
  intro n
  induction n with
  | zero => exact Nat.zero_lt_one
  | succ n ih =>
    unfold sp_or
    apply Nat.or_lt_two_pow
    · exact Nat.lt_trans ih (Nat.pow_lt_pow_right (by decide) (by omega))
    · have := hf n
      rcases (show f n = 0 ∨ f n = 1 by omega) with e | e
      · rw [e, Nat.zero_mul]; exact Nat.two_pow_pos _
      · rw [e, Nat.one_mul]; exact Nat.pow_lt_pow_right (by decide) (by omega)
theorem sp_2p {k : Nat} (h : k < 8) : 2 ^ k ≤ 128 := by
  have : 2 ^ k ≤ 2 ^ 7 := Nat.pow_le_pow_right (by decide) (by omega)
  exact this
/-- the homes as they are told -/
theorem sp_envs_c {H : sp_H} {f g : Nat → Nat} (h : ∀ t, t < sp_hn H → f t = g t) : sp_envs H f = sp_envs H g := by
  unfold sp_envs
  have e : ∀ n, n ≤ sp_hn H → sp_sum (fun a => sp_sum (sp_envT H f a) (sp_hn H)) n = sp_sum (fun a => sp_sum (sp_envT H g a) (sp_hn H)) n := by
    intro n
    induction n with
    | zero => intro _; rfl
    | succ n ih =>
      intro hn
      unfold sp_sum
      rw [ih (by omega)]
      congr 1
      have e2 : ∀ m, m ≤ sp_hn H → sp_sum (sp_envT H f n) m = sp_sum (sp_envT H g n) m := by
        intro m
        induction m with
        | zero => intro _; rfl
        | succ m ih2 =>
          intro hm
          unfold sp_sum
          rw [ih2 (by omega)]
          unfold sp_envT
          rw [h n (by omega), h m (by omega)]
      exact e2 _ (Nat.le_refl _)
  exact e _ (Nat.le_refl _)
def mm_home (s : mm_S) : Nat → Nat := fun j => if j < mm_n s 42 then mm_a s 32 j else mm_a s 57 j
theorem aw_sh1 {a k : Nat} (ha : a < 2) (hk : k < 8) : a * 2 ^ k < 2 ^ 32 := by
  have h1 := sp_2p hk
  have h2 : a * 2 ^ k ≤ 1 * 128 := Nat.mul_le_mul (by omega) h1
  omega
theorem mm_home_at {s : mm_S} {k : Nat} (h : k < mm_n s 42) : mm_home s k = mm_a s 32 k := if_pos h
theorem mm_home_lt {s : mm_S} (hn : mm_n s 42 ≤ 8) (hlv : ∀ t, t < 8 → mm_a s 32 t ≤ 20) : ∀ k, k < mm_n s 42 → mm_home s k < 2147483648 := fun k hk => by
  rw [mm_home_at hk]
  have := hlv k (by omega)
  omega
theorem mm_envT {s : mm_S} {a b : Nat} (ha : a < mm_n s 42) (hb : b < mm_n s 42) : aw_t (mm_home s b ≤ mm_home s a ∧ mm_a s 35 b < mm_a s 35 a) = sp_envT (mm_H s) (sp_lv (mm_H s)) a b := by
  unfold sp_envT aw_t
  rw [mm_home_at ha, mm_home_at hb]
  rfl
theorem sp_envT_lt {H : sp_H} {f : Nat → Nat} {a b : Nat} : sp_envT H f a b < 2 := by unfold sp_envT; split <;> decide
set_option maxHeartbeats 4000000 in
theorem mo_quarrel {s : mm_S} (hH : sp_okH (mm_H s)) : mm_Op yX5_quarrel cX5_quarrel 1 (some .int) 2 [] s (some (.int (op_quarrel (mm_H s)))) (s) := by
  refine mm_Op.of (by decide +kernel) (fun _ => Nat.le_of_ble_eq_true rfl) (fun G w h0 hW hR => ?_)
  have hs : mm_same w h0 h0 := mm_same.rf
  show AW G (aw_rm 2 0 0) yX5_quarrel cX5_quarrel 1 (some .int) (aw_N G (mm_PoC G w h0 (some (.int (op_quarrel (mm_H s)))) (s)) 0 0) 0 0 h0 0 [(0, .ref w.1)] []
  have hs1 : 1 ≤ mm_n s 41 := hH.1.1; have hs20 : mm_n s 41 ≤ 20 := hH.1.2; have hn : mm_n s 42 ≤ 8 := hH.2.1; have hlv : ∀ t, t < 8 → mm_a s 32 t ≤ 20 := fun t ht => (hH.2.2.1 t ht).1; have hsg : ∀ t, t < 8 → mm_a s 33 t ≤ 40 := fun t ht => (hH.2.2.1 t ht).2.1; have hhv : ∀ t, t < 8 → mm_a s 34 t ≤ 9 := fun t ht => (hH.2.2.1 t ht).2.2.1; have how : ∀ t, t < 8 → mm_a s 35 t ≤ 999 := fun t ht => (hH.2.2.1 t ht).2.2.2.1; have hfl : ∀ t, t < 8 → mm_a s 36 t ≤ 100 := fun t ht => (hH.2.2.1 t ht).2.2.2.2; have hF0 : sp_fok (mm_steps s 0) := hH.2.2.2.1; have hF1 : sp_fok (mm_steps s 1) := hH.2.2.2.2; have h42 : sp_hn (mm_H s) = mm_n s 42 := rfl; have h41 : sp_hs (mm_H s) = mm_n s 41 := rfl
  have hh := mm_home_lt hn hlv
  refine aw_aload_n dX5_quarrel_0 rfl ?_
  refine mm_call dX5_quarrel_1 sX5_458 rfl hW hR hs (mm_layHomes hn) rfl rfl ⟨Nat.le_of_ble_eq_true rfl, Nat.le_of_ble_eq_true rfl⟩ (Nat.le_of_ble_eq_true rfl) (fun h hR hs => ?_)
  refine aw_aload_n dX5_quarrel_4 rfl ?_
  refine mm_call dX5_quarrel_5 sX5_461 rfl hW hR hs (mm_allEnvies hn hh how) rfl rfl ⟨Nat.le_of_ble_eq_true rfl, Nat.le_of_ble_eq_true rfl⟩ (Nat.le_of_ble_eq_true rfl) (fun h hR hs => ?_)
  try simp only [mm_n_N, mm_n_A, mm_n_V, mm_n_Fp, mm_n_W, mm_n_Nm, mm_a_N, mm_a_A, mm_a_V, mm_a_Fp, mm_a_W, mm_a_Nm, mm_v_N, mm_v_A, mm_v_V, mm_fp_N, mm_fp_A, mm_fp_Fp, mm_w_N, mm_w_W, Nat.reduceEqDiff, reduceIte, if_true, if_false, mm_H_45, mm_H_46, mm_H_47, mm_H_50, mm_H_53, mm_H_54, mm_H_55, mm_H_56, mm_H_57, mm_H_58, mm_H_66, mm_H_67, mm_H_68]
  refine aw_ireturn dX5_quarrel_8 rfl ?_
  refine ⟨?_, _, mm_core.A rfl mm_core.rf, hR, hs⟩
  unfold op_quarrel
  exact congrArg (fun x => some (Value.int (nI x))) (sp_envs_c (H := mm_H s) (f := mm_home s) (fun t ht => mm_home_at ht))
set_option maxHeartbeats 4000000 in
theorem mo_envies {s : mm_S} {t : Int32} (hH : sp_okH (mm_H s)) : mm_Op yX5_envies cX5_envies 4 (some .int) 2 [.int (t)] s (some (.int (op_envies (mm_H s) t))) (s) := by
  refine mm_Op.of (by decide +kernel) (fun _ => Nat.le_of_ble_eq_true rfl) (fun G w h0 hW hR => ?_)
  have hs : mm_same w h0 h0 := mm_same.rf
  show AW G (aw_rm 2 0 0) yX5_envies cX5_envies 4 (some .int) (aw_N G (mm_PoC G w h0 (some (.int (op_envies (mm_H s) t))) (s)) 0 0) 0 0 h0 0 [(0, .ref w.1), (1, .int (t))] []
  have hs1 : 1 ≤ mm_n s 41 := hH.1.1; have hs20 : mm_n s 41 ≤ 20 := hH.1.2; have hn : mm_n s 42 ≤ 8 := hH.2.1; have hlv : ∀ t, t < 8 → mm_a s 32 t ≤ 20 := fun t ht => (hH.2.2.1 t ht).1; have hsg : ∀ t, t < 8 → mm_a s 33 t ≤ 40 := fun t ht => (hH.2.2.1 t ht).2.1; have hhv : ∀ t, t < 8 → mm_a s 34 t ≤ 9 := fun t ht => (hH.2.2.1 t ht).2.2.1; have how : ∀ t, t < 8 → mm_a s 35 t ≤ 999 := fun t ht => (hH.2.2.1 t ht).2.2.2.1; have hfl : ∀ t, t < 8 → mm_a s 36 t ≤ 100 := fun t ht => (hH.2.2.1 t ht).2.2.2.2; have hF0 : sp_fok (mm_steps s 0) := hH.2.2.2.1; have hF1 : sp_fok (mm_steps s 1) := hH.2.2.2.2; have h42 : sp_hn (mm_H s) = mm_n s 42 := rfl; have h41 : sp_hs (mm_H s) = mm_n s 41 := rfl
  have hh := mm_home_lt hn hlv
  have loop : ∀ (t' : Nat), t' < mm_n s 42 → op_envies (mm_H s) t = nI (sp_or (sp_envT (mm_H s) (sp_lv (mm_H s)) t') (mm_n s 42)) → ∀ (m k : Nat) (h : aw_H), mm_n s 42 - k = m → k ≤ mm_n s 42 → mm_R G w h (mm_setA s 57 (mm_home s)) → mm_same w h0 h → AW G (aw_rm 2 0 0) yX5_envies cX5_envies 4 (some .int) (aw_N G (mm_PoC G w h0 (some (.int (op_envies (mm_H s) t))) (s)) 0 0) 0 0 h 18 [(0, .ref w.1), (1, .int (nI t')), (2, .int (nI (sp_or (sp_envT (mm_H s) (sp_lv (mm_H s)) t') k))), (3, .int (nI k))] [] := by
    intro t' ht fin m
    induction m using Nat.strongRecOn with
    | _ m ih =>
      intro k h hm hk hR hs
      refine aw_iload_n dX5_envies_18 rfl ?_
      refine aw_aload_n dX5_envies_19 rfl ?_
      refine aw_get dX5_envies_20 fX5_350 rfl hR.1 (by rfl) ?_
      try simp only [mm_n_N, mm_n_A, mm_n_V, mm_n_Fp, mm_n_W, mm_n_Nm, mm_a_N, mm_a_A, mm_a_V, mm_a_Fp, mm_a_W, mm_a_Nm, mm_v_N, mm_v_A, mm_v_V, mm_fp_N, mm_fp_A, mm_fp_Fp, mm_w_N, mm_w_W, Nat.reduceEqDiff, reduceIte, if_true, if_false, mm_H_45, mm_H_46, mm_H_47, mm_H_50, mm_H_53, mm_H_54, mm_H_55, mm_H_56, mm_H_57, mm_H_58, mm_H_66, mm_H_67, mm_H_68]
      refine aw_icmp_geN (tgt := 46) dX5_envies_23 (by decide) (by omega) (by omega) (fun c_23 => ?_) (fun c_23 => ?_)
      · refine aw_iload_n dX5_envies_46 rfl ?_
        refine aw_ireturn dX5_envies_47 rfl ?_
        exact ⟨by rw [fin, show k = mm_n s 42 by omega], _, mm_core.A rfl mm_core.rf, hR, hs⟩
      · refine aw_iload_n dX5_envies_26 rfl ?_
        refine aw_aload_n dX5_envies_27 rfl ?_
        refine aw_iload_n dX5_envies_28 rfl ?_
        refine aw_iload_n dX5_envies_29 rfl ?_
        refine mm_call dX5_envies_30 sX5_454 rfl hW hR hs (mm_isEnvied (s := mm_setA s 57 (mm_home s)) hn ht (show _ < mm_n s 42 by omega) hh how) rfl rfl ⟨Nat.le_of_ble_eq_true rfl, Nat.le_of_ble_eq_true rfl⟩ (Nat.le_of_ble_eq_true rfl) (fun h hR hs => ?_)
        try simp only [mm_n_N, mm_n_A, mm_n_V, mm_n_Fp, mm_n_W, mm_n_Nm, mm_a_N, mm_a_A, mm_a_V, mm_a_Fp, mm_a_W, mm_a_Nm, mm_v_N, mm_v_A, mm_v_V, mm_fp_N, mm_fp_A, mm_fp_Fp, mm_w_N, mm_w_W, Nat.reduceEqDiff, reduceIte, if_true, if_false, mm_H_45, mm_H_46, mm_H_47, mm_H_50, mm_H_53, mm_H_54, mm_H_55, mm_H_56, mm_H_57, mm_H_58, mm_H_66, mm_H_67, mm_H_68]
        refine aw_callP (r := _) dX5_envies_33 sX5_304 rfl (mp_truth aw_t_lt) rfl rfl ⟨Nat.le_of_ble_eq_true rfl, Nat.le_of_ble_eq_true rfl⟩ (Nat.le_of_ble_eq_true rfl) ?_
        refine aw_topi (z := nI (sp_envT (mm_H s) (sp_lv (mm_H s)) t' k)) (congrArg nI (mm_envT ht (by omega))) ?_
        refine aw_iload_n dX5_envies_36 rfl ?_
        refine aw_ishlN dX5_envies_37 (by first | omega | exact aw_sh1 sp_envT_lt (by omega)) (by first | omega | exact aw_sh1 sp_envT_lt (by omega)) ?_
        refine aw_iorN dX5_envies_38 ?_
        refine aw_istore_n dX5_envies_39 (by decide) rfl rfl ?_
        refine aw_iincN (b := 1) dX5_envies_40 rfl rfl (by decide) rfl rfl ?_
        refine aw_goto (tgt := 18) dX5_envies_43 (by decide) ?_
        exact ih (mm_n s 42 - (k + 1)) (by omega) (k + 1) h rfl (by omega) hR hs
  refine aw_aload_n dX5_envies_0 rfl ?_
  refine aw_iload_n dX5_envies_1 rfl ?_
  refine mm_call dX5_envies_2 sX5_382 rfl hW hR hs (mm_isTenant hn) rfl rfl ⟨Nat.le_of_ble_eq_true rfl, Nat.le_of_ble_eq_true rfl⟩ (Nat.le_of_ble_eq_true rfl) (fun h hR hs => ?_)
  refine aw_if_neB (tgt := 10) dX5_envies_5 (by decide) (fun c_5 => ?_) (fun c_5 => ?_)
  · obtain ⟨t', ht, et, t1, t2⟩ := aw_ofN c_5.1
    refine AW_ls (show _ = [(0, .ref w.1), (1, .int (nI t'))] by rw [← et]) ?_
    refine aw_aload_n dX5_envies_10 rfl ?_
    refine mm_call dX5_envies_11 sX5_458 rfl hW hR hs (mm_layHomes hn) rfl rfl ⟨Nat.le_of_ble_eq_true rfl, Nat.le_of_ble_eq_true rfl⟩ (Nat.le_of_ble_eq_true rfl) (fun h hR hs => ?_)
    refine aw_iconst (v := nI 0) dX5_envies_14 rfl ?_
    refine aw_istore_n dX5_envies_15 (by decide) rfl rfl ?_
    refine aw_iconst (v := nI 0) dX5_envies_16 rfl ?_
    refine aw_istore_n dX5_envies_17 (by decide) rfl rfl ?_
    exact loop t' (by have := c_5.2; omega) (by rw [op_envies, aw_if1 (show sp_isT (mm_H s) t from c_5), t2, h42]) (mm_n s 42) 0 h rfl (Nat.zero_le _) hR hs
  · refine aw_iconst (v := -1) dX5_envies_8 rfl ?_
    refine aw_ireturn dX5_envies_9 rfl ?_
    exact ⟨by rw [op_envies, aw_if0 (show ¬ sp_isT (mm_H s) t from c_5)], _, mm_core.rf, hR, hs⟩
set_option maxHeartbeats 4000000 in
theorem mm_changeHomes {s : mm_S} {a b : Nat} (ha : a < 8) (hb : b < 8) : mm_Met yX5_changeHomes cX5_changeHomes 4 none 0 [.int (nI (a)), .int (nI (b))] s none (mm_setA s 57 (sp_swap (mm_a s 57) a b)) := by
  refine mm_Met.of (by decide +kernel) (fun _ => Nat.le_of_ble_eq_true rfl) (fun G w h0 hW hR => ?_)
  have hs : mm_same w h0 h0 := mm_same.rf
  show AW G (aw_rm 0 0 0) yX5_changeHomes cX5_changeHomes 4 none (aw_N G (mm_Po G w h0 none (mm_setA s 57 (sp_swap (mm_a s 57) a b))) 0 0) 0 0 h0 0 [(0, .ref w.1), (1, .int (nI (a))), (2, .int (nI (b)))] []
  refine aw_aload_n dX5_changeHomes_0 rfl ?_
  refine aw_get dX5_changeHomes_1 fX5_112 rfl hR.1 (by rfl) ?_
  refine aw_iload_n dX5_changeHomes_4 rfl ?_
  refine aw_ialdN dX5_changeHomes_5 (hR.2.1 57 8 rfl) (by omega) (by decide) ?_
  refine aw_istore_n dX5_changeHomes_6 (by decide) rfl rfl ?_
  refine aw_aload_n dX5_changeHomes_7 rfl ?_
  refine aw_get dX5_changeHomes_8 fX5_112 rfl hR.1 (by rfl) ?_
  refine aw_iload_n dX5_changeHomes_11 rfl ?_
  refine aw_aload_n dX5_changeHomes_12 rfl ?_
  refine aw_get dX5_changeHomes_13 fX5_112 rfl hR.1 (by rfl) ?_
  refine aw_iload_n dX5_changeHomes_16 rfl ?_
  refine aw_ialdN dX5_changeHomes_17 (hR.2.1 57 8 rfl) (by omega) (by decide) ?_
  refine mm_iast (k := 57) rfl hW hR hs dX5_changeHomes_18 (by omega) (by decide) (fun h hR hs => ?_)
  refine aw_aload_n dX5_changeHomes_19 rfl ?_
  refine aw_get dX5_changeHomes_20 fX5_112 rfl hR.1 (by rfl) ?_
  refine aw_iload_n dX5_changeHomes_23 rfl ?_
  refine aw_iload_n dX5_changeHomes_24 rfl ?_
  refine mm_iast (k := 57) rfl hW hR hs dX5_changeHomes_25 (by omega) (by decide) (fun h hR hs => ?_)
  refine aw_vreturn dX5_changeHomes_26 rfl ?_
  exact ⟨rfl, mm_eq hR (by simp only [mm_n_N, mm_n_A, mm_n_V, mm_n_Fp, mm_n_W, mm_n_Nm, mm_a_N, mm_a_A, mm_a_V, mm_a_Fp, mm_a_W, mm_a_Nm, mm_v_N, mm_v_A, mm_v_V, mm_fp_N, mm_fp_A, mm_fp_Fp, mm_w_N, mm_w_W, Nat.reduceEqDiff, reduceIte, if_true, if_false, mm_H_45, mm_H_46, mm_H_47, mm_H_50, mm_H_53, mm_H_54, mm_H_55, mm_H_56, mm_H_57, mm_H_58, mm_H_66, mm_H_67, mm_H_68, mm_A_A]; rfl), hs⟩
theorem sp_swap_swap {f : Nat → Nat} {a b : Nat} (h : a ≠ b) : sp_swap (sp_swap f a b) a b = f := by
  unfold sp_swap
  funext j
  by_cases e1 : j = b
  · subst e1
    rw [aw_u_s, aw_u_n h, aw_u_s]
  · rw [aw_u_n e1]
    by_cases e2 : j = a
    · subst e2
      rw [aw_u_s, aw_u_s]
    · rw [aw_u_n e2, aw_u_n e1, aw_u_n e2]
theorem sp_swap_lt {f : Nat → Nat} {a b N n : Nat} (ha : a < n) (hb : b < n) (h : ∀ k, k < n → f k < N) : ∀ k, k < n → sp_swap f a b k < N := by
  intro k hk
  unfold sp_swap aw_u
  split
  · exact h a ha
  · split
    · exact h b hb
    · exact h k hk
theorem sp_swap_c {f g : Nat → Nat} {a b n : Nat} (ha : a < n) (hb : b < n) (h : ∀ k, k < n → f k = g k) : ∀ k, k < n → sp_swap f a b k = sp_swap g a b k := by
  intro k hk
  unfold sp_swap aw_u
  split
  · exact h a ha
  · split
    · exact h b hb
    · exact h k hk
theorem sp_sum_le {f : Nat → Nat} {b : Nat} (h : ∀ k, f k ≤ b) : ∀ n, sp_sum f n ≤ n * b := by
  intro n
  induction n with
  | zero => exact Nat.zero_le _
  | succ n ih =>
    unfold sp_sum
    have := h n
    rw [Nat.succ_mul]
    omega
theorem sp_envs_le {H : sp_H} {f : Nat → Nat} (hn : sp_hn H ≤ 8) : sp_envs H f ≤ 64 := by
  unfold sp_envs
  have h1 : ∀ a, sp_sum (sp_envT H f a) (sp_hn H) ≤ 8 := fun a => by
    have := sp_sum_le (f := sp_envT H f a) (b := 1) (fun k => by have := @sp_envT_lt H f a k; omega) (sp_hn H)
    omega
  have h2 := sp_sum_le h1 (sp_hn H)
  omega
theorem sp_cst_ok {H : sp_H} {a b : Nat} {p : Nat × Nat} (hn : sp_hn H ≤ 8) (ha : a < 8) (hb : b < 8) (h : p.1 ≤ 64 ∧ p.2 ≤ 64) : (sp_cst H a b p).1 ≤ 64 ∧ (sp_cst H a b p).2 ≤ 64 := by
  unfold sp_cst
  split
  · exact ⟨by show 8 * a + b + 1 ≤ 64; omega, sp_envs_le hn⟩
  · exact h
theorem sp_ci_ok {H : sp_H} {a : Nat} {p : Nat × Nat} (hn : sp_hn H ≤ 8) (ha : a < 8) (h : p.1 ≤ 64 ∧ p.2 ≤ 64) : ∀ k, a + k < sp_hn H → (sp_ci H a k p).1 ≤ 64 ∧ (sp_ci H a k p).2 ≤ 64 := by
  intro k
  induction k with
  | zero => intro _; exact h
  | succ k ih => intro hk; exact sp_cst_ok hn ha (by omega) (ih (by omega))
theorem sp_co_ok {H : sp_H} {p : Nat × Nat} (hn : sp_hn H ≤ 8) (h : p.1 ≤ 64 ∧ p.2 ≤ 64) : ∀ k, k ≤ sp_hn H → (sp_co H k p).1 ≤ 64 ∧ (sp_co H k p).2 ≤ 64 := by
  intro k
  induction k with
  | zero => intro _; exact h
  | succ k ih => intro hk; exact sp_ci_ok hn (by omega) (ih (by omega)) _ (by omega)

