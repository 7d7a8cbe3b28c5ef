set_option maxRecDepth 100000
/-! the model: calls, the fourth lot -/
set_option maxHeartbeats 4000000 in
theorem mm_monthOf {s : mm_S} {t : Nat} (ht : t < 8) : mm_Met yX5_monthOf cX5_monthOf 2 (some .int) 0 [.int (nI (t))] s (some (.int (nI (sp_mon (mm_H s) (mm_a s 57) t)))) (s) := by
  refine mm_Met.of (by decide +kernel) (fun _ => Nat.le_of_ble_eq_true rfl) (fun G w h0 hW hR => ?_)
  have hs : mm_same w h0 h0 := mm_same.rf
  show AW G (aw_rm 0 0 0) yX5_monthOf cX5_monthOf 2 (some .int) (aw_N G (mm_Po G w h0 (some (.int (nI (sp_mon (mm_H s) (mm_a s 57) t)))) (s)) 0 0) 0 0 h0 0 [(0, .ref w.1), (1, .int (nI (t)))] []
  refine aw_bipush (v := nI 30) dX5_monthOf_0 rfl ?_
  refine aw_aload_n dX5_monthOf_2 rfl ?_
  refine aw_get dX5_monthOf_3 fX5_112 rfl hR.1 (by rfl) ?_
  refine aw_iload_n dX5_monthOf_6 rfl ?_
  refine aw_ialdN dX5_monthOf_7 (hR.2.1 57 8 rfl) (by omega) (by decide) ?_
  refine aw_imulN dX5_monthOf_8 ?_
  refine aw_aload_n dX5_monthOf_9 rfl ?_
  refine aw_get dX5_monthOf_10 fX5_76 rfl hR.1 (by rfl) ?_
  refine aw_iload_n dX5_monthOf_13 rfl ?_
  refine aw_ialdN dX5_monthOf_14 (hR.2.1 35 8 rfl) (by omega) (by decide) ?_
  refine aw_iaddN dX5_monthOf_15 ?_
  refine aw_ireturn dX5_monthOf_16 rfl ?_
  exact ⟨rfl, hR, hs⟩
theorem sp_mn_s (f : Nat → Nat) (k : Nat) : sp_mn f (k + 1) = if f k < sp_mn f k then f k else sp_mn f k := rfl
theorem sp_mx_s (f : Nat → Nat) (k : Nat) : sp_mx f (k + 1) = if sp_mx f k < f k then f k else sp_mx f k := rfl
theorem sp_mx_le {f : Nat → Nat} {b : Nat} (h : ∀ k, f k ≤ b) : ∀ n, sp_mx f n ≤ b := by
  intro n
  induction n with
  | zero => exact Nat.zero_le _
  | succ n ih =>
    unfold sp_mx
    split
    · exact h n
    · exact ih
theorem sp_mn_le {f : Nat → Nat} : ∀ n, sp_mn f n ≤ 1000000 := by
  intro n
  induction n with
  | zero => exact Nat.le_refl _
  | succ n ih =>
    unfold sp_mn
    split <;> omega
theorem sp_mnx {f : Nat → Nat} {n k : Nat} (hk : k < n) : sp_mn f n ≤ f k ∧ f k ≤ sp_mx f n := by
  induction n with
  | zero => omega
  | succ n ih =>
    unfold sp_mn sp_mx
    by_cases e : k = n
    · subst e
      refine ⟨?_, ?_⟩ <;> split <;> omega
    · have := ih (by omega)
      refine ⟨?_, ?_⟩ <;> split <;> omega
theorem sp_mx_c {f g : Nat → Nat} : ∀ n, (∀ k, k < n → f k = g k) → sp_mx f n = sp_mx g n ∧ sp_mn f n = sp_mn g n := by
  intro n
  induction n with
  | zero => intro _; exact ⟨rfl, rfl⟩
  | succ n ih =>
    intro h
    unfold sp_mx sp_mn
    rw [(ih (fun k hk => h k (by omega))).1, (ih (fun k hk => h k (by omega))).2, h n (by omega)]
    exact ⟨rfl, rfl⟩
set_option maxHeartbeats 4000000 in
theorem mm_uneven {s : mm_S} (hn : mm_n s 42 ≤ 8) (h1 : 1 ≤ mm_n s 42) (hh : ∀ k, k < mm_n s 42 → sp_mon (mm_H s) (mm_a s 57) k ≤ 1000000) : mm_Met yX5_uneven cX5_uneven 4 (some .int) 1 [] s (some (.int (nI (sp_unev (mm_H s) (mm_a s 57))))) (s) := by
  refine mm_Met.of (by decide +kernel) (fun _ => Nat.le_of_ble_eq_true rfl) (fun G w h0 hW hR => ?_)
  have hs : mm_same w h0 h0 := mm_same.rf
  show AW G (aw_rm 1 0 0) yX5_uneven cX5_uneven 4 (some .int) (aw_N G (mm_Po G w h0 (some (.int (nI (sp_unev (mm_H s) (mm_a s 57))))) (s)) 0 0) 0 0 h0 0 [(0, .ref w.1)] []
  have h42 : sp_hn (mm_H s) = mm_n s 42 := rfl
  have hb : ∀ k, k ≤ mm_n s 42 → sp_mx (sp_mon (mm_H s) (mm_a s 57)) k ≤ 1000000 := by
    intro k
    induction k with
    | zero => intro _; exact Nat.zero_le _
    | succ k ih =>
      intro hk
      unfold sp_mx
      split
      · exact hh k (by omega)
      · exact ih (by omega)
  have loop : ∀ (m k : Nat) (h : aw_H), mm_n s 42 - k = m → k ≤ mm_n s 42 → mm_R G w h s → mm_same w h0 h → AW G (aw_rm 1 0 0) yX5_uneven cX5_uneven 4 (some .int) (aw_N G (mm_Po G w h0 (some (.int (nI (sp_unev (mm_H s) (mm_a s 57))))) (s)) 0 0) 0 0 h 8 [(0, .ref w.1), (1, .int (nI (sp_mn (sp_mon (mm_H s) (mm_a s 57)) k))), (2, .int (nI (sp_mx (sp_mon (mm_H s) (mm_a s 57)) k))), (3, .int (nI k))] [] := by
    intro m
    induction m using Nat.strongRecOn with
    | _ m ih =>
      intro k h hm hk hR hs
      have q1 := hb k (by omega)
      have q2 := @sp_mn_le (sp_mon (mm_H s) (mm_a s 57)) k
      by_cases hk8 : k < mm_n s 42
      · have q3 := hh k (by omega)
        have next : ∀ (a b : Nat) (h : aw_H), a = sp_mn (sp_mon (mm_H s) (mm_a s 57)) (k + 1) → b = sp_mx (sp_mon (mm_H s) (mm_a s 57)) (k + 1) → mm_R G w h s → mm_same w h0 h → AW G (aw_rm 1 0 0) yX5_uneven cX5_uneven 4 (some .int) (aw_N G (mm_Po G w h0 (some (.int (nI (sp_unev (mm_H s) (mm_a s 57))))) (s)) 0 0) 0 0 h 54 [(0, .ref w.1), (1, .int (nI a)), (2, .int (nI b)), (3, .int (nI k))] [] := by
          intro a b h ea eb hR hs
          subst ea eb
          refine aw_iincN (b := 1) dX5_uneven_54 rfl rfl (by decide) rfl rfl ?_
          refine aw_goto (tgt := 8) dX5_uneven_57 (by decide) ?_
          exact ih (mm_n s 42 - (k + 1)) (by omega) (k + 1) h rfl (by omega) hR hs
        refine aw_iload_n dX5_uneven_8 rfl ?_
        refine aw_aload_n dX5_uneven_9 rfl ?_
        refine aw_get dX5_uneven_10 fX5_350 rfl hR.1 (by rfl) ?_
        refine aw_icmp_geN (tgt := 60) dX5_uneven_13 (by decide) (by omega) (by omega) (fun c_13 => by exfalso; omega) (fun c_13 => ?_)
        refine aw_aload_n dX5_uneven_16 rfl ?_
        refine aw_iload_n dX5_uneven_17 rfl ?_
        refine mm_call dX5_uneven_18 sX5_467 rfl hW hR hs (mm_monthOf (by first | omega | assumption | exact aw_t_lt)) rfl rfl ⟨Nat.le_of_ble_eq_true rfl, Nat.le_of_ble_eq_true rfl⟩ (Nat.le_of_ble_eq_true rfl) (fun h hR hs => ?_)
        refine aw_iload_n dX5_uneven_21 rfl ?_
        refine aw_icmp_geN (tgt := 33) dX5_uneven_22 (by decide) (by omega) (by omega) (fun c_22 => ?_) (fun c_22 => ?_)
        · refine aw_iload_n dX5_uneven_33 rfl ?_
          refine aw_istore_n dX5_uneven_34 (by decide) rfl rfl ?_
          refine aw_aload_n dX5_uneven_35 rfl ?_
          refine aw_iload_n dX5_uneven_36 rfl ?_
          refine mm_call dX5_uneven_37 sX5_467 rfl hW hR hs (mm_monthOf (by first | omega | assumption | exact aw_t_lt)) rfl rfl ⟨Nat.le_of_ble_eq_true rfl, Nat.le_of_ble_eq_true rfl⟩ (Nat.le_of_ble_eq_true rfl) (fun h hR hs => ?_)
          refine aw_iload_n dX5_uneven_40 rfl ?_
          refine aw_icmp_leN (tgt := 52) dX5_uneven_41 (by decide) (by omega) (by omega) (fun c_41 => ?_) (fun c_41 => ?_)
          · refine aw_iload_n dX5_uneven_52 rfl ?_
            refine aw_istore_n dX5_uneven_53 (by decide) rfl rfl ?_
            refine next _ _ h ?_ ?_ hR hs
            · rw [sp_mn_s]
              first | rw [if_pos (by omega)] | rw [if_neg (by omega)]
            · rw [sp_mx_s]
              first | rw [if_pos (by omega)] | rw [if_neg (by omega)]
          · refine aw_aload_n dX5_uneven_44 rfl ?_
            refine aw_iload_n dX5_uneven_45 rfl ?_
            refine mm_call dX5_uneven_46 sX5_467 rfl hW hR hs (mm_monthOf (by first | omega | assumption | exact aw_t_lt)) rfl rfl ⟨Nat.le_of_ble_eq_true rfl, Nat.le_of_ble_eq_true rfl⟩ (Nat.le_of_ble_eq_true rfl) (fun h hR hs => ?_)
            refine aw_goto (tgt := 53) dX5_uneven_49 (by decide) ?_
            refine aw_istore_n dX5_uneven_53 (by decide) rfl rfl ?_
            refine next _ _ h ?_ ?_ hR hs
            · rw [sp_mn_s]
              first | rw [if_pos (by omega)] | rw [if_neg (by omega)]
            · rw [sp_mx_s]
              first | rw [if_pos (by omega)] | rw [if_neg (by omega)]
        · refine aw_aload_n dX5_uneven_25 rfl ?_
          refine aw_iload_n dX5_uneven_26 rfl ?_
          refine mm_call dX5_uneven_27 sX5_467 rfl hW hR hs (mm_monthOf (by first | omega | assumption | exact aw_t_lt)) rfl rfl ⟨Nat.le_of_ble_eq_true rfl, Nat.le_of_ble_eq_true rfl⟩ (Nat.le_of_ble_eq_true rfl) (fun h hR hs => ?_)
          refine aw_goto (tgt := 34) dX5_uneven_30 (by decide) ?_
          refine aw_istore_n dX5_uneven_34 (by decide) rfl rfl ?_
          refine aw_aload_n dX5_uneven_35 rfl ?_
          refine aw_iload_n dX5_uneven_36 rfl ?_
          refine mm_call dX5_uneven_37 sX5_467 rfl hW hR hs (mm_monthOf (by first | omega | assumption | exact aw_t_lt)) rfl rfl ⟨Nat.le_of_ble_eq_true rfl, Nat.le_of_ble_eq_true rfl⟩ (Nat.le_of_ble_eq_true rfl) (fun h hR hs => ?_)
          refine aw_iload_n dX5_uneven_40 rfl ?_
          refine aw_icmp_leN (tgt := 52) dX5_uneven_41 (by decide) (by omega) (by omega) (fun c_41 => ?_) (fun c_41 => ?_)
          · refine aw_iload_n dX5_uneven_52 rfl ?_
            refine aw_istore_n dX5_uneven_53 (by decide) rfl rfl ?_
            refine next _ _ h ?_ ?_ hR hs
            · rw [sp_mn_s]
              first | rw [if_pos (by omega)] | rw [if_neg (by omega)]
            · rw [sp_mx_s]
              first | rw [if_pos (by omega)] | rw [if_neg (by omega)]
          · refine aw_aload_n dX5_uneven_44 rfl ?_
            refine aw_iload_n dX5_uneven_45 rfl ?_
            refine mm_call dX5_uneven_46 sX5_467 rfl hW hR hs (mm_monthOf (by first | omega | assumption | exact aw_t_lt)) rfl rfl ⟨Nat.le_of_ble_eq_true rfl, Nat.le_of_ble_eq_true rfl⟩ (Nat.le_of_ble_eq_true rfl) (fun h hR hs => ?_)
            refine aw_goto (tgt := 53) dX5_uneven_49 (by decide) ?_
            refine aw_istore_n dX5_uneven_53 (by decide) rfl rfl ?_
            refine next _ _ h ?_ ?_ hR hs
            · rw [sp_mn_s]
              first | rw [if_pos (by omega)] | rw [if_neg (by omega)]
            · rw [sp_mx_s]
              first | rw [if_pos (by omega)] | rw [if_neg (by omega)]
      · have e : k = mm_n s 42 := by omega
        have q4 := sp_mnx (f := sp_mon (mm_H s) (mm_a s 57)) (n := k) (k := 0) (by omega)
        refine aw_iload_n dX5_uneven_8 rfl ?_
        refine aw_aload_n dX5_uneven_9 rfl ?_
        refine aw_get dX5_uneven_10 fX5_350 rfl hR.1 (by rfl) ?_
        refine aw_icmp_geN (tgt := 60) dX5_uneven_13 (by decide) (by omega) (by omega) (fun c_13 => ?_) (fun c_13 => by exfalso; omega)
        refine aw_iload_n dX5_uneven_60 rfl ?_
        refine aw_iload_n dX5_uneven_61 rfl ?_
        refine aw_isubN dX5_uneven_62 (by omega) ?_
        refine aw_ireturn dX5_uneven_63 rfl ?_
        exact ⟨by unfold sp_unev; rw [h42, e], hR, hs⟩
  refine aw_ldcw (v := nI 1000000) dX5_uneven_0 q1808 ?_
  refine aw_istore_n dX5_uneven_3 (by decide) rfl rfl ?_
  refine aw_iconst (v := nI 0) dX5_uneven_4 rfl ?_
  refine aw_istore_n dX5_uneven_5 (by decide) rfl rfl ?_
  refine aw_iconst (v := nI 0) dX5_uneven_6 rfl ?_
  refine aw_istore_n dX5_uneven_7 (by decide) rfl rfl ?_
  exact loop (mm_n s 42) 0 h0 rfl (Nat.zero_le _) hR hs
set_option maxHeartbeats 4000000 in
theorem mo_month {s : mm_S} {t : Int32} (hH : sp_okH (mm_H s)) : mm_Op yX5_month cX5_month 2 (some .int) 2 [.int (t)] s (some (.int (op_month (mm_H s) t))) (s) := by
  refine mm_Op.of (by decide +kernel) (fun _ => Nat.le_of_ble_eq_true rfl) (fun G w h0 hW hR => ?_)
  have hs : mm_same w h0 h0 := mm_same.rf
  show AW G (aw_rm 2 0 0) yX5_month cX5_month 2 (some .int) (aw_N G (mm_PoC G w h0 (some (.int (op_month (mm_H s) t))) (s)) 0 0) 0 0 h0 0 [(0, .ref w.1), (1, .int (t))] []
  have hs1 : 1 ≤ mm_n s 41 := hH.1.1; have hs20 : mm_n s 41 ≤ 20 := hH.1.2; have hn : mm_n s 42 ≤ 8 := hH.2.1; have hlv : ∀ t, t < 8 → mm_a s 32 t ≤ 20 := fun t ht => (hH.2.2.1 t ht).1; have hsg : ∀ t, t < 8 → mm_a s 33 t ≤ 40 := fun t ht => (hH.2.2.1 t ht).2.1; have hhv : ∀ t, t < 8 → mm_a s 34 t ≤ 9 := fun t ht => (hH.2.2.1 t ht).2.2.1; have how : ∀ t, t < 8 → mm_a s 35 t ≤ 999 := fun t ht => (hH.2.2.1 t ht).2.2.2.1; have hfl : ∀ t, t < 8 → mm_a s 36 t ≤ 100 := fun t ht => (hH.2.2.1 t ht).2.2.2.2; have hF0 : sp_fok (mm_steps s 0) := hH.2.2.2.1; have hF1 : sp_fok (mm_steps s 1) := hH.2.2.2.2; have h42 : sp_hn (mm_H s) = mm_n s 42 := rfl; have h41 : sp_hs (mm_H s) = mm_n s 41 := rfl
  refine aw_aload_n dX5_month_0 rfl ?_
  refine aw_iload_n dX5_month_1 rfl ?_
  refine mm_call dX5_month_2 sX5_382 rfl hW hR hs (mm_isTenant hn) rfl rfl ⟨Nat.le_of_ble_eq_true rfl, Nat.le_of_ble_eq_true rfl⟩ (Nat.le_of_ble_eq_true rfl) (fun h hR hs => ?_)
  refine aw_if_neB (tgt := 10) dX5_month_5 (by decide) (fun c_5 => ?_) (fun c_5 => ?_)
  · obtain ⟨t', ht, et, t1, t2⟩ := aw_ofN c_5.1
    have ht9 : t' < mm_n s 42 := by have := c_5.2; omega
    have ht8 : t' < 8 := by omega
    refine AW_ls (show _ = [(0, .ref w.1), (1, .int (nI t'))] by rw [← et]) ?_
    refine aw_aload_n dX5_month_10 rfl ?_
    refine mm_call dX5_month_11 sX5_458 rfl hW hR hs (mm_layHomes hn) rfl rfl ⟨Nat.le_of_ble_eq_true rfl, Nat.le_of_ble_eq_true rfl⟩ (Nat.le_of_ble_eq_true rfl) (fun h hR hs => ?_)
    refine aw_aload_n dX5_month_14 rfl ?_
    refine aw_iload_n dX5_month_15 rfl ?_
    refine mm_call dX5_month_16 sX5_467 rfl hW hR hs (mm_monthOf ht8) rfl rfl ⟨Nat.le_of_ble_eq_true rfl, Nat.le_of_ble_eq_true rfl⟩ (Nat.le_of_ble_eq_true rfl) (fun h hR hs => ?_)
    try simp only [mm_n_N, mm_n_A, mm_n_V, mm_n_Fp, mm_n_W, mm_n_Nm, mm_a_N, mm_a_A, mm_a_V, mm_a_Fp, mm_a_W, mm_a_Nm, mm_v_N, mm_v_A, mm_v_V, mm_fp_N, mm_fp_A, mm_fp_Fp, mm_w_N, mm_w_W, Nat.reduceEqDiff, reduceIte, if_true, if_false, mm_H_45, mm_H_46, mm_H_47, mm_H_50, mm_H_53, mm_H_54, mm_H_55, mm_H_56, mm_H_57, mm_H_58, mm_H_66, mm_H_67, mm_H_68]
    refine aw_ireturn dX5_month_19 rfl ?_
    refine ⟨?_, _, mm_core.A rfl mm_core.rf, hR, hs⟩
    rw [op_month, aw_if1 (show sp_isT (mm_H s) t from c_5), t2]
    exact congrArg (fun x => some (Value.int (nI (30 * x + sp_ow (mm_H s) t')))) (mm_home_at ht9)
  · refine aw_iconst (v := -1) dX5_month_8 rfl ?_
    refine aw_ireturn dX5_month_9 rfl ?_
    exact ⟨by rw [op_month, aw_if0 (show ¬ sp_isT (mm_H s) t from c_5)], _, mm_core.rf, hR, hs⟩
set_option maxHeartbeats 4000000 in
theorem mo_spread {s : mm_S} (hH : sp_okH (mm_H s)) : mm_Op yX5_spread cX5_spread 1 (some .int) 2 [] s (some (.int (op_spread (mm_H s)))) (s) := by
  refine mm_Op.of (by decide +kernel) (fun _ => Nat.le_of_ble_eq_true rfl) (fun G w h0 hW hR => ?_)
  have hs : mm_same w h0 h0 := mm_same.rf
  show AW G (aw_rm 2 0 0) yX5_spread cX5_spread 1 (some .int) (aw_N G (mm_PoC G w h0 (some (.int (op_spread (mm_H s)))) (s)) 0 0) 0 0 h0 0 [(0, .ref w.1)] []
  have hs1 : 1 ≤ mm_n s 41 := hH.1.1; have hs20 : mm_n s 41 ≤ 20 := hH.1.2; have hn : mm_n s 42 ≤ 8 := hH.2.1; have hlv : ∀ t, t < 8 → mm_a s 32 t ≤ 20 := fun t ht => (hH.2.2.1 t ht).1; have hsg : ∀ t, t < 8 → mm_a s 33 t ≤ 40 := fun t ht => (hH.2.2.1 t ht).2.1; have hhv : ∀ t, t < 8 → mm_a s 34 t ≤ 9 := fun t ht => (hH.2.2.1 t ht).2.2.1; have how : ∀ t, t < 8 → mm_a s 35 t ≤ 999 := fun t ht => (hH.2.2.1 t ht).2.2.2.1; have hfl : ∀ t, t < 8 → mm_a s 36 t ≤ 100 := fun t ht => (hH.2.2.1 t ht).2.2.2.2; have hF0 : sp_fok (mm_steps s 0) := hH.2.2.2.1; have hF1 : sp_fok (mm_steps s 1) := hH.2.2.2.2; have h42 : sp_hn (mm_H s) = mm_n s 42 := rfl; have h41 : sp_hs (mm_H s) = mm_n s 41 := rfl
  have hh : ∀ k, k < mm_n s 42 → sp_mon (mm_H s) (mm_home s) k ≤ 1000000 := fun k hk => by
    have e : mm_home s k ≤ 20 := by
      rw [mm_home_at hk]
      exact hlv k (by omega)
    have q3 := how k (by omega)
    show 30 * mm_home s k + mm_a s 35 k ≤ _
    omega
  refine aw_aload_n dX5_spread_0 rfl ?_
  refine aw_get dX5_spread_1 fX5_350 rfl hR.1 (by rfl) ?_
  refine aw_if_neN (tgt := 9) dX5_spread_4 (by decide) (by omega) (fun c_4 => ?_) (fun c_4 => ?_)
  · refine aw_aload_n dX5_spread_9 rfl ?_
    refine mm_call dX5_spread_10 sX5_458 rfl hW hR hs (mm_layHomes hn) rfl rfl ⟨Nat.le_of_ble_eq_true rfl, Nat.le_of_ble_eq_true rfl⟩ (Nat.le_of_ble_eq_true rfl) (fun h hR hs => ?_)
    refine aw_aload_n dX5_spread_13 rfl ?_
    refine mm_call dX5_spread_14 sX5_470 rfl hW hR hs (mm_uneven hn (by show 1 ≤ mm_n s 42; omega) hh) rfl rfl ⟨Nat.le_of_ble_eq_true rfl, Nat.le_of_ble_eq_true rfl⟩ (Nat.le_of_ble_eq_true rfl) (fun h hR hs => ?_)
    try simp only [mm_n_N, mm_n_A, mm_n_V, mm_n_Fp, mm_n_W, mm_n_Nm, mm_a_N, mm_a_A, mm_a_V, mm_a_Fp, mm_a_W, mm_a_Nm, mm_v_N, mm_v_A, mm_v_V, mm_fp_N, mm_fp_A, mm_fp_Fp, mm_w_N, mm_w_W, Nat.reduceEqDiff, reduceIte, if_true, if_false, mm_H_45, mm_H_46, mm_H_47, mm_H_50, mm_H_53, mm_H_54, mm_H_55, mm_H_56, mm_H_57, mm_H_58, mm_H_66, mm_H_67, mm_H_68]
    refine aw_ireturn dX5_spread_17 rfl ?_
    refine ⟨?_, _, mm_core.A rfl mm_core.rf, hR, hs⟩
    rw [op_spread, if_neg (by omega)]
    have e := sp_mx_c (f := sp_mon (mm_H s) (mm_home s)) (g := sp_mon (mm_H s) (sp_lv (mm_H s))) (sp_hn (mm_H s)) (fun k hk => by unfold sp_mon; rw [mm_home_at hk]; rfl)
    unfold sp_unev
    rw [← e.1, ← e.2]
    rfl
  · refine aw_iconst (v := -1) dX5_spread_7 rfl ?_
    refine aw_ireturn dX5_spread_8 rfl ?_
    exact ⟨by rw [op_spread, if_pos (by omega)], _, mm_core.rf, hR, hs⟩
set_option maxHeartbeats 4000000 in
theorem mo_calm {s : mm_S} {q : Int32} (hH : sp_okH (mm_H s)) : mm_Op yX5_calm cX5_calm 7 (some .int) 2 [.int (q)] s (some (.int (op_calm (mm_H s) q))) (s) := by
  refine mm_Op.of (by decide +kernel) (fun _ => Nat.le_of_ble_eq_true rfl) (fun G w h0 hW hR => ?_)
  have hs : mm_same w h0 h0 := mm_same.rf
  show AW G (aw_rm 2 0 0) yX5_calm cX5_calm 7 (some .int) (aw_N G (mm_PoC G w h0 (some (.int (op_calm (mm_H s) q))) (s)) 0 0) 0 0 h0 0 [(0, .ref w.1), (1, .int (q))] []
  have hs1 : 1 ≤ mm_n s 41 := hH.1.1; have hs20 : mm_n s 41 ≤ 20 := hH.1.2; have hn : mm_n s 42 ≤ 8 := hH.2.1; have hlv : ∀ t, t < 8 → mm_a s 32 t ≤ 20 := fun t ht => (hH.2.2.1 t ht).1; have hsg : ∀ t, t < 8 → mm_a s 33 t ≤ 40 := fun t ht => (hH.2.2.1 t ht).2.1; have hhv : ∀ t, t < 8 → mm_a s 34 t ≤ 9 := fun t ht => (hH.2.2.1 t ht).2.2.1; have how : ∀ t, t < 8 → mm_a s 35 t ≤ 999 := fun t ht => (hH.2.2.1 t ht).2.2.2.1; have hfl : ∀ t, t < 8 → mm_a s 36 t ≤ 100 := fun t ht => (hH.2.2.1 t ht).2.2.2.2; have hF0 : sp_fok (mm_steps s 0) := hH.2.2.2.1; have hF1 : sp_fok (mm_steps s 1) := hH.2.2.2.2; have h42 : sp_hn (mm_H s) = mm_n s 42 := rfl; have h41 : sp_hs (mm_H s) = mm_n s 41 := rfl
  have hh := mm_home_lt hn hlv
  have p0 : ((0 : Nat), sp_envs (mm_H s) (sp_lv (mm_H s))).1 ≤ 64 ∧ ((0 : Nat), sp_envs (mm_H s) (sp_lv (mm_H s))).2 ≤ 64 := ⟨Nat.zero_le _, sp_envs_le hn⟩
  have okC := sp_co_ok (H := mm_H s) hn p0
  have eH : sp_envs (mm_H s) (mm_home s) = sp_envs (mm_H s) (sp_lv (mm_H s)) := sp_envs_c (fun t ht => mm_home_at ht)
  have fin : ∀ (h : aw_H) (p : Nat × Nat) (lsx : List (Nat × Value)), 0 ≤ q.toInt ∧ q.toInt ≤ 2 → p = sp_calm (mm_H s) → mm_R G w h (mm_setA s 57 (mm_home s)) → mm_same w h0 h → AW G (aw_rm 2 0 0) yX5_calm cX5_calm 7 (some .int) (aw_N G (mm_PoC G w h0 (some (.int (op_calm (mm_H s) q))) s) 0 0) 0 0 h 104 ((0, .ref w.1) :: (1, .int q) :: (2, .int (nI p.2)) :: (3, .int (sp_cv p.1)) :: lsx) [] := by
    intro h p lsx hq hp hR hs
    obtain ⟨q', hq', eq, q1, q2⟩ := aw_ofN hq.1
    have okp : p.1 ≤ 64 ∧ p.2 ≤ 64 := by rw [hp]; exact okC _ (Nat.le_refl _)
    rcases (show p.1 = 0 ∨ ∃ j, p.1 = j + 1 by cases p.1; exact Or.inl rfl; exact Or.inr ⟨_, rfl⟩) with e | ⟨j, e⟩
    · rw [e]
      refine aw_iload_n dX5_calm_104 rfl ?_
      refine aw_if_ge (tgt := 112) dX5_calm_105 (by decide) (fun c_105 => by exfalso; exact absurd c_105 (by decide)) (fun c_105 => ?_)
      refine aw_iconst (v := -1) dX5_calm_108 rfl ?_
      refine aw_goto (tgt := 136) dX5_calm_109 (by decide) ?_
      refine aw_ireturn dX5_calm_136 rfl ?_
      exact ⟨by rw [op_calm, aw_if0 (fun z => z.2.2 (by rw [← hp]; exact e))], _, mm_core.A rfl mm_core.rf, hR, hs⟩
    · rw [e, sp_cv_s]
      have er : op_calm (mm_H s) q = if q' = 0 then nI (j / 8) else if q' = 1 then nI (j % 8) else nI p.2 := by
        rw [op_calm, aw_if1 ⟨hq.1, hq.2, by rw [← hp]; omega⟩, ← hp, e, q1]
        by_cases z : q' = 0
        · rw [if_pos z, if_pos (by omega)]; rfl
        · rw [if_neg z, if_neg (by omega)]
          by_cases z1 : q' = 1
          · rw [if_pos z1, if_pos (by omega)]; rfl
          · rw [if_neg z1, if_neg (by omega)]
      rw [show Value.int q = Value.int (nI q') by rw [eq]]
      refine aw_iload_n dX5_calm_104 rfl ?_
      refine aw_if_geN (tgt := 112) dX5_calm_105 (by decide) (by omega) ?_
      refine aw_iload_n dX5_calm_112 rfl ?_
      refine aw_if_neN (tgt := 123) dX5_calm_113 (by decide) (by omega) (fun c_113 => ?_) (fun c_113 => ?_)
      · refine aw_iload_n dX5_calm_123 rfl ?_
        refine aw_iconst (v := nI 1) dX5_calm_124 rfl ?_
        refine aw_icmp_neN (tgt := 135) dX5_calm_125 (by decide) (by omega) (by omega) (fun c_125 => ?_) (fun c_125 => ?_)
        · refine aw_iload_n dX5_calm_135 rfl ?_
          refine aw_ireturn dX5_calm_136 rfl ?_
          refine ⟨?_, _, mm_core.A rfl mm_core.rf, hR, hs⟩
          rw [er]
          first
            | rw [if_pos c_113]
            | rw [if_neg c_113, if_pos c_125]
            | rw [if_neg c_113, if_neg c_125]
        · refine aw_iload_n dX5_calm_128 rfl ?_
          refine aw_bipush (v := nI 8) dX5_calm_129 rfl ?_
          refine aw_iremN dX5_calm_131 (by omega) (by omega) (by omega) ?_
          refine aw_goto (tgt := 136) dX5_calm_132 (by decide) ?_
          refine aw_ireturn dX5_calm_136 rfl ?_
          refine ⟨?_, _, mm_core.A rfl mm_core.rf, hR, hs⟩
          rw [er]
          first
            | rw [if_pos c_113]
            | rw [if_neg c_113, if_pos c_125]
            | rw [if_neg c_113, if_neg c_125]
      · refine aw_iload_n dX5_calm_116 rfl ?_
        refine aw_bipush (v := nI 8) dX5_calm_117 rfl ?_
        refine aw_idivN dX5_calm_119 (by omega) (by omega) (by omega) ?_
        refine aw_goto (tgt := 136) dX5_calm_120 (by decide) ?_
        refine aw_ireturn dX5_calm_136 rfl ?_
        refine ⟨?_, _, mm_core.A rfl mm_core.rf, hR, hs⟩
        rw [er]
        first
          | rw [if_pos c_113]
          | rw [if_neg c_113, if_pos c_125]
          | rw [if_neg c_113, if_neg c_125]
  have inner : ∀ (a : Nat) (pa : Nat × Nat), pa.1 ≤ 64 ∧ pa.2 ≤ 64 → a < mm_n s 42 → 0 ≤ q.toInt ∧ q.toInt ≤ 2 → (∀ (h : aw_H) (b : Nat) (lsx : List (Nat × Value)), mm_R G w h (mm_setA s 57 (mm_home s)) → mm_same w h0 h → (lsx = [] ∨ ∃ z, lsx = [(6, .int z)]) → AW G (aw_rm 2 0 0) yX5_calm cX5_calm 7 (some .int) (aw_N G (mm_PoC G w h0 (some (.int (op_calm (mm_H s) q))) s) 0 0) 0 0 h 98 ((0, .ref w.1) :: (1, .int q) :: (2, .int (nI (sp_ci (mm_H s) a (mm_n s 42 - 1 - a) pa).2)) :: (3, .int (sp_cv (sp_ci (mm_H s) a (mm_n s 42 - 1 - a) pa).1)) :: (4, .int (nI a)) :: (5, .int (nI b)) :: lsx) []) → ∀ (m k : Nat) (h : aw_H) (lsx : List (Nat × Value)), (lsx = [] ∨ ∃ z, lsx = [(6, .int z)]) → mm_n s 42 - 1 - a - k = m → k ≤ mm_n s 42 - 1 - a → mm_R G w h (mm_setA s 57 (mm_home s)) → mm_same w h0 h → AW G (aw_rm 2 0 0) yX5_calm cX5_calm 7 (some .int) (aw_N G (mm_PoC G w h0 (some (.int (op_calm (mm_H s) q))) s) 0 0) 0 0 h 40 ((0, .ref w.1) :: (1, .int q) :: (2, .int (nI (sp_ci (mm_H s) a k pa).2)) :: (3, .int (sp_cv (sp_ci (mm_H s) a k pa).1)) :: (4, .int (nI a)) :: (5, .int (nI (a + 1 + k))) :: lsx) [] := by
    intro a pa hpa ha hq hgo m
    induction m using Nat.strongRecOn with
    | _ m ih =>
      intro k h lsx hls hm hk hR hs
      by_cases hk8 : a + 1 + k < mm_n s 42
      · have okp := sp_ci_ok (H := mm_H s) hn (show a < 8 by omega) hpa k (by rw [h42]; omega)
        have e1 := @sp_envs_le (mm_H s) (sp_swap (mm_home s) a (a + 1 + k)) hn
        have e2 : sp_envs (mm_H s) (sp_swap (mm_home s) a (a + 1 + k)) = sp_envs (mm_H s) (sp_swap (sp_lv (mm_H s)) a (a + 1 + k)) := sp_envs_c (sp_swap_c (by rw [h42]; omega) (by rw [h42]; omega) (fun t ht => mm_home_at ht))
        have next : ∀ (h : aw_H) (z : Int32) (p : Nat × Nat), p = sp_ci (mm_H s) a (k + 1) pa → mm_R G w h (mm_setA s 57 (mm_home s)) → mm_same w h0 h → AW G (aw_rm 2 0 0) yX5_calm cX5_calm 7 (some .int) (aw_N G (mm_PoC G w h0 (some (.int (op_calm (mm_H s) q))) (s)) 0 0) 0 0 h 92 [(0, .ref w.1), (1, .int q), (2, .int (nI p.2)), (3, .int (sp_cv p.1)), (4, .int (nI a)), (5, .int (nI (a + 1 + k))), (6, .int z)] [] := by
          intro h z p hp hR hs
          subst hp
          refine aw_iincN (b := 1) dX5_calm_92 rfl rfl (by decide) rfl rfl ?_
          refine aw_goto (tgt := 40) dX5_calm_95 (by decide) ?_
          exact ih (mm_n s 42 - 1 - a - (k + 1)) (by omega) (k + 1) h _ (Or.inr ⟨z, rfl⟩) rfl (by omega) hR hs
        have main : ∀ (h : aw_H) (z : Int32), mm_R G w h (mm_setA s 57 (mm_home s)) → mm_same w h0 h → AW G (aw_rm 2 0 0) yX5_calm cX5_calm 7 (some .int) (aw_N G (mm_PoC G w h0 (some (.int (op_calm (mm_H s) q))) (s)) 0 0) 0 0 h 71 [(0, .ref w.1), (1, .int q), (2, .int (nI (sp_ci (mm_H s) a k pa).2)), (3, .int (sp_cv (sp_ci (mm_H s) a k pa).1)), (4, .int (nI a)), (5, .int (nI (a + 1 + k))), (6, .int (nI (sp_envs (mm_H s) (sp_swap (mm_home s) a (a + 1 + k)))))] [] := by
          intro h z hR hs
          have ec : sp_ci (mm_H s) a (k + 1) pa = sp_cst (mm_H s) a (a + 1 + k) (sp_ci (mm_H s) a k pa) := rfl
          refine aw_iload dX5_calm_71 rfl ?_
          refine aw_iload_n dX5_calm_73 rfl ?_
          refine aw_icmp_ltN (tgt := 80) dX5_calm_74 (by decide) (by omega) (by omega) (fun c_74 => ?_) (fun c_74 => ?_)
          · refine aw_iload dX5_calm_80 rfl ?_
            refine aw_istore_n dX5_calm_82 (by decide) rfl rfl ?_
            refine aw_bipush (v := nI 8) dX5_calm_83 rfl ?_
            refine aw_iload dX5_calm_85 rfl ?_
            refine aw_imulN dX5_calm_87 ?_
            refine aw_iload dX5_calm_88 rfl ?_
            refine aw_iaddN dX5_calm_90 ?_
            refine aw_istore_n dX5_calm_91 (by decide) rfl rfl ?_
            by_cases z9 : sp_envs (mm_H s) (sp_swap (mm_home s) a (a + 1 + k)) < (sp_ci (mm_H s) a k pa).2
            · refine AW_ls ?_ (next h (nI (sp_envs (mm_H s) (sp_swap (mm_home s) a (a + 1 + k)))) (8 * a + (a + 1 + k) + 1, sp_envs (mm_H s) (sp_swap (mm_home s) a (a + 1 + k))) (by rw [ec, sp_cst, ← e2, if_pos z9]) hR hs)
              first
                | exact absurd z9 c_74
                | (rw [sp_cv_s]; rfl)
            · refine AW_ls ?_ (next h (nI (sp_envs (mm_H s) (sp_swap (mm_home s) a (a + 1 + k)))) (sp_ci (mm_H s) a k pa) (by rw [ec, sp_cst, ← e2, if_neg z9]) hR hs)
              first
                | exact absurd c_74 z9
                | rfl
          · refine aw_goto (tgt := 92) dX5_calm_77 (by decide) ?_
            by_cases z9 : sp_envs (mm_H s) (sp_swap (mm_home s) a (a + 1 + k)) < (sp_ci (mm_H s) a k pa).2
            · refine AW_ls ?_ (next h (nI (sp_envs (mm_H s) (sp_swap (mm_home s) a (a + 1 + k)))) (8 * a + (a + 1 + k) + 1, sp_envs (mm_H s) (sp_swap (mm_home s) a (a + 1 + k))) (by rw [ec, sp_cst, ← e2, if_pos z9]) hR hs)
              first
                | exact absurd z9 c_74
                | (rw [sp_cv_s]; rfl)
            · refine AW_ls ?_ (next h (nI (sp_envs (mm_H s) (sp_swap (mm_home s) a (a + 1 + k)))) (sp_ci (mm_H s) a k pa) (by rw [ec, sp_cst, ← e2, if_neg z9]) hR hs)
              first
                | exact absurd c_74 z9
                | rfl
        rcases hls with rfl | ⟨z, rfl⟩
        ·
          refine aw_iload dX5_calm_40 rfl ?_
          refine aw_aload_n dX5_calm_42 rfl ?_
          refine aw_get dX5_calm_43 fX5_350 rfl hR.1 (by rfl) ?_
          try simp only [mm_n_N, mm_n_A, mm_n_V, mm_n_Fp, mm_n_W, mm_n_Nm, mm_a_N, mm_a_A, mm_a_V, mm_a_Fp, mm_a_W, mm_a_Nm, mm_v_N, mm_v_A, mm_v_V, mm_fp_N, mm_fp_A, mm_fp_Fp, mm_w_N, mm_w_W, Nat.reduceEqDiff, reduceIte, if_true, if_false, mm_H_45, mm_H_46, mm_H_47, mm_H_50, mm_H_53, mm_H_54, mm_H_55, mm_H_56, mm_H_57, mm_H_58, mm_H_66, mm_H_67, mm_H_68]
          refine aw_icmp_geN (tgt := 98) dX5_calm_46 (by decide) (by omega) (by omega) (fun c_46 => by exfalso; omega) (fun c_46 => ?_)
          refine aw_aload_n dX5_calm_49 rfl ?_
          refine aw_iload dX5_calm_50 rfl ?_
          refine aw_iload dX5_calm_52 rfl ?_
          refine mm_call dX5_calm_54 sX5_464 rfl hW hR hs (mm_changeHomes (by omega) (by omega)) rfl rfl ⟨Nat.le_of_ble_eq_true rfl, Nat.le_of_ble_eq_true rfl⟩ (Nat.le_of_ble_eq_true rfl) (fun h hR hs => ?_)
          refine aw_aload_n dX5_calm_57 rfl ?_
          refine mm_call dX5_calm_58 sX5_461 rfl hW hR hs (mm_allEnvies hn (by simp only [mm_n_N, mm_n_A, mm_n_V, mm_n_Fp, mm_n_W, mm_n_Nm, mm_a_N, mm_a_A, mm_a_V, mm_a_Fp, mm_a_W, mm_a_Nm, mm_v_N, mm_v_A, mm_v_V, mm_fp_N, mm_fp_A, mm_fp_Fp, mm_w_N, mm_w_W, Nat.reduceEqDiff, reduceIte, if_true, if_false, mm_H_45, mm_H_46, mm_H_47, mm_H_50, mm_H_53, mm_H_54, mm_H_55, mm_H_56, mm_H_57, mm_H_58, mm_H_66, mm_H_67, mm_H_68]; exact sp_swap_lt (by omega) (by omega) hh) how) rfl rfl ⟨Nat.le_of_ble_eq_true rfl, Nat.le_of_ble_eq_true rfl⟩ (Nat.le_of_ble_eq_true rfl) (fun h hR hs => ?_)
          try simp only [mm_n_N, mm_n_A, mm_n_V, mm_n_Fp, mm_n_W, mm_n_Nm, mm_a_N, mm_a_A, mm_a_V, mm_a_Fp, mm_a_W, mm_a_Nm, mm_v_N, mm_v_A, mm_v_V, mm_fp_N, mm_fp_A, mm_fp_Fp, mm_w_N, mm_w_W, Nat.reduceEqDiff, reduceIte, if_true, if_false, mm_H_45, mm_H_46, mm_H_47, mm_H_50, mm_H_53, mm_H_54, mm_H_55, mm_H_56, mm_H_57, mm_H_58, mm_H_66, mm_H_67, mm_H_68]
          refine aw_istore dX5_calm_61 (by decide) rfl rfl ?_
          refine aw_aload_n dX5_calm_63 rfl ?_
          refine aw_iload dX5_calm_64 rfl ?_
          refine aw_iload dX5_calm_66 rfl ?_
          refine mm_call dX5_calm_68 sX5_464 rfl hW hR hs (mm_changeHomes (by omega) (by omega)) rfl rfl ⟨Nat.le_of_ble_eq_true rfl, Nat.le_of_ble_eq_true rfl⟩ (Nat.le_of_ble_eq_true rfl) (fun h hR hs => ?_)
          refine main h 0 (mm_eq hR ?_) hs
          simp only [mm_n_N, mm_n_A, mm_n_V, mm_n_Fp, mm_n_W, mm_n_Nm, mm_a_N, mm_a_A, mm_a_V, mm_a_Fp, mm_a_W, mm_a_Nm, mm_v_N, mm_v_A, mm_v_V, mm_fp_N, mm_fp_A, mm_fp_Fp, mm_w_N, mm_w_W, Nat.reduceEqDiff, reduceIte, if_true, if_false, mm_H_45, mm_H_46, mm_H_47, mm_H_50, mm_H_53, mm_H_54, mm_H_55, mm_H_56, mm_H_57, mm_H_58, mm_H_66, mm_H_67, mm_H_68, mm_A_A]
          rw [sp_swap_swap (show a ≠ a + 1 + k by omega)]
        ·
          refine aw_iload dX5_calm_40 rfl ?_
          refine aw_aload_n dX5_calm_42 rfl ?_
          refine aw_get dX5_calm_43 fX5_350 rfl hR.1 (by rfl) ?_
          try simp only [mm_n_N, mm_n_A, mm_n_V, mm_n_Fp, mm_n_W, mm_n_Nm, mm_a_N, mm_a_A, mm_a_V, mm_a_Fp, mm_a_W, mm_a_Nm, mm_v_N, mm_v_A, mm_v_V, mm_fp_N, mm_fp_A, mm_fp_Fp, mm_w_N, mm_w_W, Nat.reduceEqDiff, reduceIte, if_true, if_false, mm_H_45, mm_H_46, mm_H_47, mm_H_50, mm_H_53, mm_H_54, mm_H_55, mm_H_56, mm_H_57, mm_H_58, mm_H_66, mm_H_67, mm_H_68]
          refine aw_icmp_geN (tgt := 98) dX5_calm_46 (by decide) (by omega) (by omega) (fun c_46 => by exfalso; omega) (fun c_46 => ?_)
          refine aw_aload_n dX5_calm_49 rfl ?_
          refine aw_iload dX5_calm_50 rfl ?_
          refine aw_iload dX5_calm_52 rfl ?_
          refine mm_call dX5_calm_54 sX5_464 rfl hW hR hs (mm_changeHomes (by omega) (by omega)) rfl rfl ⟨Nat.le_of_ble_eq_true rfl, Nat.le_of_ble_eq_true rfl⟩ (Nat.le_of_ble_eq_true rfl) (fun h hR hs => ?_)
          refine aw_aload_n dX5_calm_57 rfl ?_
          refine mm_call dX5_calm_58 sX5_461 rfl hW hR hs (mm_allEnvies hn (by simp only [mm_n_N, mm_n_A, mm_n_V, mm_n_Fp, mm_n_W, mm_n_Nm, mm_a_N, mm_a_A, mm_a_V, mm_a_Fp, mm_a_W, mm_a_Nm, mm_v_N, mm_v_A, mm_v_V, mm_fp_N, mm_fp_A, mm_fp_Fp, mm_w_N, mm_w_W, Nat.reduceEqDiff, reduceIte, if_true, if_false, mm_H_45, mm_H_46, mm_H_47, mm_H_50, mm_H_53, mm_H_54, mm_H_55, mm_H_56, mm_H_57, mm_H_58, mm_H_66, mm_H_67, mm_H_68]; exact sp_swap_lt (by omega) (by omega) hh) how) rfl rfl ⟨Nat.le_of_ble_eq_true rfl, Nat.le_of_ble_eq_true rfl⟩ (Nat.le_of_ble_eq_true rfl) (fun h hR hs => ?_)
          try simp only [mm_n_N, mm_n_A, mm_n_V, mm_n_Fp, mm_n_W, mm_n_Nm, mm_a_N, mm_a_A, mm_a_V, mm_a_Fp, mm_a_W, mm_a_Nm, mm_v_N, mm_v_A, mm_v_V, mm_fp_N, mm_fp_A, mm_fp_Fp, mm_w_N, mm_w_W, Nat.reduceEqDiff, reduceIte, if_true, if_false, mm_H_45, mm_H_46, mm_H_47, mm_H_50, mm_H_53, mm_H_54, mm_H_55, mm_H_56, mm_H_57, mm_H_58, mm_H_66, mm_H_67, mm_H_68]
          refine aw_istore dX5_calm_61 (by decide) rfl rfl ?_
          refine aw_aload_n dX5_calm_63 rfl ?_
          refine aw_iload dX5_calm_64 rfl ?_
          refine aw_iload dX5_calm_66 rfl ?_
          refine mm_call dX5_calm_68 sX5_464 rfl hW hR hs (mm_changeHomes (by omega) (by omega)) rfl rfl ⟨Nat.le_of_ble_eq_true rfl, Nat.le_of_ble_eq_true rfl⟩ (Nat.le_of_ble_eq_true rfl) (fun h hR hs => ?_)
          exact main h 0 (mm_eq hR (by simp only [mm_n_N, mm_n_A, mm_n_V, mm_n_Fp, mm_n_W, mm_n_Nm, mm_a_N, mm_a_A, mm_a_V, mm_a_Fp, mm_a_W, mm_a_Nm, mm_v_N, mm_v_A, mm_v_V, mm_fp_N, mm_fp_A, mm_fp_Fp, mm_w_N, mm_w_W, Nat.reduceEqDiff, reduceIte, if_true, if_false, mm_H_45, mm_H_46, mm_H_47, mm_H_50, mm_H_53, mm_H_54, mm_H_55, mm_H_56, mm_H_57, mm_H_58, mm_H_66, mm_H_67, mm_H_68, mm_A_A]; rw [sp_swap_swap (show a ≠ a + 1 + k by omega)])) hs
      · rcases hls with rfl | ⟨z, rfl⟩
        ·
          refine aw_iload dX5_calm_40 rfl ?_
          refine aw_aload_n dX5_calm_42 rfl ?_
          refine aw_get dX5_calm_43 fX5_350 rfl hR.1 (by rfl) ?_
          try simp only [mm_n_N, mm_n_A, mm_n_V, mm_n_Fp, mm_n_W, mm_n_Nm, mm_a_N, mm_a_A, mm_a_V, mm_a_Fp, mm_a_W, mm_a_Nm, mm_v_N, mm_v_A, mm_v_V, mm_fp_N, mm_fp_A, mm_fp_Fp, mm_w_N, mm_w_W, Nat.reduceEqDiff, reduceIte, if_true, if_false, mm_H_45, mm_H_46, mm_H_47, mm_H_50, mm_H_53, mm_H_54, mm_H_55, mm_H_56, mm_H_57, mm_H_58, mm_H_66, mm_H_67, mm_H_68]
          refine aw_icmp_geN (tgt := 98) dX5_calm_46 (by decide) (by omega) (by omega) (fun c_46 => ?_) (fun c_46 => by exfalso; omega)
          exact AW_ls (by rw [show k = mm_n s 42 - 1 - a by omega]) (hgo h _ _ hR hs (Or.inl rfl))
        ·
          refine aw_iload dX5_calm_40 rfl ?_
          refine aw_aload_n dX5_calm_42 rfl ?_
          refine aw_get dX5_calm_43 fX5_350 rfl hR.1 (by rfl) ?_
          try simp only [mm_n_N, mm_n_A, mm_n_V, mm_n_Fp, mm_n_W, mm_n_Nm, mm_a_N, mm_a_A, mm_a_V, mm_a_Fp, mm_a_W, mm_a_Nm, mm_v_N, mm_v_A, mm_v_V, mm_fp_N, mm_fp_A, mm_fp_Fp, mm_w_N, mm_w_W, Nat.reduceEqDiff, reduceIte, if_true, if_false, mm_H_45, mm_H_46, mm_H_47, mm_H_50, mm_H_53, mm_H_54, mm_H_55, mm_H_56, mm_H_57, mm_H_58, mm_H_66, mm_H_67, mm_H_68]
          refine aw_icmp_geN (tgt := 98) dX5_calm_46 (by decide) (by omega) (by omega) (fun c_46 => ?_) (fun c_46 => by exfalso; omega)
          exact AW_ls (by rw [show k = mm_n s 42 - 1 - a by omega]) (hgo h _ _ hR hs (Or.inr ⟨z, rfl⟩))
  have outer : 0 ≤ q.toInt ∧ q.toInt ≤ 2 → ∀ (m k : Nat) (h : aw_H) (lsx : List (Nat × Value)), (lsx = [] ∨ ∃ b, (lsx = [(5, .int (nI b))] ∨ ∃ z, lsx = [(5, .int (nI b)), (6, .int z)])) → mm_n s 42 - k = m → k ≤ mm_n s 42 → mm_R G w h (mm_setA s 57 (mm_home s)) → mm_same w h0 h → AW G (aw_rm 2 0 0) yX5_calm cX5_calm 7 (some .int) (aw_N G (mm_PoC G w h0 (some (.int (op_calm (mm_H s) q))) s) 0 0) 0 0 h 25 ((0, .ref w.1) :: (1, .int q) :: (2, .int (nI (sp_co (mm_H s) k (0, sp_envs (mm_H s) (sp_lv (mm_H s)))).2)) :: (3, .int (sp_cv (sp_co (mm_H s) k (0, sp_envs (mm_H s) (sp_lv (mm_H s)))).1)) :: (4, .int (nI k)) :: lsx) [] := by
    intro hq m
    induction m using Nat.strongRecOn with
    | _ m ih =>
      intro k h lsx hls hm hk hR hs
      have okp := okC k hk
      have back : k < mm_n s 42 → ∀ (h : aw_H) (b : Nat) (lsx : List (Nat × Value)), mm_R G w h (mm_setA s 57 (mm_home s)) → mm_same w h0 h → (lsx = [] ∨ ∃ z, lsx = [(6, .int z)]) → AW G (aw_rm 2 0 0) yX5_calm cX5_calm 7 (some .int) (aw_N G (mm_PoC G w h0 (some (.int (op_calm (mm_H s) q))) s) 0 0) 0 0 h 98 ((0, .ref w.1) :: (1, .int q) :: (2, .int (nI (sp_ci (mm_H s) k (mm_n s 42 - 1 - k) (sp_co (mm_H s) k (0, sp_envs (mm_H s) (sp_lv (mm_H s))))).2)) :: (3, .int (sp_cv (sp_ci (mm_H s) k (mm_n s 42 - 1 - k) (sp_co (mm_H s) k (0, sp_envs (mm_H s) (sp_lv (mm_H s))))).1)) :: (4, .int (nI k)) :: (5, .int (nI b)) :: lsx) [] := by
        intro hk9 h b lsx hR hs hls
        rcases hls with rfl | ⟨z, rfl⟩
        ·
          refine aw_iincN (b := 1) dX5_calm_98 rfl rfl (by decide) rfl rfl ?_
          refine aw_goto (tgt := 25) dX5_calm_101 (by decide) ?_
          exact ih (mm_n s 42 - (k + 1)) (by omega) (k + 1) h _ (Or.inr ⟨b, Or.inl rfl⟩) rfl (by omega) hR hs
        ·
          refine aw_iincN (b := 1) dX5_calm_98 rfl rfl (by decide) rfl rfl ?_
          refine aw_goto (tgt := 25) dX5_calm_101 (by decide) ?_
          exact ih (mm_n s 42 - (k + 1)) (by omega) (k + 1) h _ (Or.inr ⟨b, Or.inr ⟨z, rfl⟩⟩) rfl (by omega) hR hs
      rcases hls with rfl | ⟨b, rfl | ⟨z, rfl⟩⟩
      ·
        refine aw_iload dX5_calm_25 rfl ?_
        refine aw_aload_n dX5_calm_27 rfl ?_
        refine aw_get dX5_calm_28 fX5_350 rfl hR.1 (by rfl) ?_
        try simp only [mm_n_N, mm_n_A, mm_n_V, mm_n_Fp, mm_n_W, mm_n_Nm, mm_a_N, mm_a_A, mm_a_V, mm_a_Fp, mm_a_W, mm_a_Nm, mm_v_N, mm_v_A, mm_v_V, mm_fp_N, mm_fp_A, mm_fp_Fp, mm_w_N, mm_w_W, Nat.reduceEqDiff, reduceIte, if_true, if_false, mm_H_45, mm_H_46, mm_H_47, mm_H_50, mm_H_53, mm_H_54, mm_H_55, mm_H_56, mm_H_57, mm_H_58, mm_H_66, mm_H_67, mm_H_68]
        refine aw_icmp_geN (tgt := 104) dX5_calm_31 (by decide) (by omega) (by omega) (fun c_31 => ?_) (fun c_31 => ?_)
        · exact fin h _ _ hq (by rw [sp_calm, h42, show k = mm_n s 42 by omega]) hR hs
        · refine aw_iload dX5_calm_34 rfl ?_
          refine aw_iconst (v := nI 1) dX5_calm_36 rfl ?_
          refine aw_iaddN dX5_calm_37 ?_
          refine aw_istore dX5_calm_38 (by decide) rfl rfl ?_
          exact inner k _ okp (by omega) hq (back (by omega)) _ 0 h _ (Or.inl rfl) rfl (Nat.zero_le _) hR hs
      ·
        refine aw_iload dX5_calm_25 rfl ?_
        refine aw_aload_n dX5_calm_27 rfl ?_
        refine aw_get dX5_calm_28 fX5_350 rfl hR.1 (by rfl) ?_
        try simp only [mm_n_N, mm_n_A, mm_n_V, mm_n_Fp, mm_n_W, mm_n_Nm, mm_a_N, mm_a_A, mm_a_V, mm_a_Fp, mm_a_W, mm_a_Nm, mm_v_N, mm_v_A, mm_v_V, mm_fp_N, mm_fp_A, mm_fp_Fp, mm_w_N, mm_w_W, Nat.reduceEqDiff, reduceIte, if_true, if_false, mm_H_45, mm_H_46, mm_H_47, mm_H_50, mm_H_53, mm_H_54, mm_H_55, mm_H_56, mm_H_57, mm_H_58, mm_H_66, mm_H_67, mm_H_68]
        refine aw_icmp_geN (tgt := 104) dX5_calm_31 (by decide) (by omega) (by omega) (fun c_31 => ?_) (fun c_31 => ?_)
        · exact fin h _ _ hq (by rw [sp_calm, h42, show k = mm_n s 42 by omega]) hR hs
        · refine aw_iload dX5_calm_34 rfl ?_
          refine aw_iconst (v := nI 1) dX5_calm_36 rfl ?_
          refine aw_iaddN dX5_calm_37 ?_
          refine aw_istore dX5_calm_38 (by decide) rfl rfl ?_
          exact inner k _ okp (by omega) hq (back (by omega)) _ 0 h _ (Or.inl rfl) rfl (Nat.zero_le _) hR hs
      ·
        refine aw_iload dX5_calm_25 rfl ?_
        refine aw_aload_n dX5_calm_27 rfl ?_
        refine aw_get dX5_calm_28 fX5_350 rfl hR.1 (by rfl) ?_
        try simp only [mm_n_N, mm_n_A, mm_n_V, mm_n_Fp, mm_n_W, mm_n_Nm, mm_a_N, mm_a_A, mm_a_V, mm_a_Fp, mm_a_W, mm_a_Nm, mm_v_N, mm_v_A, mm_v_V, mm_fp_N, mm_fp_A, mm_fp_Fp, mm_w_N, mm_w_W, Nat.reduceEqDiff, reduceIte, if_true, if_false, mm_H_45, mm_H_46, mm_H_47, mm_H_50, mm_H_53, mm_H_54, mm_H_55, mm_H_56, mm_H_57, mm_H_58, mm_H_66, mm_H_67, mm_H_68]
        refine aw_icmp_geN (tgt := 104) dX5_calm_31 (by decide) (by omega) (by omega) (fun c_31 => ?_) (fun c_31 => ?_)
        · exact fin h _ _ hq (by rw [sp_calm, h42, show k = mm_n s 42 by omega]) hR hs
        · refine aw_iload dX5_calm_34 rfl ?_
          refine aw_iconst (v := nI 1) dX5_calm_36 rfl ?_
          refine aw_iaddN dX5_calm_37 ?_
          refine aw_istore dX5_calm_38 (by decide) rfl rfl ?_
          exact inner k _ okp (by omega) hq (back (by omega)) _ 0 h _ (Or.inr ⟨z, rfl⟩) rfl (Nat.zero_le _) hR hs
  refine aw_iload_n dX5_calm_0 rfl ?_
  refine aw_iconst (v := nI 0) dX5_calm_1 rfl ?_
  refine aw_iconst (v := nI 2) dX5_calm_2 rfl ?_
  refine aw_callP (r := _) dX5_calm_3 sX5_368 rfl (mp_isIn) rfl rfl ⟨Nat.le_of_ble_eq_true rfl, Nat.le_of_ble_eq_true rfl⟩ (Nat.le_of_ble_eq_true rfl) ?_
  refine aw_if_neB (tgt := 11) dX5_calm_6 (by decide) (fun c_6 => ?_) (fun c_6 => ?_)
  · refine aw_aload_n dX5_calm_11 rfl ?_
    refine mm_call dX5_calm_12 sX5_458 rfl hW hR hs (mm_layHomes hn) rfl rfl ⟨Nat.le_of_ble_eq_true rfl, Nat.le_of_ble_eq_true rfl⟩ (Nat.le_of_ble_eq_true rfl) (fun h hR hs => ?_)
    refine aw_aload_n dX5_calm_15 rfl ?_
    refine mm_call dX5_calm_16 sX5_461 rfl hW hR hs (mm_allEnvies hn hh how) rfl rfl ⟨Nat.le_of_ble_eq_true rfl, Nat.le_of_ble_eq_true rfl⟩ (Nat.le_of_ble_eq_true rfl) (fun h hR hs => ?_)
    try simp only [mm_n_N, mm_n_A, mm_n_V, mm_n_Fp, mm_n_W, mm_n_Nm, mm_a_N, mm_a_A, mm_a_V, mm_a_Fp, mm_a_W, mm_a_Nm, mm_v_N, mm_v_A, mm_v_V, mm_fp_N, mm_fp_A, mm_fp_Fp, mm_w_N, mm_w_W, Nat.reduceEqDiff, reduceIte, if_true, if_false, mm_H_45, mm_H_46, mm_H_47, mm_H_50, mm_H_53, mm_H_54, mm_H_55, mm_H_56, mm_H_57, mm_H_58, mm_H_66, mm_H_67, mm_H_68]
    refine aw_istore_n dX5_calm_19 (by decide) rfl rfl ?_
    refine aw_iconst (v := -1) dX5_calm_20 rfl ?_
    refine aw_istore_n dX5_calm_21 (by decide) rfl rfl ?_
    refine aw_iconst (v := nI 0) dX5_calm_22 rfl ?_
    refine aw_istore dX5_calm_23 (by decide) rfl rfl ?_
    refine AW_ls ?_ (outer c_6 (mm_n s 42) 0 h [] (Or.inl rfl) rfl (Nat.zero_le _) hR hs)
    show _ = [(0, Value.ref w.1), (1, .int q), (2, .int (nI (sp_envs (mm_H s) (sp_lv (mm_H s))))), (3, .int (-1)), (4, .int (nI 0))]
    rw [← eH]
    rfl
  · refine aw_iconst (v := -1) dX5_calm_9 rfl ?_
    refine aw_ireturn dX5_calm_10 rfl ?_
    exact ⟨by rw [op_calm, aw_if0 (fun z => c_6 ⟨z.1, z.2.1⟩)], _, mm_core.rf, hR, hs⟩

