set_option maxRecDepth 100000
/-! the model: calls, the first dozen -/
set_option maxHeartbeats 4000000 in
theorem mo_tenant {s : mm_S} {t q : Int32} {N : Nat} (hH : sp_okH (mm_H s)) (hA : sp_okA N (mm_a s 45)) (hN : N ≤ 1000000) : mm_Op yX5_tenant cX5_tenant 3 (some .int) 3 [.int (t), .int (q)] s (some (.int (op_tenant (mm_H s) (mm_a s 45) t q))) (s) := by
  refine mm_Op.of (by decide +kernel) (fun _ => Nat.le_of_ble_eq_true rfl) (fun G w h0 hW hR => ?_)
  have hs : mm_same w h0 h0 := mm_same.rf
  show AW G (aw_rm 3 0 0) yX5_tenant cX5_tenant 3 (some .int) (aw_N G (mm_PoC G w h0 (some (.int (op_tenant (mm_H s) (mm_a s 45) t q))) (s)) 0 0) 0 0 h0 0 [(0, .ref w.1), (1, .int (t)), (2, .int (q))] []
  have hs1 : 1 ≤ mm_n s 41 := hH.1.1; have hs20 : mm_n s 41 ≤ 20 := hH.1.2; have hn : mm_n s 42 ≤ 8 := hH.2.1; have hlv : ∀ t, t < 8 → mm_a s 32 t ≤ 20 := fun t ht => (hH.2.2.1 t ht).1; have hsg : ∀ t, t < 8 → mm_a s 33 t ≤ 40 := fun t ht => (hH.2.2.1 t ht).2.1; have hhv : ∀ t, t < 8 → mm_a s 34 t ≤ 9 := fun t ht => (hH.2.2.1 t ht).2.2.1; have how : ∀ t, t < 8 → mm_a s 35 t ≤ 999 := fun t ht => (hH.2.2.1 t ht).2.2.2.1; have hfl : ∀ t, t < 8 → mm_a s 36 t ≤ 100 := fun t ht => (hH.2.2.1 t ht).2.2.2.2; have hF0 : sp_fok (mm_steps s 0) := hH.2.2.2.1; have hF1 : sp_fok (mm_steps s 1) := hH.2.2.2.2; have h42 : sp_hn (mm_H s) = mm_n s 42 := rfl; have h41 : sp_hs (mm_H s) = mm_n s 41 := rfl
  have hb : ∀ t, t < 8 → mm_a s 45 t ≤ 40 := fun t ht => (hA.1 t ht).1; have hp : ∀ t, t < 8 → mm_a s 45 (8 + t) ≤ 9999 := fun t ht => (hA.1 t ht).2.1; have hd : ∀ t, t < 8 → mm_a s 45 (16 + t) ≤ N := fun t ht => (hA.1 t ht).2.2; have h24 : mm_a s 45 24 ≤ N := hA.2.1; have h25 : mm_a s 45 25 ≤ 20 := hA.2.2.1; have h26 : mm_a s 45 26 ≤ N := hA.2.2.2.1; have h27 : mm_a s 45 27 ≤ 999 := hA.2.2.2.2; have hD : ∀ t, t < 8 → sp_due (mm_H s) (mm_a s 45) t < 2147483648 := fun t ht => by (show mm_a s 35 t + mm_a s 45 (16 + t) < 2147483648); (have q1 := how t ht); (have q2 := hd t ht); omega
  refine aw_aload_n dX5_tenant_0 rfl ?_
  refine aw_iload_n dX5_tenant_1 rfl ?_
  refine mm_call dX5_tenant_2 sX5_382 rfl hW hR hs (mm_isTenant hn) rfl rfl ⟨Nat.le_of_ble_eq_true rfl, Nat.le_of_ble_eq_true rfl⟩ (Nat.le_of_ble_eq_true rfl) (fun h hR hs => ?_)
  refine aw_if_neB (tgt := 10) dX5_tenant_5 (by decide) (fun c_5 => ?_) (fun c_5 => ?_)
  · obtain ⟨t', ht, rfl, t1, t2⟩ := aw_ofN c_5.1
    have ht8 : t' < 8 := by omega
    have eT : sp_isT (mm_H s) (nI t') := c_5
    refine aw_aload_n dX5_tenant_10 rfl ?_
    refine mm_call dX5_tenant_11 sX5_394 rfl hW hR hs (mm_load) rfl rfl ⟨Nat.le_of_ble_eq_true rfl, Nat.le_of_ble_eq_true rfl⟩ (Nat.le_of_ble_eq_true rfl) (fun h hR hs => ?_)
    refine aw_iload_n dX5_tenant_14 rfl ?_
    by_cases e_0 : q = nI 0
    · subst e_0
      refine aw_tableIn (off := 49) (tgt := 64) dX5_tenant_15 (by decide) (by decide) (by decide) (by decide) ?_
      refine aw_aload_n dX5_tenant_64 rfl ?_
      refine aw_get dX5_tenant_65 fX5_67 rfl hR.1 (by rfl) ?_
      refine aw_iload_n dX5_tenant_68 rfl ?_
      refine aw_ialdN dX5_tenant_69 (hR.2.1 32 8 rfl) (by omega) (by decide) ?_
      refine aw_ireturn dX5_tenant_70 rfl ?_
      refine ⟨?_, _, mm_core.A rfl mm_core.rf, hR, hs⟩
      rw [op_tenant, aw_if1 eT, t2]
      rfl
    by_cases e_1 : q = nI 1
    · subst e_1
      refine aw_tableIn (off := 56) (tgt := 71) dX5_tenant_15 (by decide) (by decide) (by decide) (by decide) ?_
      refine aw_aload_n dX5_tenant_71 rfl ?_
      refine aw_get dX5_tenant_72 fX5_70 rfl hR.1 (by rfl) ?_
      refine aw_iload_n dX5_tenant_75 rfl ?_
      refine aw_ialdN dX5_tenant_76 (hR.2.1 33 8 rfl) (by omega) (by decide) ?_
      refine aw_ireturn dX5_tenant_77 rfl ?_
      refine ⟨?_, _, mm_core.A rfl mm_core.rf, hR, hs⟩
      rw [op_tenant, aw_if1 eT, t2]
      rfl
    by_cases e_2 : q = nI 2
    · subst e_2
      refine aw_tableIn (off := 63) (tgt := 78) dX5_tenant_15 (by decide) (by decide) (by decide) (by decide) ?_
      refine aw_aload_n dX5_tenant_78 rfl ?_
      refine aw_get dX5_tenant_79 fX5_73 rfl hR.1 (by rfl) ?_
      refine aw_iload_n dX5_tenant_82 rfl ?_
      refine aw_ialdN dX5_tenant_83 (hR.2.1 34 8 rfl) (by omega) (by decide) ?_
      refine aw_ireturn dX5_tenant_84 rfl ?_
      refine ⟨?_, _, mm_core.A rfl mm_core.rf, hR, hs⟩
      rw [op_tenant, aw_if1 eT, t2]
      rfl
    by_cases e_3 : q = nI 3
    · subst e_3
      refine aw_tableIn (off := 70) (tgt := 85) dX5_tenant_15 (by decide) (by decide) (by decide) (by decide) ?_
      refine aw_aload_n dX5_tenant_85 rfl ?_
      refine aw_get dX5_tenant_86 fX5_76 rfl hR.1 (by rfl) ?_
      refine aw_iload_n dX5_tenant_89 rfl ?_
      refine aw_ialdN dX5_tenant_90 (hR.2.1 35 8 rfl) (by omega) (by decide) ?_
      refine aw_ireturn dX5_tenant_91 rfl ?_
      refine ⟨?_, _, mm_core.A rfl mm_core.rf, hR, hs⟩
      rw [op_tenant, aw_if1 eT, t2]
      rfl
    by_cases e_4 : q = nI 4
    · subst e_4
      refine aw_tableIn (off := 77) (tgt := 92) dX5_tenant_15 (by decide) (by decide) (by decide) (by decide) ?_
      refine aw_aload_n dX5_tenant_92 rfl ?_
      refine aw_get dX5_tenant_93 fX5_79 rfl hR.1 (by rfl) ?_
      refine aw_iload_n dX5_tenant_96 rfl ?_
      refine aw_ialdN dX5_tenant_97 (hR.2.1 36 8 rfl) (by omega) (by decide) ?_
      refine aw_ireturn dX5_tenant_98 rfl ?_
      refine ⟨?_, _, mm_core.A rfl mm_core.rf, hR, hs⟩
      rw [op_tenant, aw_if1 eT, t2]
      rfl
    by_cases e_5 : q = nI 5
    · subst e_5
      refine aw_tableIn (off := 84) (tgt := 99) dX5_tenant_15 (by decide) (by decide) (by decide) (by decide) ?_
      refine aw_aload_n dX5_tenant_99 rfl ?_
      refine aw_get dX5_tenant_100 fX5_88 rfl hR.1 (by rfl) ?_
      refine aw_iload_n dX5_tenant_103 rfl ?_
      refine aw_ialdN dX5_tenant_104 (hR.2.1 46 28 rfl) (by omega) (by decide) ?_
      refine aw_ireturn dX5_tenant_105 rfl ?_
      refine ⟨?_, _, mm_core.A rfl mm_core.rf, hR, hs⟩
      rw [op_tenant, aw_if1 eT, t2]
      rfl
    by_cases e_6 : q = nI 6
    · subst e_6
      refine aw_tableIn (off := 91) (tgt := 106) dX5_tenant_15 (by decide) (by decide) (by decide) (by decide) ?_
      refine aw_aload_n dX5_tenant_106 rfl ?_
      refine aw_get dX5_tenant_107 fX5_88 rfl hR.1 (by rfl) ?_
      refine aw_bipush (v := nI 8) dX5_tenant_110 rfl ?_
      refine aw_iload_n dX5_tenant_112 rfl ?_
      refine aw_iaddN dX5_tenant_113 ?_
      refine aw_ialdN dX5_tenant_114 (hR.2.1 46 28 rfl) (by omega) (by decide) ?_
      refine aw_ireturn dX5_tenant_115 rfl ?_
      refine ⟨?_, _, mm_core.A rfl mm_core.rf, hR, hs⟩
      rw [op_tenant, aw_if1 eT, t2]
      rfl
    by_cases e_7 : q = nI 7
    · subst e_7
      refine aw_tableIn (off := 101) (tgt := 116) dX5_tenant_15 (by decide) (by decide) (by decide) (by decide) ?_
      refine aw_aload_n dX5_tenant_116 rfl ?_
      refine aw_get dX5_tenant_117 fX5_88 rfl hR.1 (by rfl) ?_
      refine aw_bipush (v := nI 16) dX5_tenant_120 rfl ?_
      refine aw_iload_n dX5_tenant_122 rfl ?_
      refine aw_iaddN dX5_tenant_123 ?_
      refine aw_ialdN dX5_tenant_124 (hR.2.1 46 28 rfl) (by omega) (by decide) ?_
      refine aw_ireturn dX5_tenant_125 rfl ?_
      refine ⟨?_, _, mm_core.A rfl mm_core.rf, hR, hs⟩
      rw [op_tenant, aw_if1 eT, t2]
      rfl
    by_cases e_8 : q = nI 8
    · subst e_8
      refine aw_tableIn (off := 111) (tgt := 126) dX5_tenant_15 (by decide) (by decide) (by decide) (by decide) ?_
      refine aw_aload_n dX5_tenant_126 rfl ?_
      refine aw_iload_n dX5_tenant_127 rfl ?_
      refine mm_call dX5_tenant_128 sX5_397 rfl hW hR hs (mm_lackOf ht8 (hD t' ht8) (show mm_a s 45 (8 + t') < 2147483648 by have := hp t' ht8; omega)) rfl rfl ⟨Nat.le_of_ble_eq_true rfl, Nat.le_of_ble_eq_true rfl⟩ (Nat.le_of_ble_eq_true rfl) (fun h hR hs => ?_)
      refine aw_ireturn dX5_tenant_131 rfl ?_
      refine ⟨?_, _, mm_core.A rfl mm_core.rf, hR, hs⟩
      rw [op_tenant, aw_if1 eT, t2]
      rfl
    refine aw_tableOut (tgt := 132) dX5_tenant_15 (by have q0 := lv_neT e_0 (a := 0) (by decide); have q1 := lv_neT e_1 (a := 1) (by decide); have q2 := lv_neT e_2 (a := 2) (by decide); have q3 := lv_neT e_3 (a := 3) (by decide); have q4 := lv_neT e_4 (a := 4) (by decide); have q5 := lv_neT e_5 (a := 5) (by decide); have q6 := lv_neT e_6 (a := 6) (by decide); have q7 := lv_neT e_7 (a := 7) (by decide); have q8 := lv_neT e_8 (a := 8) (by decide); omega) (by decide) ?_
    refine aw_iconst (v := -1) dX5_tenant_132 rfl ?_
    refine aw_ireturn dX5_tenant_133 rfl ?_
    refine ⟨?_, _, mm_core.A rfl mm_core.rf, hR, hs⟩
    rw [op_tenant, aw_if1 eT, if_neg (lv_neT e_0 (a := 0) rfl), if_neg (lv_neT e_1 (a := 1) rfl), if_neg (lv_neT e_2 (a := 2) rfl), if_neg (lv_neT e_3 (a := 3) rfl), if_neg (lv_neT e_4 (a := 4) rfl), if_neg (lv_neT e_5 (a := 5) rfl), if_neg (lv_neT e_6 (a := 6) rfl), if_neg (lv_neT e_7 (a := 7) rfl), if_neg (lv_neT e_8 (a := 8) rfl)]
  · refine aw_iconst (v := -1) dX5_tenant_8 rfl ?_
    refine aw_ireturn dX5_tenant_9 rfl ?_
    exact ⟨by rw [op_tenant, aw_if0 (show ¬ sp_isT (mm_H s) t from c_5)], _, mm_core.rf, hR, hs⟩
set_option maxHeartbeats 4000000 in
theorem mo_worth {s : mm_S} {t a c nt q : Int32} {N : Nat} (hH : sp_okH (mm_H s)) (hA : sp_okA N (mm_a s 45)) (hN : N ≤ 1000000) : mm_Op yX5_worth cX5_worth 6 (some .int) 4 [.int (t), .int (a), .int (c), .int (nt), .int (q)] s (some (.int (op_worth (mm_H s) (mm_a s 45) t a c nt q))) (s) := by
  refine mm_Op.of (by decide +kernel) (fun _ => Nat.le_of_ble_eq_true rfl) (fun G w h0 hW hR => ?_)
  have hs : mm_same w h0 h0 := mm_same.rf
  show AW G (aw_rm 4 0 0) yX5_worth cX5_worth 6 (some .int) (aw_N G (mm_PoC G w h0 (some (.int (op_worth (mm_H s) (mm_a s 45) t a c nt q))) (s)) 0 0) 0 0 h0 0 [(0, .ref w.1), (1, .int (t)), (2, .int (a)), (3, .int (c)), (4, .int (nt)), (5, .int (q))] []
  have hs1 : 1 ≤ mm_n s 41 := hH.1.1; have hs20 : mm_n s 41 ≤ 20 := hH.1.2; have hn : mm_n s 42 ≤ 8 := hH.2.1; have hlv : ∀ t, t < 8 → mm_a s 32 t ≤ 20 := fun t ht => (hH.2.2.1 t ht).1; have hsg : ∀ t, t < 8 → mm_a s 33 t ≤ 40 := fun t ht => (hH.2.2.1 t ht).2.1; have hhv : ∀ t, t < 8 → mm_a s 34 t ≤ 9 := fun t ht => (hH.2.2.1 t ht).2.2.1; have how : ∀ t, t < 8 → mm_a s 35 t ≤ 999 := fun t ht => (hH.2.2.1 t ht).2.2.2.1; have hfl : ∀ t, t < 8 → mm_a s 36 t ≤ 100 := fun t ht => (hH.2.2.1 t ht).2.2.2.2; have hF0 : sp_fok (mm_steps s 0) := hH.2.2.2.1; have hF1 : sp_fok (mm_steps s 1) := hH.2.2.2.2; have h42 : sp_hn (mm_H s) = mm_n s 42 := rfl; have h41 : sp_hs (mm_H s) = mm_n s 41 := rfl
  have hb : ∀ t, t < 8 → mm_a s 45 t ≤ 40 := fun t ht => (hA.1 t ht).1; have hp : ∀ t, t < 8 → mm_a s 45 (8 + t) ≤ 9999 := fun t ht => (hA.1 t ht).2.1; have hd : ∀ t, t < 8 → mm_a s 45 (16 + t) ≤ N := fun t ht => (hA.1 t ht).2.2; have h24 : mm_a s 45 24 ≤ N := hA.2.1; have h25 : mm_a s 45 25 ≤ 20 := hA.2.2.1; have h26 : mm_a s 45 26 ≤ N := hA.2.2.2.1; have h27 : mm_a s 45 27 ≤ 999 := hA.2.2.2.2; have hD : ∀ t, t < 8 → sp_due (mm_H s) (mm_a s 45) t < 2147483648 := fun t ht => by (show mm_a s 35 t + mm_a s 45 (16 + t) < 2147483648); (have q1 := how t ht); (have q2 := hd t ht); omega
  have go : ∀ h, sp_can (mm_H s) (mm_a s 45) t a c nt → (0 ≤ q.toInt ∧ q.toInt ≤ 1) → mm_R G w h (mm_setA s 46 (mm_a s 45)) → mm_same w h0 h → AW G (aw_rm 4 0 0) yX5_worth cX5_worth 6 (some .int) (aw_N G (mm_PoC G w h0 (some (.int (op_worth (mm_H s) (mm_a s 45) t a c nt q))) (s)) 0 0) 0 0 h 28 [(0, .ref w.1), (1, .int t), (2, .int a), (3, .int c), (4, .int nt), (5, .int q)] [] := by
    intro h hc hq hR hs
    obtain ⟨q', hq', eq, q1, q2⟩ := aw_ofN (x := q) hq.1
    have hc9 := hc
    obtain ⟨t', a', c', n', rfl, rfl, rfl, rfl, g1, g2, g3, g4, g5, g6, g7, e1, e2, e3, e4⟩ := sp_can_nat hn hs20 hc9
    have hc8 : c' ≤ 8 := by omega
    have fin : op_worth (mm_H s) (mm_a s 45) (nI t') (nI a') (sp_cv c') (nI n') q = if q' = 0 then nI (sp_cnt (mm_H s) (mm_a s 45) a' (sp_hvc (mm_H s) c') n') else nI (a' * sp_brc (mm_H s) c') := by
      rw [op_worth, aw_if1 ⟨hc, hq⟩, e2, e3, e4]
      by_cases z : q' = 0
      · rw [if_pos z, if_pos (by omega)]
      · rw [if_neg z, if_neg (by omega)]
    subst eq
    refine aw_iload dX5_worth_28 rfl ?_
    refine aw_if_neN (tgt := 44) dX5_worth_30 (by decide) (by omega) (fun c_30 => ?_) (fun c_30 => ?_)
    · refine aw_aload_n dX5_worth_44 rfl ?_
      refine aw_iload_n dX5_worth_45 rfl ?_
      refine aw_iload_n dX5_worth_46 rfl ?_
      refine mm_call dX5_worth_47 sX5_385 rfl hW hR hs (mm_breathFor hc8 hhv) rfl rfl ⟨Nat.le_of_ble_eq_true rfl, Nat.le_of_ble_eq_true rfl⟩ (Nat.le_of_ble_eq_true rfl) (fun h hR hs => ?_)
      try simp only [mm_n_N, mm_n_A, mm_n_V, mm_n_Fp, mm_n_W, mm_n_Nm, mm_a_N, mm_a_A, mm_a_V, mm_a_Fp, mm_a_W, mm_a_Nm, mm_v_N, mm_v_A, mm_v_V, mm_fp_N, mm_fp_A, mm_fp_Fp, mm_w_N, mm_w_W, Nat.reduceEqDiff, reduceIte, if_true, if_false, mm_H_45, mm_H_46, mm_H_47, mm_H_50, mm_H_53, mm_H_54, mm_H_55, mm_H_56, mm_H_57, mm_H_58, mm_H_66, mm_H_67, mm_H_68]
      refine aw_ireturn dX5_worth_50 rfl ?_
      refine ⟨?_, _, mm_core.A rfl mm_core.rf, hR, hs⟩
      rw [fin]
      first | rw [if_neg c_30] | rw [if_pos c_30]
    · refine aw_aload_n dX5_worth_33 rfl ?_
      refine aw_iload_n dX5_worth_34 rfl ?_
      refine aw_iload_n dX5_worth_35 rfl ?_
      refine aw_iload dX5_worth_36 rfl ?_
      refine mm_call dX5_worth_38 sX5_404 rfl hW hR hs (mm_countOf hc8 hF0) rfl rfl ⟨Nat.le_of_ble_eq_true rfl, Nat.le_of_ble_eq_true rfl⟩ (Nat.le_of_ble_eq_true rfl) (fun h hR hs => ?_)
      try simp only [mm_n_N, mm_n_A, mm_n_V, mm_n_Fp, mm_n_W, mm_n_Nm, mm_a_N, mm_a_A, mm_a_V, mm_a_Fp, mm_a_W, mm_a_Nm, mm_v_N, mm_v_A, mm_v_V, mm_fp_N, mm_fp_A, mm_fp_Fp, mm_w_N, mm_w_W, Nat.reduceEqDiff, reduceIte, if_true, if_false, mm_H_45, mm_H_46, mm_H_47, mm_H_50, mm_H_53, mm_H_54, mm_H_55, mm_H_56, mm_H_57, mm_H_58, mm_H_66, mm_H_67, mm_H_68]
      refine aw_goto (tgt := 50) dX5_worth_41 (by decide) ?_
      refine aw_ireturn dX5_worth_50 rfl ?_
      refine ⟨?_, _, mm_core.A rfl mm_core.rf, hR, hs⟩
      rw [fin]
      first | rw [if_neg c_30] | rw [if_pos c_30]
  have no : ¬ (sp_can (mm_H s) (mm_a s 45) t a c nt ∧ 0 ≤ q.toInt ∧ q.toInt ≤ 1) → op_worth (mm_H s) (mm_a s 45) t a c nt q = -1 := fun z => by rw [op_worth, aw_if0 z]
  refine aw_aload_n dX5_worth_0 rfl ?_
  refine mm_call dX5_worth_1 sX5_394 rfl hW hR hs (mm_load) rfl rfl ⟨Nat.le_of_ble_eq_true rfl, Nat.le_of_ble_eq_true rfl⟩ (Nat.le_of_ble_eq_true rfl) (fun h hR hs => ?_)
  refine aw_aload_n dX5_worth_4 rfl ?_
  refine aw_iload_n dX5_worth_5 rfl ?_
  refine aw_iload_n dX5_worth_6 rfl ?_
  refine aw_iload_n dX5_worth_7 rfl ?_
  refine aw_iload dX5_worth_8 rfl ?_
  refine mm_call dX5_worth_10 sX5_400 rfl hW hR hs (mm_canClimb (dc := Classical.propDecidable _) hn hs20 hhv hb) rfl rfl ⟨Nat.le_of_ble_eq_true rfl, Nat.le_of_ble_eq_true rfl⟩ (Nat.le_of_ble_eq_true rfl) (fun h hR hs => ?_)
  try simp only [mm_n_N, mm_n_A, mm_n_V, mm_n_Fp, mm_n_W, mm_n_Nm, mm_a_N, mm_a_A, mm_a_V, mm_a_Fp, mm_a_W, mm_a_Nm, mm_v_N, mm_v_A, mm_v_V, mm_fp_N, mm_fp_A, mm_fp_Fp, mm_w_N, mm_w_W, Nat.reduceEqDiff, reduceIte, if_true, if_false, mm_H_45, mm_H_46, mm_H_47, mm_H_50, mm_H_53, mm_H_54, mm_H_55, mm_H_56, mm_H_57, mm_H_58, mm_H_66, mm_H_67, mm_H_68]
  refine aw_if_eqB (tgt := 26) dX5_worth_13 (by decide) (fun c_13 => ?_) (fun c_13 => ?_)
  · refine aw_iconst (v := -1) dX5_worth_26 rfl ?_
    refine aw_ireturn dX5_worth_27 rfl ?_
    refine ⟨?_, _, mm_core.A rfl mm_core.rf, hR, hs⟩
    rw [no (fun z => by first | exact c_13 z.1 | exact c_23 z.2)]
  · refine aw_iload dX5_worth_16 rfl ?_
    refine aw_iconst (v := nI 0) dX5_worth_18 rfl ?_
    refine aw_iconst (v := nI 1) dX5_worth_19 rfl ?_
    refine aw_callP (r := _) dX5_worth_20 sX5_368 rfl (mp_isIn) rfl rfl ⟨Nat.le_of_ble_eq_true rfl, Nat.le_of_ble_eq_true rfl⟩ (Nat.le_of_ble_eq_true rfl) ?_
    refine aw_if_neB (tgt := 28) dX5_worth_23 (by decide) (fun c_23 => ?_) (fun c_23 => ?_)
    · exact go h c_13 c_23 hR hs
    · refine aw_iconst (v := -1) dX5_worth_26 rfl ?_
      refine aw_ireturn dX5_worth_27 rfl ?_
      refine ⟨?_, _, mm_core.A rfl mm_core.rf, hR, hs⟩
      rw [no (fun z => by first | exact c_13 z.1 | exact c_23 z.2)]
set_option maxHeartbeats 4000000 in
theorem mo_climb {s : mm_S} {t a c nt : Int32} {N : Nat} (hH : sp_okH (mm_H s)) (hA : sp_okA N (mm_a s 45)) (hN : N ≤ 1000000) (ha40 : mm_n s 48 ≤ 40) : mm_Op yX5_climb cX5_climb 6 (some .int) 4 [.int (t), .int (a), .int (c), .int (nt)] s (some (.int (op_climb (mm_H s) (mm_a s 45) t a c nt))) (op_climbS s t a c nt) := by
  refine mm_Op.of (by decide +kernel) (fun _ => Nat.le_of_ble_eq_true rfl) (fun G w h0 hW hR => ?_)
  have hs : mm_same w h0 h0 := mm_same.rf
  show AW G (aw_rm 4 0 0) yX5_climb cX5_climb 6 (some .int) (aw_N G (mm_PoC G w h0 (some (.int (op_climb (mm_H s) (mm_a s 45) t a c nt))) (op_climbS s t a c nt)) 0 0) 0 0 h0 0 [(0, .ref w.1), (1, .int (t)), (2, .int (a)), (3, .int (c)), (4, .int (nt))] []
  have hs1 : 1 ≤ mm_n s 41 := hH.1.1; have hs20 : mm_n s 41 ≤ 20 := hH.1.2; have hn : mm_n s 42 ≤ 8 := hH.2.1; have hlv : ∀ t, t < 8 → mm_a s 32 t ≤ 20 := fun t ht => (hH.2.2.1 t ht).1; have hsg : ∀ t, t < 8 → mm_a s 33 t ≤ 40 := fun t ht => (hH.2.2.1 t ht).2.1; have hhv : ∀ t, t < 8 → mm_a s 34 t ≤ 9 := fun t ht => (hH.2.2.1 t ht).2.2.1; have how : ∀ t, t < 8 → mm_a s 35 t ≤ 999 := fun t ht => (hH.2.2.1 t ht).2.2.2.1; have hfl : ∀ t, t < 8 → mm_a s 36 t ≤ 100 := fun t ht => (hH.2.2.1 t ht).2.2.2.2; have hF0 : sp_fok (mm_steps s 0) := hH.2.2.2.1; have hF1 : sp_fok (mm_steps s 1) := hH.2.2.2.2; have h42 : sp_hn (mm_H s) = mm_n s 42 := rfl; have h41 : sp_hs (mm_H s) = mm_n s 41 := rfl
  have hb : ∀ t, t < 8 → mm_a s 45 t ≤ 40 := fun t ht => (hA.1 t ht).1; have hp : ∀ t, t < 8 → mm_a s 45 (8 + t) ≤ 9999 := fun t ht => (hA.1 t ht).2.1; have hd : ∀ t, t < 8 → mm_a s 45 (16 + t) ≤ N := fun t ht => (hA.1 t ht).2.2; have h24 : mm_a s 45 24 ≤ N := hA.2.1; have h25 : mm_a s 45 25 ≤ 20 := hA.2.2.1; have h26 : mm_a s 45 26 ≤ N := hA.2.2.2.1; have h27 : mm_a s 45 27 ≤ 999 := hA.2.2.2.2; have hD : ∀ t, t < 8 → sp_due (mm_H s) (mm_a s 45) t < 2147483648 := fun t ht => by (show mm_a s 35 t + mm_a s 45 (16 + t) < 2147483648); (have q1 := how t ht); (have q2 := hd t ht); omega
  have go : ∀ h, sp_can (mm_H s) (mm_a s 45) t a c nt → mm_R G w h (mm_setA s 46 (mm_a s 45)) → mm_same w h0 h → AW G (aw_rm 4 0 0) yX5_climb cX5_climb 6 (some .int) (aw_N G (mm_PoC G w h0 (some (.int (op_climb (mm_H s) (mm_a s 45) t a c nt))) (op_climbS s t a c nt)) 0 0) 0 0 h 18 [(0, .ref w.1), (1, .int t), (2, .int a), (3, .int c), (4, .int nt)] [] := by
    intro h hc hR hs
    have hc9 := hc
    obtain ⟨t', a', c', n', et, ea, ec, en, g1, g2, g3, g4, g5, g6, g7, e1, e2, e3, e4⟩ := sp_can_nat hn hs20 hc9
    have hc8 : c' ≤ 8 := by omega
    have ht8 : t' < 8 := by omega
    have hp' := hp t' ht8
    have hfl' := hfl t' ht8
    have fin : op_climb (mm_H s) (mm_a s 45) t a c nt = nI (op_climbN (mm_H s) (mm_a s 45) t' a' c' n') := by rw [op_climb, aw_if1 hc, e1, e2, e3, e4]
    have finS : op_climbS s t a c nt = mm_setA (mm_act s) 45 (op_climbA (mm_H s) (mm_a s 45) t' a' c' n') := by rw [op_climbS, aw_if1 hc, e1, e2, e3, e4]
    obtain ⟨S, hS⟩ : ∃ S, S = mm_act (mm_setA s 46 (mm_a s 45)) := ⟨_, rfl⟩
    have S46 : mm_a S 46 = mm_a s 45 := by rw [hS]; rfl
    have S36 : mm_a S 36 = mm_a s 36 := by rw [hS]; rfl
    have SH : mm_H S = mm_H s := by rw [hS]; rfl
    have S34 : mm_a S 34 = mm_a s 34 := by rw [hS]; rfl
    have SF : mm_steps S 0 = mm_steps s 0 := by rw [hS]; rfl
    have Sc : mm_core (mm_act s) S := by rw [hS]; exact ⟨fun _ _ => rfl, rfl, fun k hk => by
        by_cases z : k = 46
        · subst z; cases hk
        · by_cases z2 : k = 47
          · subst z2; rfl
          · show mm_a (mm_setA s 47 _) k = mm_a (mm_setA (mm_setA s 46 _) 47 _) k
            rw [mm_a_A, mm_a_A, mm_a_A, if_neg z2, if_neg z2, if_neg z], fun _ _ => rfl⟩
    have tail : ∀ (h : aw_H) (its : Nat), its = op_climbN (mm_H s) (mm_a s 45) t' a' c' n' → mm_R G w h (mm_setA S 46 (aw_u (mm_a s 45) 27 (sp_seed (mm_a s 45)))) → mm_same w h0 h → AW G (aw_rm 4 0 0) yX5_climb cX5_climb 6 (some .int) (aw_N G (mm_PoC G w h0 (some (.int (op_climb (mm_H s) (mm_a s 45) t a c nt))) (op_climbS s t a c nt)) 0 0) 0 0 h 78 [(0, .ref w.1), (1, .int (nI t')), (2, .int (nI a')), (3, .int (sp_cv c')), (4, .int (nI n'))] [.int (nI its)] := by
      intro h its hi hR hs
      have hle : its ≤ 999 := by
        rw [hi]
        unfold op_climbN
        split
        · omega
        · exact sp_cnt_le
      refine aw_istore dX5_climb_78 (by decide) rfl rfl ?_
      refine aw_aload_n dX5_climb_80 rfl ?_
      refine aw_iload_n dX5_climb_81 rfl ?_
      refine aw_iload_n dX5_climb_82 rfl ?_
      refine aw_iload_n dX5_climb_83 rfl ?_
      refine aw_iload dX5_climb_84 rfl ?_
      refine mm_call dX5_climb_86 sX5_410 rfl hW hR hs (mm_goClimb ht8 hc8 (by rw [mm_a_A, if_neg (by decide), S34]; exact hhv) (by rw [mm_a_A, if_pos rfl, mm_H_46, SH, aw_u_n (by omega)]; exact g7) (by rw [mm_a_A, if_pos rfl, aw_u_n (by omega)]; omega)) rfl rfl ⟨Nat.le_of_ble_eq_true rfl, Nat.le_of_ble_eq_true rfl⟩ (Nat.le_of_ble_eq_true rfl) (fun h hR hs => ?_)
      refine aw_aload_n dX5_climb_89 rfl ?_
      refine mm_call dX5_climb_90 sX5_414 rfl hW hR hs (mm_keepAir) rfl rfl ⟨Nat.le_of_ble_eq_true rfl, Nat.le_of_ble_eq_true rfl⟩ (Nat.le_of_ble_eq_true rfl) (fun h hR hs => ?_)
      refine aw_iload dX5_climb_93 rfl ?_
      refine aw_ireturn dX5_climb_95 rfl ?_
      refine ⟨by rw [fin, hi], _, ?_, hR, hs⟩
      rw [finS]
      simp only [mm_n_N, mm_n_A, mm_n_V, mm_n_Fp, mm_n_W, mm_n_Nm, mm_a_N, mm_a_A, mm_a_V, mm_a_Fp, mm_a_W, mm_a_Nm, mm_v_N, mm_v_A, mm_v_V, mm_fp_N, mm_fp_A, mm_fp_Fp, mm_w_N, mm_w_W, Nat.reduceEqDiff, reduceIte, if_true, if_false, mm_H_45, mm_H_46, mm_H_47, mm_H_50, mm_H_53, mm_H_54, mm_H_55, mm_H_56, mm_H_57, mm_H_58, mm_H_66, mm_H_67, mm_H_68]
      rw [SH, hi]
      exact mm_core.AA (mm_core.A rfl (mm_core.A rfl Sc))
    refine AW_ls (show _ = [(0, .ref w.1), (1, .int (nI t')), (2, .int (nI a')), (3, .int (sp_cv c')), (4, .int (nI n'))] by rw [← et, ← ea, ← ec, ← en]) ?_
    refine aw_aload_n dX5_climb_18 rfl ?_
    refine mm_call dX5_climb_19 sX5_407 rfl hW hR hs (mm_act_c ha40) rfl rfl ⟨Nat.le_of_ble_eq_true rfl, Nat.le_of_ble_eq_true rfl⟩ (Nat.le_of_ble_eq_true rfl) (fun h hR hs => ?_)
    rw [← hS] at hR
    refine aw_aload_n dX5_climb_22 rfl ?_
    refine aw_get dX5_climb_23 fX5_88 rfl hR.1 (by rfl) ?_
    refine aw_bipush (v := nI 27) dX5_climb_26 rfl ?_
    refine aw_aload_n dX5_climb_28 rfl ?_
    have h27' : mm_a S 46 27 ≤ 999 := by rw [S46]; exact h27
    refine aw_get dX5_climb_29 fX5_88 rfl hR.1 (by rfl) ?_
    refine aw_bipush (v := nI 27) dX5_climb_32 rfl ?_
    refine aw_ialdN dX5_climb_34 (hR.2.1 46 28 rfl) (by omega) (by decide) ?_
    try simp only [mm_n_N, mm_n_A, mm_n_V, mm_n_Fp, mm_n_W, mm_n_Nm, mm_a_N, mm_a_A, mm_a_V, mm_a_Fp, mm_a_W, mm_a_Nm, mm_v_N, mm_v_A, mm_v_V, mm_fp_N, mm_fp_A, mm_fp_Fp, mm_w_N, mm_w_W, Nat.reduceEqDiff, reduceIte, if_true, if_false, mm_H_45, mm_H_46, mm_H_47, mm_H_50, mm_H_53, mm_H_54, mm_H_55, mm_H_56, mm_H_57, mm_H_58, mm_H_66, mm_H_67, mm_H_68]
    refine aw_sipush (v := nI 137) dX5_climb_35 rfl ?_
    refine aw_imulN dX5_climb_38 ?_
    refine aw_bipush (v := nI 71) dX5_climb_39 rfl ?_
    refine aw_iaddN dX5_climb_41 ?_
    refine aw_sipush (v := nI 1000) dX5_climb_42 rfl ?_
    refine aw_iremN dX5_climb_45 (by omega) (by omega) (by omega) ?_
    refine mm_iast (k := 46) rfl hW hR hs dX5_climb_46 (by omega) (by decide) (fun h hR hs => ?_)
    have hR := mm_eq hR (show _ = mm_setA S 46 (aw_u (mm_a s 45) 27 (sp_seed (mm_a s 45))) by rw [S46]; rfl)
    refine aw_aload_n dX5_climb_47 rfl ?_
    refine aw_get dX5_climb_48 fX5_88 rfl hR.1 (by rfl) ?_
    refine aw_bipush (v := nI 27) dX5_climb_51 rfl ?_
    refine aw_ialdN dX5_climb_53 (hR.2.1 46 28 rfl) (by omega) (by decide) ?_
    try simp only [mm_n_N, mm_n_A, mm_n_V, mm_n_Fp, mm_n_W, mm_n_Nm, mm_a_N, mm_a_A, mm_a_V, mm_a_Fp, mm_a_W, mm_a_Nm, mm_v_N, mm_v_A, mm_v_V, mm_fp_N, mm_fp_A, mm_fp_Fp, mm_w_N, mm_w_W, Nat.reduceEqDiff, reduceIte, if_true, if_false, mm_H_45, mm_H_46, mm_H_47, mm_H_50, mm_H_53, mm_H_54, mm_H_55, mm_H_56, mm_H_57, mm_H_58, mm_H_66, mm_H_67, mm_H_68]
    have es : aw_u (mm_a s 45) 27 (sp_seed (mm_a s 45)) 27 = sp_seed (mm_a s 45) := rfl
    have es2 : sp_seed (mm_a s 45) < 1000 := Nat.mod_lt _ (by decide)
    refine aw_bipush (v := nI 100) dX5_climb_54 rfl ?_
    refine aw_iremN dX5_climb_56 (by omega) (by omega) (by omega) ?_
    refine aw_aload_n dX5_climb_57 rfl ?_
    refine aw_get dX5_climb_58 fX5_79 rfl hR.1 (by rfl) ?_
    refine aw_iload_n dX5_climb_61 rfl ?_
    refine aw_ialdN dX5_climb_62 (hR.2.1 36 8 rfl) (by omega) (by decide) ?_
    try simp only [mm_n_N, mm_n_A, mm_n_V, mm_n_Fp, mm_n_W, mm_n_Nm, mm_a_N, mm_a_A, mm_a_V, mm_a_Fp, mm_a_W, mm_a_Nm, mm_v_N, mm_v_A, mm_v_V, mm_fp_N, mm_fp_A, mm_fp_Fp, mm_w_N, mm_w_W, Nat.reduceEqDiff, reduceIte, if_true, if_false, mm_H_45, mm_H_46, mm_H_47, mm_H_50, mm_H_53, mm_H_54, mm_H_55, mm_H_56, mm_H_57, mm_H_58, mm_H_66, mm_H_67, mm_H_68]
    refine aw_icmp_geN (tgt := 70) dX5_climb_63 (by decide) (by first | omega | (rw [S36]; omega)) (by first | omega | (rw [S36]; omega)) (fun c_63 => ?_) (fun c_63 => ?_)
    · refine aw_aload_n dX5_climb_70 rfl ?_
      refine aw_iload_n dX5_climb_71 rfl ?_
      refine aw_iload_n dX5_climb_72 rfl ?_
      refine aw_iload dX5_climb_73 rfl ?_
      refine mm_call dX5_climb_75 sX5_404 rfl hW hR hs (mm_countOf hc8 (by show sp_fok (mm_steps S 0); rw [SF]; exact hF0)) rfl rfl ⟨Nat.le_of_ble_eq_true rfl, Nat.le_of_ble_eq_true rfl⟩ (Nat.le_of_ble_eq_true rfl) (fun h hR hs => ?_)
      try simp only [mm_n_N, mm_n_A, mm_n_V, mm_n_Fp, mm_n_W, mm_n_Nm, mm_a_N, mm_a_A, mm_a_V, mm_a_Fp, mm_a_W, mm_a_Nm, mm_v_N, mm_v_A, mm_v_V, mm_fp_N, mm_fp_A, mm_fp_Fp, mm_w_N, mm_w_W, Nat.reduceEqDiff, reduceIte, if_true, if_false, mm_H_45, mm_H_46, mm_H_47, mm_H_50, mm_H_53, mm_H_54, mm_H_55, mm_H_56, mm_H_57, mm_H_58, mm_H_66, mm_H_67, mm_H_68]
      have e36 : sp_fl (mm_H s) t' = mm_a S 36 t' := by rw [S36]; rfl
      first
        | exact tail h _ (by unfold op_climbN; rw [if_pos (by omega)]) hR hs
        | exact tail h _ (by unfold op_climbN; rw [if_neg (by omega), SH]; rfl) hR hs
    · refine aw_iconst (v := nI 0) dX5_climb_66 rfl ?_
      refine aw_goto (tgt := 78) dX5_climb_67 (by decide) ?_
      have e36 : sp_fl (mm_H s) t' = mm_a S 36 t' := by rw [S36]; rfl
      first
        | exact tail h _ (by unfold op_climbN; rw [if_pos (by omega)]) hR hs
        | exact tail h _ (by unfold op_climbN; rw [if_neg (by omega), SH]; rfl) hR hs
  refine aw_aload_n dX5_climb_0 rfl ?_
  refine mm_call dX5_climb_1 sX5_394 rfl hW hR hs (mm_load) rfl rfl ⟨Nat.le_of_ble_eq_true rfl, Nat.le_of_ble_eq_true rfl⟩ (Nat.le_of_ble_eq_true rfl) (fun h hR hs => ?_)
  refine aw_aload_n dX5_climb_4 rfl ?_
  refine aw_iload_n dX5_climb_5 rfl ?_
  refine aw_iload_n dX5_climb_6 rfl ?_
  refine aw_iload_n dX5_climb_7 rfl ?_
  refine aw_iload dX5_climb_8 rfl ?_
  refine mm_call dX5_climb_10 sX5_400 rfl hW hR hs (mm_canClimb (dc := Classical.propDecidable _) hn hs20 hhv hb) rfl rfl ⟨Nat.le_of_ble_eq_true rfl, Nat.le_of_ble_eq_true rfl⟩ (Nat.le_of_ble_eq_true rfl) (fun h hR hs => ?_)
  try simp only [mm_n_N, mm_n_A, mm_n_V, mm_n_Fp, mm_n_W, mm_n_Nm, mm_a_N, mm_a_A, mm_a_V, mm_a_Fp, mm_a_W, mm_a_Nm, mm_v_N, mm_v_A, mm_v_V, mm_fp_N, mm_fp_A, mm_fp_Fp, mm_w_N, mm_w_W, Nat.reduceEqDiff, reduceIte, if_true, if_false, mm_H_45, mm_H_46, mm_H_47, mm_H_50, mm_H_53, mm_H_54, mm_H_55, mm_H_56, mm_H_57, mm_H_58, mm_H_66, mm_H_67, mm_H_68]
  refine aw_if_neB (tgt := 18) dX5_climb_13 (by decide) (fun c_13 => ?_) (fun c_13 => ?_)
  · exact go h c_13 hR hs
  · refine aw_iconst (v := -1) dX5_climb_16 rfl ?_
    refine aw_ireturn dX5_climb_17 rfl ?_
    have c_13 : ¬ sp_can (mm_H s) (mm_a s 45) t a c nt := c_13
    refine ⟨?_, _, ?_, hR, hs⟩
    · rw [op_climb, aw_if0 c_13]
    · rw [op_climbS, aw_if0 c_13]
      exact mm_core.A rfl mm_core.rf
set_option maxHeartbeats 4000000 in
theorem mo_give {s : mm_S} {t o n : Int32} {N : Nat} (hH : sp_okH (mm_H s)) (hA : sp_okA N (mm_a s 45)) (hN : N ≤ 1000000) (ha40 : mm_n s 48 ≤ 40) : mm_Op yX5_give cX5_give 4 (some .int) 2 [.int (t), .int (o), .int (n)] s (some (.int (op_give (mm_H s) (mm_a s 45) t o n))) (op_giveS s t o n) := by
  refine mm_Op.of (by decide +kernel) (fun _ => Nat.le_of_ble_eq_true rfl) (fun G w h0 hW hR => ?_)
  have hs : mm_same w h0 h0 := mm_same.rf
  show AW G (aw_rm 2 0 0) yX5_give cX5_give 4 (some .int) (aw_N G (mm_PoC G w h0 (some (.int (op_give (mm_H s) (mm_a s 45) t o n))) (op_giveS s t o n)) 0 0) 0 0 h0 0 [(0, .ref w.1), (1, .int (t)), (2, .int (o)), (3, .int (n))] []
  have hs1 : 1 ≤ mm_n s 41 := hH.1.1; have hs20 : mm_n s 41 ≤ 20 := hH.1.2; have hn : mm_n s 42 ≤ 8 := hH.2.1; have hlv : ∀ t, t < 8 → mm_a s 32 t ≤ 20 := fun t ht => (hH.2.2.1 t ht).1; have hsg : ∀ t, t < 8 → mm_a s 33 t ≤ 40 := fun t ht => (hH.2.2.1 t ht).2.1; have hhv : ∀ t, t < 8 → mm_a s 34 t ≤ 9 := fun t ht => (hH.2.2.1 t ht).2.2.1; have how : ∀ t, t < 8 → mm_a s 35 t ≤ 999 := fun t ht => (hH.2.2.1 t ht).2.2.2.1; have hfl : ∀ t, t < 8 → mm_a s 36 t ≤ 100 := fun t ht => (hH.2.2.1 t ht).2.2.2.2; have hF0 : sp_fok (mm_steps s 0) := hH.2.2.2.1; have hF1 : sp_fok (mm_steps s 1) := hH.2.2.2.2; have h42 : sp_hn (mm_H s) = mm_n s 42 := rfl; have h41 : sp_hs (mm_H s) = mm_n s 41 := rfl
  have hb : ∀ t, t < 8 → mm_a s 45 t ≤ 40 := fun t ht => (hA.1 t ht).1; have hp : ∀ t, t < 8 → mm_a s 45 (8 + t) ≤ 9999 := fun t ht => (hA.1 t ht).2.1; have hd : ∀ t, t < 8 → mm_a s 45 (16 + t) ≤ N := fun t ht => (hA.1 t ht).2.2; have h24 : mm_a s 45 24 ≤ N := hA.2.1; have h25 : mm_a s 45 25 ≤ 20 := hA.2.2.1; have h26 : mm_a s 45 26 ≤ N := hA.2.2.2.1; have h27 : mm_a s 45 27 ≤ 999 := hA.2.2.2.2; have hD : ∀ t, t < 8 → sp_due (mm_H s) (mm_a s 45) t < 2147483648 := fun t ht => by (show mm_a s 35 t + mm_a s 45 (16 + t) < 2147483648); (have q1 := how t ht); (have q2 := hd t ht); omega
  have no : ∀ h, mm_R G w h s → mm_same w h0 h → ¬ op_giveP (mm_H s) (mm_a s 45) t o n → mm_PoC G w h0 (some (.int (op_give (mm_H s) (mm_a s 45) t o n))) (op_giveS s t o n) (some (.int (-1))) h := fun h hR hs z => ⟨by rw [op_give, aw_if0 z], s, by rw [op_giveS, aw_if0 z]; exact mm_core.rf, hR, hs⟩
  have go : ∀ h, op_giveP (mm_H s) (mm_a s 45) t o n → mm_R G w h s → mm_same w h0 h → AW G (aw_rm 2 0 0) yX5_give cX5_give 4 (some .int) (aw_N G (mm_PoC G w h0 (some (.int (op_give (mm_H s) (mm_a s 45) t o n))) (op_giveS s t o n)) 0 0) 0 0 h 57 [(0, .ref w.1), (1, .int t), (2, .int o), (3, .int n)] [] := by
    intro h hP hR hs
    have hP9 := hP
    obtain ⟨g1, g2, g3, g4, g5⟩ := hP9
    obtain ⟨t', ht, et, t1, t2⟩ := aw_ofN g1.1
    obtain ⟨o', ho, eo, o1, o2⟩ := aw_ofN g2.1
    obtain ⟨n', hn', en, n1, n2⟩ := aw_ofN (x := n) (by omega)
    have ht8 : t' < 8 := by have := g1.2; omega
    have ho8 : o' < 8 := by have := g2.2; omega
    have hne : o' ≠ t' := fun z => g3 (by rw [et, eo, z])
    rw [t2] at g4
    rw [o2, n2] at g5
    have hp1 := hp t' ht8
    have hp2 := hp o' ho8
    have fin : op_give (mm_H s) (mm_a s 45) t o n = nI (mm_a s 45 (8 + o') + n') := by rw [op_give, aw_if1 hP, o2, n2]
    have finS : op_giveS s t o n = mm_setA (mm_act s) 45 (op_giveA (mm_a s 45) t' o' n') := by rw [op_giveS, aw_if1 hP, t2, o2, n2]
    obtain ⟨S, hS⟩ : ∃ S, S = mm_act s := ⟨_, rfl⟩
    have S45 : mm_a S 45 = mm_a s 45 := by rw [hS]; rfl
    refine AW_ls (show _ = [(0, .ref w.1), (1, .int (nI t')), (2, .int (nI o')), (3, .int (nI n'))] by rw [← et, ← eo, ← en]) ?_
    refine aw_aload_n dX5_give_57 rfl ?_
    refine mm_call dX5_give_58 sX5_407 rfl hW hR hs (mm_act_c ha40) rfl rfl ⟨Nat.le_of_ble_eq_true rfl, Nat.le_of_ble_eq_true rfl⟩ (Nat.le_of_ble_eq_true rfl) (fun h hR hs => ?_)
    rw [← hS] at hR
    refine aw_aload_n dX5_give_61 rfl ?_
    refine aw_get dX5_give_62 fX5_85 rfl hR.1 (by rfl) ?_
    refine aw_bipush (v := nI 8) dX5_give_65 rfl ?_
    refine aw_iload_n dX5_give_67 rfl ?_
    refine aw_iaddN dX5_give_68 ?_
    refine aw_dup2 dX5_give_69 rfl rfl ?_
    refine aw_ialdN dX5_give_70 (hR.2.1 45 28 rfl) (by omega) (by decide) ?_
    try simp only [mm_n_N, mm_n_A, mm_n_V, mm_n_Fp, mm_n_W, mm_n_Nm, mm_a_N, mm_a_A, mm_a_V, mm_a_Fp, mm_a_W, mm_a_Nm, mm_v_N, mm_v_A, mm_v_V, mm_fp_N, mm_fp_A, mm_fp_Fp, mm_w_N, mm_w_W, Nat.reduceEqDiff, reduceIte, if_true, if_false, mm_H_45, mm_H_46, mm_H_47, mm_H_50, mm_H_53, mm_H_54, mm_H_55, mm_H_56, mm_H_57, mm_H_58, mm_H_66, mm_H_67, mm_H_68]
    refine aw_iload_n dX5_give_71 rfl ?_
    refine aw_isubN dX5_give_72 (by rw [S45]; omega) ?_
    refine mm_iast (k := 45) rfl hW hR hs dX5_give_73 (by omega) (by decide) (fun h hR hs => ?_)
    refine aw_aload_n dX5_give_74 rfl ?_
    refine aw_get dX5_give_75 fX5_85 rfl hR.1 (by rfl) ?_
    refine aw_bipush (v := nI 8) dX5_give_78 rfl ?_
    refine aw_iload_n dX5_give_80 rfl ?_
    refine aw_iaddN dX5_give_81 ?_
    refine aw_dup2 dX5_give_82 rfl rfl ?_
    refine aw_ialdN dX5_give_83 (hR.2.1 45 28 rfl) (by omega) (by decide) ?_
    try simp only [mm_n_N, mm_n_A, mm_n_V, mm_n_Fp, mm_n_W, mm_n_Nm, mm_a_N, mm_a_A, mm_a_V, mm_a_Fp, mm_a_W, mm_a_Nm, mm_v_N, mm_v_A, mm_v_V, mm_fp_N, mm_fp_A, mm_fp_Fp, mm_w_N, mm_w_W, Nat.reduceEqDiff, reduceIte, if_true, if_false, mm_H_45, mm_H_46, mm_H_47, mm_H_50, mm_H_53, mm_H_54, mm_H_55, mm_H_56, mm_H_57, mm_H_58, mm_H_66, mm_H_67, mm_H_68]
    refine aw_iload_n dX5_give_84 rfl ?_
    refine aw_iaddN dX5_give_85 ?_
    refine mm_iast (k := 45) rfl hW hR hs dX5_give_86 (by omega) (by decide) (fun h hR hs => ?_)
    have hR := mm_AU hR
    refine aw_aload_n dX5_give_87 rfl ?_
    refine aw_get dX5_give_88 fX5_85 rfl hR.1 (by rfl) ?_
    refine aw_bipush (v := nI 8) dX5_give_91 rfl ?_
    refine aw_iload_n dX5_give_93 rfl ?_
    refine aw_iaddN dX5_give_94 ?_
    refine aw_ialdN dX5_give_95 (hR.2.1 45 28 rfl) (by omega) (by decide) ?_
    try simp only [mm_n_N, mm_n_A, mm_n_V, mm_n_Fp, mm_n_W, mm_n_Nm, mm_a_N, mm_a_A, mm_a_V, mm_a_Fp, mm_a_W, mm_a_Nm, mm_v_N, mm_v_A, mm_v_V, mm_fp_N, mm_fp_A, mm_fp_Fp, mm_w_N, mm_w_W, Nat.reduceEqDiff, reduceIte, if_true, if_false, mm_H_45, mm_H_46, mm_H_47, mm_H_50, mm_H_53, mm_H_54, mm_H_55, mm_H_56, mm_H_57, mm_H_58, mm_H_66, mm_H_67, mm_H_68]
    have e1 : aw_u (aw_u (mm_a S 45) (8 + t') (mm_a S 45 (8 + t') - n')) (8 + o') (aw_u (mm_a S 45) (8 + t') (mm_a S 45 (8 + t') - n') (8 + o') + n') (8 + o') = mm_a s 45 (8 + o') + n' := by rw [aw_u_s, aw_u_n (by omega), S45]
    refine aw_ireturn dX5_give_96 rfl ?_
    refine ⟨by rw [fin, ← e1], _, ?_, hR, hs⟩
    rw [finS, hS]
    refine mm_core.rf.tr ?_
    unfold op_giveA
    rw [aw_u_n (show 8 + o' ≠ 8 + t' by omega)]
    exact mm_core.rf
  have e0 : (nI 1).toInt = 1 := rfl
  have e9 : ∀ k, k < 8 → (nI (mm_a s 45 (8 + k))).toInt = mm_a s 45 (8 + k) := fun k hk => aw_ti (by have := hp k hk; omega)
  refine aw_aload_n dX5_give_0 rfl ?_
  refine aw_iload_n dX5_give_1 rfl ?_
  refine mm_call dX5_give_2 sX5_382 rfl hW hR hs (mm_isTenant hn) rfl rfl ⟨Nat.le_of_ble_eq_true rfl, Nat.le_of_ble_eq_true rfl⟩ (Nat.le_of_ble_eq_true rfl) (fun h hR hs => ?_)
  refine aw_if_eqB (tgt := 55) dX5_give_5 (by decide) (fun c_5 => ?_) (fun c_5 => ?_)
  · refine aw_iconst (v := -1) dX5_give_55 rfl ?_
    refine aw_ireturn dX5_give_56 rfl ?_
    refine no h hR hs (fun z => ?_)
    obtain ⟨z1, z2, z3, z4, z5⟩ := z
    first
      | exact c_5 z1
      | exact c_13 z2
      | (exact z3 (by rw [et, eo, c_18]))
      | (rw [t2] at z4; exact c_35 (by omega))
      | (rw [o2, n2] at z5; omega)
  · refine aw_aload_n dX5_give_8 rfl ?_
    refine aw_iload_n dX5_give_9 rfl ?_
    refine mm_call dX5_give_10 sX5_382 rfl hW hR hs (mm_isTenant hn) rfl rfl ⟨Nat.le_of_ble_eq_true rfl, Nat.le_of_ble_eq_true rfl⟩ (Nat.le_of_ble_eq_true rfl) (fun h hR hs => ?_)
    refine aw_if_eqB (tgt := 55) dX5_give_13 (by decide) (fun c_13 => ?_) (fun c_13 => ?_)
    · refine aw_iconst (v := -1) dX5_give_55 rfl ?_
      refine aw_ireturn dX5_give_56 rfl ?_
      refine no h hR hs (fun z => ?_)
      obtain ⟨z1, z2, z3, z4, z5⟩ := z
      first
        | exact c_5 z1
        | exact c_13 z2
        | (exact z3 (by rw [et, eo, c_18]))
        | (rw [t2] at z4; exact c_35 (by omega))
        | (rw [o2, n2] at z5; omega)
    · obtain ⟨t', ht, et, t1, t2⟩ := aw_ofN c_5.1
      obtain ⟨o', ho, eo, o1, o2⟩ := aw_ofN c_13.1
      have ht8 : t' < 8 := by have := c_5.2; omega
      have ho8 : o' < 8 := by have := c_13.2; omega
      have hp1 := hp t' ht8
      have hp2 := hp o' ho8
      have q9 := e9 t' ht8
      refine AW_ls (show _ = [(0, .ref w.1), (1, .int (nI t')), (2, .int (nI o')), (3, .int n)] by rw [← et, ← eo]) ?_
      refine aw_iload_n dX5_give_16 rfl ?_
      refine aw_iload_n dX5_give_17 rfl ?_
      refine aw_icmp_eqN (tgt := 55) dX5_give_18 (by decide) (by omega) (by omega) (fun c_18 => ?_) (fun c_18 => ?_)
      · refine aw_iconst (v := -1) dX5_give_55 rfl ?_
        refine aw_ireturn dX5_give_56 rfl ?_
        refine no h hR hs (fun z => ?_)
        obtain ⟨z1, z2, z3, z4, z5⟩ := z
        first
          | exact c_5 z1
          | exact c_13 z2
          | (exact z3 (by rw [et, eo, c_18]))
          | (rw [t2] at z4; exact c_35 (by omega))
          | (rw [o2, n2] at z5; omega)
      · refine aw_iload_n dX5_give_21 rfl ?_
        refine aw_iconst (v := nI 1) dX5_give_22 rfl ?_
        refine aw_aload_n dX5_give_23 rfl ?_
        refine aw_get dX5_give_24 fX5_85 rfl hR.1 (by rfl) ?_
        refine aw_bipush (v := nI 8) dX5_give_27 rfl ?_
        refine aw_iload_n dX5_give_29 rfl ?_
        refine aw_iaddN dX5_give_30 ?_
        refine aw_ialdN dX5_give_31 (hR.2.1 45 28 rfl) (by omega) (by decide) ?_
        refine aw_callP (r := _) dX5_give_32 sX5_368 rfl (mp_isIn) rfl rfl ⟨Nat.le_of_ble_eq_true rfl, Nat.le_of_ble_eq_true rfl⟩ (Nat.le_of_ble_eq_true rfl) ?_
        refine aw_if_eqB (tgt := 55) dX5_give_35 (by decide) (fun c_35 => ?_) (fun c_35 => ?_)
        · refine aw_iconst (v := -1) dX5_give_55 rfl ?_
          refine aw_ireturn dX5_give_56 rfl ?_
          refine no h hR hs (fun z => ?_)
          obtain ⟨z1, z2, z3, z4, z5⟩ := z
          first
            | exact c_5 z1
            | exact c_13 z2
            | (exact z3 (by rw [et, eo, c_18]))
            | (rw [t2] at z4; exact c_35 (by omega))
            | (rw [o2, n2] at z5; omega)
        · obtain ⟨n', hn', en, n1, n2⟩ := aw_ofN (x := n) (by omega)
          refine AW_ls (show _ = [(0, .ref w.1), (1, .int (nI t')), (2, .int (nI o')), (3, .int (nI n'))] by rw [← en]) ?_
          refine aw_aload_n dX5_give_38 rfl ?_
          refine aw_get dX5_give_39 fX5_85 rfl hR.1 (by rfl) ?_
          refine aw_bipush (v := nI 8) dX5_give_42 rfl ?_
          refine aw_iload_n dX5_give_44 rfl ?_
          refine aw_iaddN dX5_give_45 ?_
          refine aw_ialdN dX5_give_46 (hR.2.1 45 28 rfl) (by omega) (by decide) ?_
          refine aw_iload_n dX5_give_47 rfl ?_
          refine aw_iaddN dX5_give_48 ?_
          refine aw_sipush (v := nI 9999) dX5_give_49 rfl ?_
          refine aw_icmp_leN (tgt := 57) dX5_give_52 (by decide) (by omega) (by omega) (fun c_52 => ?_) (fun c_52 => ?_)
          · refine AW_ls (show _ = [(0, .ref w.1), (1, .int t), (2, .int o), (3, .int n)] by rw [et, eo, en]) (go h ⟨c_5, c_13, fun z => c_18 ?_, ?_, ?_⟩ hR hs)
            · rw [← t2, ← o2, z]
            · rw [t2]; omega
            · rw [o2, n2]; omega
          · refine aw_iconst (v := -1) dX5_give_55 rfl ?_
            refine aw_ireturn dX5_give_56 rfl ?_
            refine no h hR hs (fun z => ?_)
            obtain ⟨z1, z2, z3, z4, z5⟩ := z
            first
              | exact c_5 z1
              | exact c_13 z2
              | (exact z3 (by rw [et, eo, c_18]))
              | (rw [t2] at z4; exact c_35 (by omega))
              | (rw [o2, n2] at z5; omega)
set_option maxHeartbeats 4000000 in
theorem mo_week {s : mm_S} {N : Nat} (hH : sp_okH (mm_H s)) (hA : sp_okA N (mm_a s 45)) (hN : N ≤ 1000000) (ha40 : mm_n s 48 ≤ 40) : mm_Op yX5_week cX5_week 1 (some .int) 5 [] s (some (.int (op_week (mm_H s) (mm_a s 45)))) (op_weekS s) := by
  refine mm_Op.of (by decide +kernel) (fun _ => Nat.le_of_ble_eq_true rfl) (fun G w h0 hW hR => ?_)
  have hs : mm_same w h0 h0 := mm_same.rf
  show AW G (aw_rm 5 0 0) yX5_week cX5_week 1 (some .int) (aw_N G (mm_PoC G w h0 (some (.int (op_week (mm_H s) (mm_a s 45)))) (op_weekS s)) 0 0) 0 0 h0 0 [(0, .ref w.1)] []
  have hs1 : 1 ≤ mm_n s 41 := hH.1.1; have hs20 : mm_n s 41 ≤ 20 := hH.1.2; have hn : mm_n s 42 ≤ 8 := hH.2.1; have hlv : ∀ t, t < 8 → mm_a s 32 t ≤ 20 := fun t ht => (hH.2.2.1 t ht).1; have hsg : ∀ t, t < 8 → mm_a s 33 t ≤ 40 := fun t ht => (hH.2.2.1 t ht).2.1; have hhv : ∀ t, t < 8 → mm_a s 34 t ≤ 9 := fun t ht => (hH.2.2.1 t ht).2.2.1; have how : ∀ t, t < 8 → mm_a s 35 t ≤ 999 := fun t ht => (hH.2.2.1 t ht).2.2.2.1; have hfl : ∀ t, t < 8 → mm_a s 36 t ≤ 100 := fun t ht => (hH.2.2.1 t ht).2.2.2.2; have hF0 : sp_fok (mm_steps s 0) := hH.2.2.2.1; have hF1 : sp_fok (mm_steps s 1) := hH.2.2.2.2; have h42 : sp_hn (mm_H s) = mm_n s 42 := rfl; have h41 : sp_hs (mm_H s) = mm_n s 41 := rfl
  have hb : ∀ t, t < 8 → mm_a s 45 t ≤ 40 := fun t ht => (hA.1 t ht).1; have hp : ∀ t, t < 8 → mm_a s 45 (8 + t) ≤ 9999 := fun t ht => (hA.1 t ht).2.1; have hd : ∀ t, t < 8 → mm_a s 45 (16 + t) ≤ N := fun t ht => (hA.1 t ht).2.2; have h24 : mm_a s 45 24 ≤ N := hA.2.1; have h25 : mm_a s 45 25 ≤ 20 := hA.2.2.1; have h26 : mm_a s 45 26 ≤ N := hA.2.2.2.1; have h27 : mm_a s 45 27 ≤ 999 := hA.2.2.2.2; have hD : ∀ t, t < 8 → sp_due (mm_H s) (mm_a s 45) t < 2147483648 := fun t ht => by (show mm_a s 35 t + mm_a s 45 (16 + t) < 2147483648); (have q1 := how t ht); (have q2 := hd t ht); omega
  have go : mm_a s 45 26 ≠ 999 → AW G (aw_rm 5 0 0) yX5_week cX5_week 1 (some .int) (aw_N G (mm_PoC G w h0 (some (.int (op_week (mm_H s) (mm_a s 45)))) (op_weekS s)) 0 0) 0 0 h0 15 [(0, .ref w.1)] [] := by
    intro hne
    obtain ⟨S, hS⟩ : ∃ S, S = mm_act s := ⟨_, rfl⟩
    have S45 : mm_a S 45 = mm_a s 45 := by rw [hS]; rfl
    have SH : mm_H S = mm_H s := by rw [hS]; rfl
    refine aw_aload_n dX5_week_15 rfl ?_
    refine mm_call dX5_week_16 sX5_407 rfl hW hR hs (mm_act_c ha40) rfl rfl ⟨Nat.le_of_ble_eq_true rfl, Nat.le_of_ble_eq_true rfl⟩ (Nat.le_of_ble_eq_true rfl) (fun h hR hs => ?_)
    rw [← hS] at hR
    refine aw_aload_n dX5_week_19 rfl ?_
    refine mm_call dX5_week_20 sX5_394 rfl hW hR hs (mm_load) rfl rfl ⟨Nat.le_of_ble_eq_true rfl, Nat.le_of_ble_eq_true rfl⟩ (Nat.le_of_ble_eq_true rfl) (fun h hR hs => ?_)
    rw [S45] at hR
    refine aw_aload_n dX5_week_23 rfl ?_
    refine mm_call dX5_week_24 sX5_417 rfl hW hR hs (mm_goWeek (by rw [hS]; exact hn) (by rw [hS]; show mm_n s 41 < _; omega) (by rw [hS]; exact hF1) (by show mm_a s 45 24 < _; omega) (by show mm_a s 45 26 + 1 < _; omega) (fun t ht => by rw [hS]; show mm_a s 45 (8 + t) < _ ∧ mm_a s 45 (16 + t) + mm_a s 35 t < _; have q1 := hp t ht; have q2 := hd t ht; have q3 := how t ht; omega)) rfl rfl ⟨Nat.le_of_ble_eq_true rfl, Nat.le_of_ble_eq_true rfl⟩ (Nat.le_of_ble_eq_true rfl) (fun h hR hs => ?_)
    refine aw_aload_n dX5_week_27 rfl ?_
    refine mm_call dX5_week_28 sX5_414 rfl hW hR hs (mm_keepAir) rfl rfl ⟨Nat.le_of_ble_eq_true rfl, Nat.le_of_ble_eq_true rfl⟩ (Nat.le_of_ble_eq_true rfl) (fun h hR hs => ?_)
    refine aw_aload_n dX5_week_31 rfl ?_
    refine aw_get dX5_week_32 fX5_85 rfl hR.1 (by rfl) ?_
    refine aw_bipush (v := nI 25) dX5_week_35 rfl ?_
    refine aw_ialdN dX5_week_37 (hR.2.1 45 28 rfl) (by omega) (by decide) ?_
    try simp only [mm_n_N, mm_n_A, mm_n_V, mm_n_Fp, mm_n_W, mm_n_Nm, mm_a_N, mm_a_A, mm_a_V, mm_a_Fp, mm_a_W, mm_a_Nm, mm_v_N, mm_v_A, mm_v_V, mm_fp_N, mm_fp_A, mm_fp_Fp, mm_w_N, mm_w_W, Nat.reduceEqDiff, reduceIte, if_true, if_false, mm_H_45, mm_H_46, mm_H_47, mm_H_50, mm_H_53, mm_H_54, mm_H_55, mm_H_56, mm_H_57, mm_H_58, mm_H_66, mm_H_67, mm_H_68]
    refine aw_ireturn dX5_week_38 rfl ?_
    refine ⟨?_, _, ?_, hR, hs⟩
    · rw [op_week, if_neg hne, SH]
    · rw [op_weekS, if_neg hne, ← hS]
      simp only [mm_n_N, mm_n_A, mm_n_V, mm_n_Fp, mm_n_W, mm_n_Nm, mm_a_N, mm_a_A, mm_a_V, mm_a_Fp, mm_a_W, mm_a_Nm, mm_v_N, mm_v_A, mm_v_V, mm_fp_N, mm_fp_A, mm_fp_Fp, mm_w_N, mm_w_W, Nat.reduceEqDiff, reduceIte, if_true, if_false, mm_H_45, mm_H_46, mm_H_47, mm_H_50, mm_H_53, mm_H_54, mm_H_55, mm_H_56, mm_H_57, mm_H_58, mm_H_66, mm_H_67, mm_H_68, mm_A_A, SH]
      exact (mm_core.A rfl mm_core.rf).AA
  refine aw_aload_n dX5_week_0 rfl ?_
  refine aw_get dX5_week_1 fX5_85 rfl hR.1 (by rfl) ?_
  refine aw_bipush (v := nI 26) dX5_week_4 rfl ?_
  refine aw_ialdN dX5_week_6 (hR.2.1 45 28 rfl) (by omega) (by decide) ?_
  refine aw_sipush (v := nI 999) dX5_week_7 rfl ?_
  refine aw_icmp_neN (tgt := 15) dX5_week_10 (by decide) (by omega) (by omega) (fun c_10 => ?_) (fun c_10 => ?_)
  · exact go c_10
  · refine aw_iconst (v := -1) dX5_week_13 rfl ?_
    refine aw_ireturn dX5_week_14 rfl ?_
    exact ⟨by rw [op_week, if_pos c_10], _, by rw [op_weekS, if_pos c_10]; exact mm_core.rf, hR, hs⟩
set_option maxHeartbeats 4000000 in
theorem mo_undo {s : mm_S} (ha40 : mm_n s 48 + mm_n s 49 ≤ 40) : mm_Op yX5_undo cX5_undo 1 (some .boolean) 1 [] s (some (.int (nI (aw_t (mm_n s 48 ≠ 0))))) (op_undoS s) := by
  refine mm_Op.of (by decide +kernel) (fun _ => Nat.le_of_ble_eq_true rfl) (fun G w h0 hW hR => ?_)
  have hs : mm_same w h0 h0 := mm_same.rf
  show AW G (aw_rm 1 0 0) yX5_undo cX5_undo 1 (some .boolean) (aw_N G (mm_PoC G w h0 (some (.int (nI (aw_t (mm_n s 48 ≠ 0))))) (op_undoS s)) 0 0) 0 0 h0 0 [(0, .ref w.1)] []
  refine aw_aload_n dX5_undo_0 rfl ?_
  refine aw_get dX5_undo_1 fX5_356 rfl hR.1 (by rfl) ?_
  refine aw_if_neN (tgt := 9) dX5_undo_4 (by decide) (by omega) (fun c_4 => ?_) (fun c_4 => ?_)
  · refine aw_aload_n dX5_undo_9 rfl ?_
    refine aw_dup dX5_undo_10 rfl ?_
    refine aw_get dX5_undo_11 fX5_356 rfl hR.1 (by rfl) ?_
    refine aw_iconst (v := nI 1) dX5_undo_14 rfl ?_
    refine aw_isubN dX5_undo_15 (by omega) ?_
    refine mm_putN (k := 48) hW hR hs dX5_undo_16 (pX5_356 _) rfl rfl (mm_F_set48 _ _ _) (by decide) (fun h hR hs => ?_)
    refine aw_aload_n dX5_undo_19 rfl ?_
    refine aw_dup dX5_undo_20 rfl ?_
    refine aw_get dX5_undo_21 fX5_359 rfl hR.1 (by rfl) ?_
    try simp only [mm_n_N, mm_n_A, mm_n_V, mm_n_Fp, mm_n_W, mm_n_Nm, mm_a_N, mm_a_A, mm_a_V, mm_a_Fp, mm_a_W, mm_a_Nm, mm_v_N, mm_v_A, mm_v_V, mm_fp_N, mm_fp_A, mm_fp_Fp, mm_w_N, mm_w_W, Nat.reduceEqDiff, reduceIte, if_true, if_false, mm_H_45, mm_H_46, mm_H_47, mm_H_50, mm_H_53, mm_H_54, mm_H_55, mm_H_56, mm_H_57, mm_H_58, mm_H_66, mm_H_67, mm_H_68]
    refine aw_iconst (v := nI 1) dX5_undo_24 rfl ?_
    refine aw_iaddN dX5_undo_25 ?_
    refine mm_putN (k := 49) hW hR hs dX5_undo_26 (pX5_359 _) rfl rfl (mm_F_set49 _ _ _) (by decide) (fun h hR hs => ?_)
    refine aw_aload_n dX5_undo_29 rfl ?_
    refine aw_bipush (v := nI 28) dX5_undo_30 rfl ?_
    refine aw_aload_n dX5_undo_32 rfl ?_
    refine aw_get dX5_undo_33 fX5_356 rfl hR.1 (by rfl) ?_
    try simp only [mm_n_N, mm_n_A, mm_n_V, mm_n_Fp, mm_n_W, mm_n_Nm, mm_a_N, mm_a_A, mm_a_V, mm_a_Fp, mm_a_W, mm_a_Nm, mm_v_N, mm_v_A, mm_v_V, mm_fp_N, mm_fp_A, mm_fp_Fp, mm_w_N, mm_w_W, Nat.reduceEqDiff, reduceIte, if_true, if_false, mm_H_45, mm_H_46, mm_H_47, mm_H_50, mm_H_53, mm_H_54, mm_H_55, mm_H_56, mm_H_57, mm_H_58, mm_H_66, mm_H_67, mm_H_68]
    refine aw_imulN dX5_undo_36 ?_
    refine mm_call dX5_undo_37 sX5_420 rfl hW hR hs (mm_exchange (i := mm_n s 48 - 1) (by omega)) rfl rfl ⟨Nat.le_of_ble_eq_true rfl, Nat.le_of_ble_eq_true rfl⟩ (Nat.le_of_ble_eq_true rfl) (fun h hR hs => ?_)
    refine aw_iconst (v := nI 1) dX5_undo_40 rfl ?_
    refine aw_zreturn dX5_undo_41 rfl rfl ?_
    refine ⟨by rw [aw_t1 (by omega)], _, ?_, hR, hs⟩
    rw [op_undoS, if_neg (by omega)]
    exact mm_core.rf
  · refine aw_iconst (v := nI 0) dX5_undo_7 rfl ?_
    refine aw_zreturn dX5_undo_8 rfl rfl ?_
    exact ⟨by rw [aw_t0 (by omega)], _, by rw [op_undoS, if_pos (by omega)]; exact mm_core.rf, hR, hs⟩
set_option maxHeartbeats 4000000 in
theorem mo_redo {s : mm_S} (ha40 : mm_n s 48 + mm_n s 49 ≤ 40) : mm_Op yX5_redo cX5_redo 1 (some .boolean) 1 [] s (some (.int (nI (aw_t (mm_n s 49 ≠ 0))))) (op_redoS s) := by
  refine mm_Op.of (by decide +kernel) (fun _ => Nat.le_of_ble_eq_true rfl) (fun G w h0 hW hR => ?_)
  have hs : mm_same w h0 h0 := mm_same.rf
  show AW G (aw_rm 1 0 0) yX5_redo cX5_redo 1 (some .boolean) (aw_N G (mm_PoC G w h0 (some (.int (nI (aw_t (mm_n s 49 ≠ 0))))) (op_redoS s)) 0 0) 0 0 h0 0 [(0, .ref w.1)] []
  refine aw_aload_n dX5_redo_0 rfl ?_
  refine aw_get dX5_redo_1 fX5_359 rfl hR.1 (by rfl) ?_
  refine aw_if_neN (tgt := 9) dX5_redo_4 (by decide) (by omega) (fun c_4 => ?_) (fun c_4 => ?_)
  · refine aw_aload_n dX5_redo_9 rfl ?_
    refine aw_bipush (v := nI 28) dX5_redo_10 rfl ?_
    refine aw_aload_n dX5_redo_12 rfl ?_
    refine aw_get dX5_redo_13 fX5_356 rfl hR.1 (by rfl) ?_
    refine aw_imulN dX5_redo_16 ?_
    refine mm_call dX5_redo_17 sX5_420 rfl hW hR hs (mm_exchange (i := mm_n s 48) (by omega)) rfl rfl ⟨Nat.le_of_ble_eq_true rfl, Nat.le_of_ble_eq_true rfl⟩ (Nat.le_of_ble_eq_true rfl) (fun h hR hs => ?_)
    refine aw_aload_n dX5_redo_20 rfl ?_
    refine aw_dup dX5_redo_21 rfl ?_
    refine aw_get dX5_redo_22 fX5_356 rfl hR.1 (by rfl) ?_
    try simp only [mm_n_N, mm_n_A, mm_n_V, mm_n_Fp, mm_n_W, mm_n_Nm, mm_a_N, mm_a_A, mm_a_V, mm_a_Fp, mm_a_W, mm_a_Nm, mm_v_N, mm_v_A, mm_v_V, mm_fp_N, mm_fp_A, mm_fp_Fp, mm_w_N, mm_w_W, Nat.reduceEqDiff, reduceIte, if_true, if_false, mm_H_45, mm_H_46, mm_H_47, mm_H_50, mm_H_53, mm_H_54, mm_H_55, mm_H_56, mm_H_57, mm_H_58, mm_H_66, mm_H_67, mm_H_68]
    refine aw_iconst (v := nI 1) dX5_redo_25 rfl ?_
    refine aw_iaddN dX5_redo_26 ?_
    refine mm_putN (k := 48) hW hR hs dX5_redo_27 (pX5_356 _) rfl rfl (mm_F_set48 _ _ _) (by decide) (fun h hR hs => ?_)
    refine aw_aload_n dX5_redo_30 rfl ?_
    refine aw_dup dX5_redo_31 rfl ?_
    refine aw_get dX5_redo_32 fX5_359 rfl hR.1 (by rfl) ?_
    try simp only [mm_n_N, mm_n_A, mm_n_V, mm_n_Fp, mm_n_W, mm_n_Nm, mm_a_N, mm_a_A, mm_a_V, mm_a_Fp, mm_a_W, mm_a_Nm, mm_v_N, mm_v_A, mm_v_V, mm_fp_N, mm_fp_A, mm_fp_Fp, mm_w_N, mm_w_W, Nat.reduceEqDiff, reduceIte, if_true, if_false, mm_H_45, mm_H_46, mm_H_47, mm_H_50, mm_H_53, mm_H_54, mm_H_55, mm_H_56, mm_H_57, mm_H_58, mm_H_66, mm_H_67, mm_H_68]
    refine aw_iconst (v := nI 1) dX5_redo_35 rfl ?_
    have e49 : mm_n (mm_exch s (mm_n s 48)) 49 = mm_n s 49 := rfl
    refine aw_isubN dX5_redo_36 (by omega) ?_
    refine mm_putN (k := 49) hW hR hs dX5_redo_37 (pX5_359 _) rfl rfl (mm_F_set49 _ _ _) (by decide) (fun h hR hs => ?_)
    refine aw_iconst (v := nI 1) dX5_redo_40 rfl ?_
    refine aw_zreturn dX5_redo_41 rfl rfl ?_
    refine ⟨by rw [aw_t1 (by omega)], _, ?_, hR, hs⟩
    rw [op_redoS, if_neg (by omega)]
    exact mm_core.rf
  · refine aw_iconst (v := nI 0) dX5_redo_7 rfl ?_
    refine aw_zreturn dX5_redo_8 rfl rfl ?_
    exact ⟨by rw [aw_t0 (by omega)], _, by rw [op_redoS, if_pos (by omega)]; exact mm_core.rf, hR, hs⟩

