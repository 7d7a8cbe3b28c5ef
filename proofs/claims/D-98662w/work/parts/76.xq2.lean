set_option maxRecDepth 100000
/-! the component: calls that ask, the next ones -/
set_option maxHeartbeats 4000000 in
theorem xo_fault {s : mm_S} {H : sp_H} {u : Nat} {q : Int32} : xx_Op yX0_fault cX0_fault 2 (some .int) 0 0 0 (fun w => [.ref (w.1 0), .int (q)]) s H u (some (.int (op_fault s q))) (s) := by
  refine xx_Op.of (by decide +kernel) (fun _ => Nat.le_of_ble_eq_true rfl) (fun G w h0 hW hX hH => ?_)
  have hX0 := hX
  have hs : xx_same w h0 h0 := xx_same.rf
  obtain ⟨tl, te, cap, m9, f9, tn, nm9, c9, mo9, D9, hq⟩ := hH
  show AW G (aw_rm 0 0 0) yX0_fault cX0_fault 2 (some .int) (aw_N G (xx_PoC G w h0 (some (.int (op_fault s q))) (s)) 0 0) 0 0 h0 0 [(0, .ref (w.1 0)), (1, .int (q))] []
  refine aw_iload_n dX0_fault_0 rfl ?_
  refine aw_if_ne (tgt := 11) dX0_fault_1 (by decide) (fun c_1 => ?_) (fun c_1 => ?_)
  · refine aw_iload_n dX0_fault_11 rfl ?_
    refine aw_iconst (v := nI 1) dX0_fault_12 rfl ?_
    refine aw_icmp_ne (tgt := 23) dX0_fault_13 (by decide) (fun c_13 => ?_) (fun c_13 => ?_)
    · refine aw_iconst (v := -1) dX0_fault_23 rfl ?_
      refine aw_ireturn dX0_fault_24 rfl ?_
      refine ⟨?_, _, mm_core.rf, hX, hs⟩
      first
        | (rw [op_fault, if_pos (by rw [c_1]; rfl)]; done)
        | (rw [op_fault, if_neg (lv_neT c_1 (a := 0) rfl), if_pos (by rw [c_13]; rfl)]; done)
        | (rw [op_fault, if_neg (lv_neT c_1 (a := 0) rfl), if_neg (lv_neT c_13 (a := 1) rfl)]; done)
    · refine aw_aload_n dX0_fault_16 rfl ?_
      refine aw_get dX0_fault_17 fX0_46 rfl (hX.1 0 (by decide)) (by rfl) ?_
      refine aw_goto (tgt := 24) dX0_fault_20 (by decide) ?_
      refine aw_ireturn dX0_fault_24 rfl ?_
      refine ⟨?_, _, mm_core.rf, hX, hs⟩
      first
        | (rw [op_fault, if_pos (by rw [c_1]; rfl)]; done)
        | (rw [op_fault, if_neg (lv_neT c_1 (a := 0) rfl), if_pos (by rw [c_13]; rfl)]; done)
        | (rw [op_fault, if_neg (lv_neT c_1 (a := 0) rfl), if_neg (lv_neT c_13 (a := 1) rfl)]; done)
  · refine aw_aload_n dX0_fault_4 rfl ?_
    refine aw_get dX0_fault_5 fX0_166 rfl (hX.1 0 (by decide)) (by rfl) ?_
    refine aw_goto (tgt := 24) dX0_fault_8 (by decide) ?_
    refine aw_ireturn dX0_fault_24 rfl ?_
    refine ⟨?_, _, mm_core.rf, hX, hs⟩
    first
      | (rw [op_fault, if_pos (by rw [c_1]; rfl)]; done)
      | (rw [op_fault, if_neg (lv_neT c_1 (a := 0) rfl), if_pos (by rw [c_13]; rfl)]; done)
      | (rw [op_fault, if_neg (lv_neT c_1 (a := 0) rfl), if_neg (lv_neT c_13 (a := 1) rfl)]; done)
set_option maxHeartbeats 4000000 in
theorem xo_pull {s : mm_S} {H : sp_H} {u : Nat} {N : Nat} (hOK : sp_okH H) (hA : sp_okA N (mm_a s 45)) (hN : N ≤ 10000000) : xx_Op yX0_pull cX0_pull 1 (some .int) 603 1 4 (fun w => [.ref (w.1 0)]) s H u (some (.int (op_pull H (mm_a s 45)))) (s) := by
  refine xx_Op.of (by decide +kernel) (fun _ => Nat.le_of_ble_eq_true rfl) (fun G w h0 hW hX hH => ?_)
  have hX0 := hX
  have hs : xx_same w h0 h0 := xx_same.rf
  obtain ⟨tl, te, cap, m9, f9, tn, nm9, c9, mo9, D9, hq⟩ := hH
  show AW G (aw_rm 603 1 4) yX0_pull cX0_pull 1 (some .int) (aw_N G (xx_PoC G w h0 (some (.int (op_pull H (mm_a s 45)))) (s)) 1 4) 1 4 h0 0 [(0, .ref (w.1 0))] []
  have hs1 : 1 ≤ sp_hs H := hOK.1.1; have hs20 : sp_hs H ≤ 20 := hOK.1.2; have hn : sp_hn H ≤ 8 := hOK.2.1; have hlv : ∀ t, t < 8 → sp_lv H t ≤ 20 := fun t ht => (hOK.2.2.1 t ht).1; have hsg : ∀ t, t < 8 → sp_sg8 H t ≤ 40 := fun t ht => (hOK.2.2.1 t ht).2.1; have hhv : ∀ t, t < 8 → sp_hv H t ≤ 9 := fun t ht => (hOK.2.2.1 t ht).2.2.1; have how : ∀ t, t < 8 → sp_ow H t ≤ 999 := fun t ht => (hOK.2.2.1 t ht).2.2.2.1; have hfl : ∀ t, t < 8 → sp_fl H t ≤ 100 := fun t ht => (hOK.2.2.1 t ht).2.2.2.2
  have hb : ∀ t, t < 8 → mm_a s 45 t ≤ 40 := fun t ht => (hA.1 t ht).1; have hp : ∀ t, t < 8 → mm_a s 45 (8 + t) ≤ 9999 := fun t ht => (hA.1 t ht).2.1; have hd : ∀ t, t < 8 → mm_a s 45 (16 + t) ≤ N := fun t ht => (hA.1 t ht).2.2; have h24 : mm_a s 45 24 ≤ N := hA.2.1; have h25 : mm_a s 45 25 ≤ 20 := hA.2.2.1; have h26 : mm_a s 45 26 ≤ N := hA.2.2.2.1; have h27 : mm_a s 45 27 ≤ 999 := hA.2.2.2.2
  refine aw_aload_n dX0_pull_0 rfl ?_
  refine aw_get dX0_pull_1 fX0_19 rfl (hX.1 0 (by decide)) (by rfl) ?_
  refine aw_aload_n dX0_pull_4 rfl ?_
  refine aw_get dX0_pull_5 fX0_28 rfl (hX.1 0 (by decide)) (by rfl) ?_
  refine aw_aload_n dX0_pull_8 rfl ?_
  refine aw_get dX0_pull_9 fX0_28 rfl (hX.1 0 (by decide)) (by rfl) ?_
  refine aw_get dX0_pull_12 fX0_113 rfl (hX.st (i := 0) (by decide)) (by rfl) ?_
  try simp only [Nat.reduceMul, Nat.reduceAdd, Nat.zero_add]
  refine AW_le (kc' := 0 + 1) (ks' := 0 + 4) (by omega) (by omega) ?_
  refine xx_call (kc := 0) (ks := 0) dX0_pull_15 sX0_312 rfl hW hX (hq.mv hs hX0).xh hs ((xh_pull (i := 0) (k := mm_a s 45 24) (by decide) hn hhv (by omega)).eqv (r' := some (.int (sp_pull H (mm_a s 45)))) (congrArg (fun B => some (Value.int (sp_pull H B))) (aw_u_id (mm_a s 45) 24)) rfl) rfl (hq.mv hs hX0).1 rfl rfl ⟨Nat.le_of_ble_eq_true rfl, Nat.le_of_ble_eq_true rfl⟩ (by exact Nat.le_of_ble_eq_true rfl) (fun h hX hs => ?_)
  refine aw_ireturn dX0_pull_18 rfl ?_
  exact ⟨rfl, _, by first | exact mm_core.rf | exact mm_core.A rfl mm_core.rf | exact mm_core.A rfl (mm_core.A rfl mm_core.rf) | exact mm_core.N rfl mm_core.rf | exact mm_core.N rfl (mm_core.A rfl mm_core.rf), hX, hs⟩
set_option maxHeartbeats 4000000 in
theorem xo_end {s : mm_S} {H : sp_H} {u : Nat} {n : Int32} (ht : mm_n s 1 ≤ 1600) : xx_Op yX0_end cX0_end 2 (some .int) 0 0 0 (fun w => [.ref (w.1 0), .int (n)]) s H u (some (.int (op_end s n))) (op_endS s n) := by
  refine xx_Op.of (by decide +kernel) (fun _ => Nat.le_of_ble_eq_true rfl) (fun G w h0 hW hX hH => ?_)
  have hX0 := hX
  have hs : xx_same w h0 h0 := xx_same.rf
  obtain ⟨tl, te, cap, m9, f9, tn, nm9, c9, mo9, D9, hq⟩ := hH
  show AW G (aw_rm 0 0 0) yX0_end cX0_end 2 (some .int) (aw_N G (xx_PoC G w h0 (some (.int (op_end s n))) (op_endS s n)) 0 0) 0 0 h0 0 [(0, .ref (w.1 0)), (1, .int (n))] []
  have e0 : (nI (mm_n s 1)).toInt = mm_n s 1 := aw_ti (by omega)
  have no : ∀ h, XC G w h s → xx_same w h0 h → ¬ (0 ≤ n.toInt ∧ n.toInt ≤ (mm_n s 1 : Int)) → xx_PoC G w h0 (some (.int (op_end s n))) (op_endS s n) (some (.int (-1))) h := fun h hX hs z => ⟨by rw [op_end, aw_if0 z], _, by rw [op_endS, aw_if0 z]; exact mm_core.rf, hX, hs⟩
  by_cases z : 0 ≤ n.toInt ∧ n.toInt ≤ (mm_n s 1 : Int)
  · obtain ⟨n', hn', en, n1, n2⟩ := aw_ofN z.1
    have r1 : op_end s n = n := by rw [op_end, aw_if1 z]
    have r2 : op_endS s n = mm_setN s 1 n' := by rw [op_endS, aw_if1 z, n2]
    rw [r1, r2]
    subst en
    refine aw_iload_n dX0_end_0 rfl ?_
    refine aw_if_ltN (tgt := 12) dX0_end_1 (by decide) (by omega) ?_
    refine aw_iload_n dX0_end_4 rfl ?_
    refine aw_aload_n dX0_end_5 rfl ?_
    refine aw_get dX0_end_6 fX0_159 rfl (hX.1 0 (by decide)) (by rfl) ?_
    refine aw_icmp_leN (tgt := 14) dX0_end_9 (by decide) (by omega) (by omega) (fun c_9 => ?_) (fun c_9 => by exfalso; omega)
    refine aw_aload_n dX0_end_14 rfl ?_
    refine aw_iload_n dX0_end_15 rfl ?_
    refine xx_put0 (k := 1) hW hX hs dX0_end_16 (pX0_159 _) rfl rfl (by decide) (by decide) (by decide) rfl (fun h hX hs => ?_)
    refine aw_iload_n dX0_end_19 rfl ?_
    refine aw_ireturn dX0_end_20 rfl ?_
    exact ⟨rfl, _, mm_core.rf, hX, hs⟩
  ·
    refine aw_iload_n dX0_end_0 rfl ?_
    refine aw_if_lt (tgt := 12) dX0_end_1 (by decide) (fun c_1 => ?_) (fun c_1 => ?_)
    · refine aw_iconst (v := -1) dX0_end_12 rfl ?_
      refine aw_ireturn dX0_end_13 rfl ?_
      exact no h0 hX hs z
    · refine aw_iload_n dX0_end_4 rfl ?_
      refine aw_aload_n dX0_end_5 rfl ?_
      refine aw_get dX0_end_6 fX0_159 rfl (hX.1 0 (by decide)) (by rfl) ?_
      refine aw_icmp_le (tgt := 14) dX0_end_9 (by decide) (fun c_9 => ?_) (fun c_9 => ?_)
      · exfalso
        rw [aw_i0] at c_1
        rw [Int32.le_iff_toInt_le, e0] at c_9
        omega
      · refine aw_iconst (v := -1) dX0_end_12 rfl ?_
        refine aw_ireturn dX0_end_13 rfl ?_
        exact no h0 hX hs z
set_option maxHeartbeats 4000000 in
theorem xo_lies {s : mm_S} {H : sp_H} {u : Nat} {i : Int32} (hl : mm_n s 52 ≤ 8) : xx_Op yX0_lies cX0_lies 2 (some .int) 1 0 0 (fun w => [.ref (w.1 0), .int (i)]) s H u (some (.int (op_lies s i))) (s) := by
  refine xx_Op.of (by decide +kernel) (fun _ => Nat.le_of_ble_eq_true rfl) (fun G w h0 hW hX hH => ?_)
  have hX0 := hX
  have hs : xx_same w h0 h0 := xx_same.rf
  obtain ⟨tl, te, cap, m9, f9, tn, nm9, c9, mo9, D9, hq⟩ := hH
  show AW G (aw_rm 1 0 0) yX0_lies cX0_lies 2 (some .int) (aw_N G (xx_PoC G w h0 (some (.int (op_lies s i))) (s)) 0 0) 0 0 h0 0 [(0, .ref (w.1 0)), (1, .int (i))] []
  have e1 : (nI (mm_n s 52) - nI 1).toInt = (mm_n s 52 : Int) - 1 := pk_sub_toInt (by omega) (by omega)
  have e0 : (nI 0).toInt = 0 := rfl
  by_cases z : 0 ≤ i.toInt ∧ i.toInt < (mm_n s 52 : Int)
  · obtain ⟨i', hi', rfl, i1, i2⟩ := aw_ofN z.1
    refine aw_iload_n dX0_lies_0 rfl ?_
    refine aw_iconst (v := nI 0) dX0_lies_1 rfl ?_
    refine aw_aload_n dX0_lies_2 rfl ?_
    refine aw_get dX0_lies_3 fX0_132 rfl (hX.1 0 (by decide)) (by rfl) ?_
    refine aw_iconst (v := nI 1) dX0_lies_6 rfl ?_
    refine aw_isub dX0_lies_7 ?_
    refine aw_callP (r := _) dX0_lies_8 sX0_155 rfl (xp_isIn) rfl rfl ⟨Nat.le_of_ble_eq_true rfl, Nat.le_of_ble_eq_true rfl⟩ (Nat.le_of_ble_eq_true rfl) ?_
    refine aw_if_eqB (tgt := 23) dX0_lies_11 (by decide) (fun c_11 => by exfalso; omega) (fun c_11 => ?_)
    refine aw_aload_n dX0_lies_14 rfl ?_
    refine aw_get dX0_lies_15 fX0_60 rfl (hX.1 0 (by decide)) (by rfl) ?_
    refine aw_iload_n dX0_lies_18 rfl ?_
    refine aw_ialdN dX0_lies_19 (hX.1 11 (by decide)) (by omega) (by decide) ?_
    refine aw_goto (tgt := 25) dX0_lies_20 (by decide) ?_
    refine aw_ireturn dX0_lies_25 rfl ?_
    refine ⟨?_, _, mm_core.rf, hX, hs⟩
    rw [op_lies, aw_if1 z, i2]
  ·
    refine aw_iload_n dX0_lies_0 rfl ?_
    refine aw_iconst (v := nI 0) dX0_lies_1 rfl ?_
    refine aw_aload_n dX0_lies_2 rfl ?_
    refine aw_get dX0_lies_3 fX0_132 rfl (hX.1 0 (by decide)) (by rfl) ?_
    refine aw_iconst (v := nI 1) dX0_lies_6 rfl ?_
    refine aw_isub dX0_lies_7 ?_
    refine aw_callP (r := _) dX0_lies_8 sX0_155 rfl (xp_isIn) rfl rfl ⟨Nat.le_of_ble_eq_true rfl, Nat.le_of_ble_eq_true rfl⟩ (Nat.le_of_ble_eq_true rfl) ?_
    refine aw_if_eqB (tgt := 23) dX0_lies_11 (by decide) (fun c_11 => ?_) (fun c_11 => by exfalso; omega)
    refine aw_bipush (v := -2) dX0_lies_23 rfl ?_
    refine aw_ireturn dX0_lies_25 rfl ?_
    refine ⟨?_, _, mm_core.rf, hX, hs⟩
    rw [op_lies, aw_if0 z]
set_option maxHeartbeats 4000000 in
theorem xo_later {s : mm_S} {H : sp_H} {u : Nat} {q : Int32} (ht : mm_n s 65 ≤ 100000) : xx_Op yX0_later cX0_later 2 (some .int) 0 0 0 (fun w => [.ref (w.1 0), .int (q)]) s H u (some (.int (op_later s q))) (op_laterS s q) := by
  refine xx_Op.of (by decide +kernel) (fun _ => Nat.le_of_ble_eq_true rfl) (fun G w h0 hW hX hH => ?_)
  have hX0 := hX
  have hs : xx_same w h0 h0 := xx_same.rf
  obtain ⟨tl, te, cap, m9, f9, tn, nm9, c9, mo9, D9, hq⟩ := hH
  show AW G (aw_rm 0 0 0) yX0_later cX0_later 2 (some .int) (aw_N G (xx_PoC G w h0 (some (.int (op_later s q))) (op_laterS s q)) 0 0) 0 0 h0 0 [(0, .ref (w.1 0)), (1, .int (q))] []
  have no : ∀ h, XC G w h s → xx_same w h0 h → ¬ (0 ≤ q.toInt ∧ q.toInt ≤ 1000 ∧ mm_n s 65 + q.toNatClampNeg ≤ 100000) → xx_PoC G w h0 (some (.int (op_later s q))) (op_laterS s q) (some (.int (-1))) h := fun h hX hs z => ⟨by rw [op_later, aw_if0 z], _, by rw [op_laterS, aw_if0 z]; exact mm_core.rf, hX, hs⟩
  by_cases z0 : 0 ≤ q.toInt ∧ q.toInt ≤ 1000
  · obtain ⟨q', hq', rfl, q1, q2⟩ := aw_ofN z0.1
    refine aw_iload_n dX0_later_0 rfl ?_
    refine aw_if_ltN (tgt := 23) dX0_later_1 (by decide) (by omega) ?_
    refine aw_iload_n dX0_later_4 rfl ?_
    refine aw_sipush (v := nI 1000) dX0_later_5 rfl ?_
    refine aw_icmp_gtN (tgt := 23) dX0_later_8 (by decide) (by omega) (by omega) (fun c_8 => by exfalso; omega) (fun c_8 => ?_)
    refine aw_aload_n dX0_later_11 rfl ?_
    refine aw_get dX0_later_12 fX0_339 rfl (hX.1 0 (by decide)) (by rfl) ?_
    refine aw_iload_n dX0_later_15 rfl ?_
    refine aw_iaddN dX0_later_16 ?_
    refine aw_ldcw (v := nI 100000) dX0_later_17 q1276 ?_
    refine aw_icmp_leN (tgt := 25) dX0_later_20 (by decide) (by omega) (by omega) (fun c_20 => ?_) (fun c_20 => ?_)
    · refine aw_aload_n dX0_later_25 rfl ?_
      refine aw_dup dX0_later_26 rfl ?_
      refine aw_get dX0_later_27 fX0_339 rfl (hX.1 0 (by decide)) (by rfl) ?_
      refine aw_iload_n dX0_later_30 rfl ?_
      refine aw_iaddN dX0_later_31 ?_
      refine xx_put0 (k := 65) hW hX hs dX0_later_32 (pX0_339 _) rfl rfl (by decide) (by decide) (by decide) rfl (fun h hX hs => ?_)
      refine aw_aload_n dX0_later_35 rfl ?_
      refine aw_get dX0_later_36 fX0_339 rfl (hX.1 0 (by decide)) (by rfl) ?_
      try simp only [mm_n_N, mm_n_A, mm_n_V, mm_n_Fp, mm_n_W, mm_n_Nm, mm_a_N, mm_a_A, mm_a_V, mm_a_Fp, mm_a_W, mm_a_Nm, mm_v_N, mm_v_A, mm_v_V, mm_fp_N, mm_fp_A, mm_fp_Fp, mm_w_N, mm_w_W, Nat.reduceEqDiff, reduceIte, if_true, if_false, mm_H_45, mm_H_46, mm_H_47, mm_H_50, mm_H_53, mm_H_54, mm_H_55, mm_H_56, mm_H_57, mm_H_58, mm_H_66, mm_H_67, mm_H_68, eq_self]
      refine aw_ireturn dX0_later_39 rfl ?_
      have z : 0 ≤ (nI q').toInt ∧ (nI q').toInt ≤ 1000 ∧ mm_n s 65 + (nI q').toNatClampNeg ≤ 100000 := by omega
      exact ⟨by rw [op_later, aw_if1 z, q2], _, by rw [op_laterS, aw_if1 z, q2]; exact mm_core.rf, hX, hs⟩
    · refine aw_iconst (v := -1) dX0_later_23 rfl ?_
      refine aw_ireturn dX0_later_24 rfl ?_
      exact no h0 hX hs (fun z => by omega)
  · have e1000 : (nI 1000).toInt = 1000 := rfl
    refine aw_iload_n dX0_later_0 rfl ?_
    refine aw_if_lt (tgt := 23) dX0_later_1 (by decide) (fun c_1 => ?_) (fun c_1 => ?_)
    · refine aw_iconst (v := -1) dX0_later_23 rfl ?_
      refine aw_ireturn dX0_later_24 rfl ?_
      exact no h0 hX hs (fun z => z0 ⟨z.1, z.2.1⟩)
    · refine aw_iload_n dX0_later_4 rfl ?_
      refine aw_sipush (v := nI 1000) dX0_later_5 rfl ?_
      refine aw_icmp_gt (tgt := 23) dX0_later_8 (by decide) (fun c_8 => ?_) (fun c_8 => ?_)
      · refine aw_iconst (v := -1) dX0_later_23 rfl ?_
        refine aw_ireturn dX0_later_24 rfl ?_
        exact no h0 hX hs (fun z => z0 ⟨z.1, z.2.1⟩)
      · exfalso
        rw [aw_i0] at c_1
        rw [Int32.lt_iff_toInt_lt, aw_ti (n := 1000) (by decide)] at c_8
        omega
set_option maxHeartbeats 4000000 in
theorem xo_costs {s : mm_S} {H : sp_H} {u : Nat} {t a : Nat} (hn : sp_hn H ≤ 8) (ht : t < sp_hn H) : xx_Met yX0_costs cX0_costs 3 (some .int) 4 0 0 (fun w => [.ref (w.1 0), .int (nI (t)), .int (nI (a))]) s H u (some (.int (nI (30 * a + sp_ow H t)))) (s) := by
  refine xx_Met.of (by decide +kernel) (fun _ => Nat.le_of_ble_eq_true rfl) (fun G w h0 hW hX hH => ?_)
  have hX0 := hX
  have hs : xx_same w h0 h0 := xx_same.rf
  obtain ⟨tl, te, cap, m9, f9, tn, nm9, c9, mo9, D9, hq⟩ := hH
  show AW G (aw_rm 4 0 0) yX0_costs cX0_costs 3 (some .int) (aw_N G (xx_Po G w h0 (some (.int (nI (30 * a + sp_ow H t)))) (s)) 0 0) 0 0 h0 0 [(0, .ref (w.1 0)), (1, .int (nI (t))), (2, .int (nI (a)))] []
  refine aw_bipush (v := nI 30) dX0_costs_0 rfl ?_
  refine aw_iload_n dX0_costs_2 rfl ?_
  refine aw_imulN dX0_costs_3 ?_
  refine aw_aload_n dX0_costs_4 rfl ?_
  refine aw_get dX0_costs_5 fX0_19 rfl (hX.1 0 (by decide)) (by rfl) ?_
  refine aw_get dX0_costs_8 fX0_95 rfl (hq.mv hs hX0).1 (by rfl) ?_
  refine aw_iload_n dX0_costs_11 rfl ?_
  refine xx_get dX0_costs_12 sX0_98 rfl (hq.mv hs hX0) (by omega) ⟨Nat.le_of_ble_eq_true rfl, Nat.le_of_ble_eq_true rfl⟩ (by exact Nat.le_of_ble_eq_true rfl) ?_
  refine aw_castS (y := yX0_costs) dX0_costs_15 q378 aw_cl7 ((hq.mv hs hX0).ten (by omega)) ?_
  refine aw_get dX0_costs_18 fX0_198 rfl ((hq.mv hs hX0).ten (by omega)) (by rfl) ?_
  refine aw_iaddN dX0_costs_21 ?_
  refine aw_ireturn dX0_costs_22 rfl ?_
  exact ⟨rfl, hX, hs⟩
set_option maxHeartbeats 4000000 in
theorem xo_month {s : mm_S} {H : sp_H} {u : Nat} {t : Int32} (hOK : sp_okH H) : xx_Op yX0_month cX0_month 2 (some .int) 6 0 0 (fun w => [.ref (w.1 0), .int (t)]) s H u (some (.int (op_month H t))) (s) := by
  refine xx_Op.of (by decide +kernel) (fun _ => Nat.le_of_ble_eq_true rfl) (fun G w h0 hW hX hH => ?_)
  have hX0 := hX
  have hs : xx_same w h0 h0 := xx_same.rf
  obtain ⟨tl, te, cap, m9, f9, tn, nm9, c9, mo9, D9, hq⟩ := hH
  show AW G (aw_rm 6 0 0) yX0_month cX0_month 2 (some .int) (aw_N G (xx_PoC G w h0 (some (.int (op_month H t))) (s)) 0 0) 0 0 h0 0 [(0, .ref (w.1 0)), (1, .int (t))] []
  have hs1 : 1 ≤ sp_hs H := hOK.1.1; have hs20 : sp_hs H ≤ 20 := hOK.1.2; have hn : sp_hn H ≤ 8 := hOK.2.1; have hlv : ∀ t, t < 8 → sp_lv H t ≤ 20 := fun t ht => (hOK.2.2.1 t ht).1; have hsg : ∀ t, t < 8 → sp_sg8 H t ≤ 40 := fun t ht => (hOK.2.2.1 t ht).2.1; have hhv : ∀ t, t < 8 → sp_hv H t ≤ 9 := fun t ht => (hOK.2.2.1 t ht).2.2.1; have how : ∀ t, t < 8 → sp_ow H t ≤ 999 := fun t ht => (hOK.2.2.1 t ht).2.2.2.1; have hfl : ∀ t, t < 8 → sp_fl H t ≤ 100 := fun t ht => (hOK.2.2.1 t ht).2.2.2.2
  by_cases z : sp_isT H t
  · have z2 := z
    obtain ⟨t', ht, rfl, t1, t2⟩ := aw_ofN z2.1
    have ht9 : t' < sp_hn H := by have := z.2; omega
    refine aw_aload_n dX0_month_0 rfl ?_
    refine aw_iload_n dX0_month_1 rfl ?_
    refine xx_call0 dX0_month_2 sX0_188 rfl hW hX (hq.mv hs hX0).xh hs (xo_isT hn) rfl (hX.1 0 (by decide)) rfl rfl ⟨Nat.le_of_ble_eq_true rfl, Nat.le_of_ble_eq_true rfl⟩ (by exact Nat.le_of_ble_eq_true rfl) (fun h hX hs => ?_)
    refine aw_if_eqB (tgt := 33) dX0_month_5 (by decide) (fun c_5 => by exfalso; exact c_5 z) (fun c_5 => ?_)
    refine aw_aload_n dX0_month_8 rfl ?_
    refine aw_iload_n dX0_month_9 rfl ?_
    refine aw_aload_n dX0_month_10 rfl ?_
    refine aw_get dX0_month_11 fX0_19 rfl (hX.1 0 (by decide)) (by rfl) ?_
    refine aw_get dX0_month_14 fX0_95 rfl (hq.mv hs hX0).1 (by rfl) ?_
    refine aw_iload_n dX0_month_17 rfl ?_
    refine xx_get dX0_month_18 sX0_98 rfl (hq.mv hs hX0) (by omega) ⟨Nat.le_of_ble_eq_true rfl, Nat.le_of_ble_eq_true rfl⟩ (by exact Nat.le_of_ble_eq_true rfl) ?_
    refine aw_castS (y := yX0_month) dX0_month_21 q378 aw_cl7 ((hq.mv hs hX0).ten (by omega)) ?_
    refine aw_get dX0_month_24 fX0_192 rfl ((hq.mv hs hX0).ten (by omega)) (by rfl) ?_
    refine xx_call0 dX0_month_27 sX0_305 rfl hW hX (hq.mv hs hX0).xh hs (xo_costs hn ht9) rfl (hX.1 0 (by decide)) rfl rfl ⟨Nat.le_of_ble_eq_true rfl, Nat.le_of_ble_eq_true rfl⟩ (by exact Nat.le_of_ble_eq_true rfl) (fun h hX hs => ?_)
    refine aw_goto (tgt := 34) dX0_month_30 (by decide) ?_
    refine aw_ireturn dX0_month_34 rfl ?_
    exact ⟨by rw [op_month, aw_if1 z, t2]; rfl, _, mm_core.rf, hX, hs⟩
  ·
    refine aw_aload_n dX0_month_0 rfl ?_
    refine aw_iload_n dX0_month_1 rfl ?_
    refine xx_call0 dX0_month_2 sX0_188 rfl hW hX (hq.mv hs hX0).xh hs (xo_isT hn) rfl (hX.1 0 (by decide)) rfl rfl ⟨Nat.le_of_ble_eq_true rfl, Nat.le_of_ble_eq_true rfl⟩ (by exact Nat.le_of_ble_eq_true rfl) (fun h hX hs => ?_)
    refine aw_if_eqB (tgt := 33) dX0_month_5 (by decide) (fun c_5 => ?_) (fun c_5 => by exfalso; exact z c_5)
    refine aw_iconst (v := -1) dX0_month_33 rfl ?_
    refine aw_ireturn dX0_month_34 rfl ?_
    exact ⟨by rw [op_month, aw_if0 z], _, mm_core.rf, hX, hs⟩
set_option maxHeartbeats 4000000 in
theorem xo_carN {s : mm_S} {H : sp_H} {u : Nat} {t o : Nat} {N : Nat} (hOK : sp_okH H) (hA : sp_okA N (mm_a s 45)) (ht : t < sp_hn H) (ho : o < sp_hn H) (hne : t ≠ o) : xx_Met yX0_carries cX0_carries 3 (some .int) 6 0 0 (fun w => [.ref (w.1 0), .int (nI (t)), .int (nI (o))]) s H u (some (.int (nI (sp_carr H (mm_a s 45) t o)))) (s) := by
  refine xx_Met.of (by decide +kernel) (fun _ => Nat.le_of_ble_eq_true rfl) (fun G w h0 hW hX hH => ?_)
  have hX0 := hX
  have hs : xx_same w h0 h0 := xx_same.rf
  obtain ⟨tl, te, cap, m9, f9, tn, nm9, c9, mo9, D9, hq⟩ := hH
  show AW G (aw_rm 6 0 0) yX0_carries cX0_carries 3 (some .int) (aw_N G (xx_Po G w h0 (some (.int (nI (sp_carr H (mm_a s 45) t o)))) (s)) 0 0) 0 0 h0 0 [(0, .ref (w.1 0)), (1, .int (nI (t))), (2, .int (nI (o)))] []
  have hs1 : 1 ≤ sp_hs H := hOK.1.1; have hs20 : sp_hs H ≤ 20 := hOK.1.2; have hn : sp_hn H ≤ 8 := hOK.2.1; have hlv : ∀ t, t < 8 → sp_lv H t ≤ 20 := fun t ht => (hOK.2.2.1 t ht).1; have hsg : ∀ t, t < 8 → sp_sg8 H t ≤ 40 := fun t ht => (hOK.2.2.1 t ht).2.1; have hhv : ∀ t, t < 8 → sp_hv H t ≤ 9 := fun t ht => (hOK.2.2.1 t ht).2.2.1; have how : ∀ t, t < 8 → sp_ow H t ≤ 999 := fun t ht => (hOK.2.2.1 t ht).2.2.2.1; have hfl : ∀ t, t < 8 → sp_fl H t ≤ 100 := fun t ht => (hOK.2.2.1 t ht).2.2.2.2
  have hb : ∀ t, t < 8 → mm_a s 45 t ≤ 40 := fun t ht => (hA.1 t ht).1; have hp : ∀ t, t < 8 → mm_a s 45 (8 + t) ≤ 9999 := fun t ht => (hA.1 t ht).2.1; have hd : ∀ t, t < 8 → mm_a s 45 (16 + t) ≤ N := fun t ht => (hA.1 t ht).2.2; have h24 : mm_a s 45 24 ≤ N := hA.2.1; have h25 : mm_a s 45 25 ≤ 20 := hA.2.2.1; have h26 : mm_a s 45 26 ≤ N := hA.2.2.2.1; have h27 : mm_a s 45 27 ≤ 999 := hA.2.2.2.2
  have bt := hb t (by omega)
  have bb := sp_brc_le hhv (c := o + 1) (by omega)
  have eo : nI o = sp_cv (o + 1) := (sp_cv_s o).symm
  have T1 : 0 ≤ (nI t).toInt ∧ (nI t).toInt < (sp_hn H : Int) := by rw [aw_ti (by omega)]; omega
  have T2 : 0 ≤ (nI o).toInt ∧ (nI o).toInt < (sp_hn H : Int) := by rw [aw_ti (by omega)]; omega
  refine aw_aload_n dX0_carries_0 rfl ?_
  refine aw_iload_n dX0_carries_1 rfl ?_
  refine xx_call0 dX0_carries_2 sX0_188 rfl hW hX (hq.mv hs hX0).xh hs (xo_isT hn) rfl (hX.1 0 (by decide)) rfl rfl ⟨Nat.le_of_ble_eq_true rfl, Nat.le_of_ble_eq_true rfl⟩ (by exact Nat.le_of_ble_eq_true rfl) (fun h hX hs => ?_)
  refine aw_if_eqB (tgt := 21) dX0_carries_5 (by decide) (fun c_5 => by exfalso; exact c_5 T1) (fun c_5 => ?_)
  refine aw_aload_n dX0_carries_8 rfl ?_
  refine aw_iload_n dX0_carries_9 rfl ?_
  refine xx_call0 dX0_carries_10 sX0_188 rfl hW hX (hq.mv hs hX0).xh hs (xo_isT hn) rfl (hX.1 0 (by decide)) rfl rfl ⟨Nat.le_of_ble_eq_true rfl, Nat.le_of_ble_eq_true rfl⟩ (by exact Nat.le_of_ble_eq_true rfl) (fun h hX hs => ?_)
  refine aw_if_eqB (tgt := 21) dX0_carries_13 (by decide) (fun c_13 => by exfalso; exact c_13 T2) (fun c_13 => ?_)
  refine aw_iload_n dX0_carries_16 rfl ?_
  refine aw_iload_n dX0_carries_17 rfl ?_
  refine aw_icmp_neN (tgt := 23) dX0_carries_18 (by decide) (by omega) (by omega) (fun c_18 => ?_) (fun c_18 => by exfalso; omega)
  refine aw_aload_n dX0_carries_23 rfl ?_
  refine aw_get dX0_carries_24 fX0_19 rfl (hX.1 0 (by decide)) (by rfl) ?_
  refine aw_get dX0_carries_27 fX0_208 rfl (hq.mv hs hX0).1 (by rfl) ?_
  refine aw_aload_n dX0_carries_30 rfl ?_
  refine aw_get dX0_carries_31 fX0_28 rfl (hX.1 0 (by decide)) (by rfl) ?_
  refine aw_get dX0_carries_34 fX0_88 rfl (hX.st (i := 0) (by decide)) (by rfl) ?_
  refine aw_iload_n dX0_carries_37 rfl ?_
  refine xx_ialdS (i := 0) (b := 0) dX0_carries_38 hX (by decide) (by decide) (by omega) ?_
  try simp only [Nat.reduceMul, Nat.reduceAdd, Nat.zero_add]
  refine aw_aload_n dX0_carries_39 rfl ?_
  refine aw_get dX0_carries_40 fX0_19 rfl (hX.1 0 (by decide)) (by rfl) ?_
  refine aw_iload_n dX0_carries_43 rfl ?_
  rw [eo]
  refine xx_call0 dX0_carries_44 sX0_211 rfl hW hX (hq.mv hs hX0).xh hs (xh_brc hn hhv (c := o + 1) (by omega)) rfl (hq.mv hs hX0).1 rfl rfl ⟨Nat.le_of_ble_eq_true rfl, Nat.le_of_ble_eq_true rfl⟩ (by exact Nat.le_of_ble_eq_true rfl) (fun h hX hs => ?_)
  refine aw_idivN dX0_carries_47 (by omega) (by omega) (by omega) ?_
  refine aw_mminN dX0_carries_48 q951 (by have := Nat.div_le_self (mm_a s 45 t) (sp_brc H (o + 1)); omega) (by have := Nat.div_le_self (mm_a s 45 t) (sp_brc H (o + 1)); omega) (Nat.le_of_ble_eq_true rfl) (Nat.le_of_ble_eq_true rfl) (Nat.le_of_ble_eq_true rfl) ?_
  refine aw_ireturn dX0_carries_51 rfl ?_
  exact ⟨rfl, hX, hs⟩
set_option maxHeartbeats 4000000 in
theorem xo_carries {s : mm_S} {H : sp_H} {u : Nat} {t o : Int32} {N : Nat} (hOK : sp_okH H) (hA : sp_okA N (mm_a s 45)) : xx_Op yX0_carries cX0_carries 3 (some .int) 6 0 0 (fun w => [.ref (w.1 0), .int (t), .int (o)]) s H u (some (.int (op_carries H (mm_a s 45) t o))) (s) := by
  refine xx_Op.of (by decide +kernel) (fun _ => Nat.le_of_ble_eq_true rfl) (fun G w h0 hW hX hH => ?_)
  have hX0 := hX
  have hs : xx_same w h0 h0 := xx_same.rf
  obtain ⟨tl, te, cap, m9, f9, tn, nm9, c9, mo9, D9, hq⟩ := hH
  show AW G (aw_rm 6 0 0) yX0_carries cX0_carries 3 (some .int) (aw_N G (xx_PoC G w h0 (some (.int (op_carries H (mm_a s 45) t o))) (s)) 0 0) 0 0 h0 0 [(0, .ref (w.1 0)), (1, .int (t)), (2, .int (o))] []
  have hs1 : 1 ≤ sp_hs H := hOK.1.1; have hs20 : sp_hs H ≤ 20 := hOK.1.2; have hn : sp_hn H ≤ 8 := hOK.2.1; have hlv : ∀ t, t < 8 → sp_lv H t ≤ 20 := fun t ht => (hOK.2.2.1 t ht).1; have hsg : ∀ t, t < 8 → sp_sg8 H t ≤ 40 := fun t ht => (hOK.2.2.1 t ht).2.1; have hhv : ∀ t, t < 8 → sp_hv H t ≤ 9 := fun t ht => (hOK.2.2.1 t ht).2.2.1; have how : ∀ t, t < 8 → sp_ow H t ≤ 999 := fun t ht => (hOK.2.2.1 t ht).2.2.2.1; have hfl : ∀ t, t < 8 → sp_fl H t ≤ 100 := fun t ht => (hOK.2.2.1 t ht).2.2.2.2
  have hb : ∀ t, t < 8 → mm_a s 45 t ≤ 40 := fun t ht => (hA.1 t ht).1; have hp : ∀ t, t < 8 → mm_a s 45 (8 + t) ≤ 9999 := fun t ht => (hA.1 t ht).2.1; have hd : ∀ t, t < 8 → mm_a s 45 (16 + t) ≤ N := fun t ht => (hA.1 t ht).2.2; have h24 : mm_a s 45 24 ≤ N := hA.2.1; have h25 : mm_a s 45 25 ≤ 20 := hA.2.2.1; have h26 : mm_a s 45 26 ≤ N := hA.2.2.2.1; have h27 : mm_a s 45 27 ≤ 999 := hA.2.2.2.2
  have no : ¬ (sp_isT H t ∧ sp_isT H o ∧ t ≠ o) → op_carries H (mm_a s 45) t o = -1 := fun z => by rw [op_carries, aw_if0 z]
  have go : ∀ (h : aw_H), XC G w h s → xx_same w h0 h → sp_isT H t → sp_isT H o → ¬ t = o → AW G (aw_rm 6 0 0) yX0_carries cX0_carries 3 (some .int) (aw_N G (xx_PoC G w h0 (some (.int (op_carries H (mm_a s 45) t o))) (s)) 0 0) 0 0 h 23 [(0, .ref (w.1 0)), (1, .int t), (2, .int o)] [] := by
    intro h hX hs z1 z2 z3
    have fin : op_carries H (mm_a s 45) t o = nI (sp_carr H (mm_a s 45) t.toNatClampNeg o.toNatClampNeg) := by rw [op_carries, aw_if1 ⟨z1, z2, z3⟩]
    rw [fin]
    have y1 := z1
    have y2 := z2
    obtain ⟨t', ht, rfl, t1, t2⟩ := aw_ofN y1.1
    obtain ⟨o', ho, rfl, o1, o2⟩ := aw_ofN y2.1
    have ht9 : t' < sp_hn H := by have := z1.2; omega
    have ho9 : o' < sp_hn H := by have := z2.2; omega
    have bt := hb t' (by omega)
    have bb := sp_brc_le hhv (c := o' + 1) (by omega)
    have eo : nI o' = sp_cv (o' + 1) := (sp_cv_s o').symm
    refine aw_aload_n dX0_carries_23 rfl ?_
    refine aw_get dX0_carries_24 fX0_19 rfl (hX.1 0 (by decide)) (by rfl) ?_
    refine aw_get dX0_carries_27 fX0_208 rfl (hq.mv hs hX0).1 (by rfl) ?_
    refine aw_aload_n dX0_carries_30 rfl ?_
    refine aw_get dX0_carries_31 fX0_28 rfl (hX.1 0 (by decide)) (by rfl) ?_
    refine aw_get dX0_carries_34 fX0_88 rfl (hX.st (i := 0) (by decide)) (by rfl) ?_
    refine aw_iload_n dX0_carries_37 rfl ?_
    refine xx_ialdS (i := 0) (b := 0) dX0_carries_38 hX (by decide) (by decide) (by omega) ?_
    try simp only [Nat.reduceMul, Nat.reduceAdd, Nat.zero_add]
    refine aw_aload_n dX0_carries_39 rfl ?_
    refine aw_get dX0_carries_40 fX0_19 rfl (hX.1 0 (by decide)) (by rfl) ?_
    refine aw_iload_n dX0_carries_43 rfl ?_
    refine AW_st (show _ = Value.int (sp_cv (o' + 1)) :: _ by rw [eo]) ?_
    refine xx_call0 dX0_carries_44 sX0_211 rfl hW hX (hq.mv hs hX0).xh hs (xh_brc hn hhv (c := o' + 1) (by omega)) rfl (hq.mv hs hX0).1 rfl rfl ⟨Nat.le_of_ble_eq_true rfl, Nat.le_of_ble_eq_true rfl⟩ (by exact Nat.le_of_ble_eq_true rfl) (fun h hX hs => ?_)
    refine aw_idivN dX0_carries_47 (by omega) (by omega) (by omega) ?_
    refine aw_mminN dX0_carries_48 q951 (by have := Nat.div_le_self (mm_a s 45 t') (sp_brc H (o' + 1)); omega) (by have := Nat.div_le_self (mm_a s 45 t') (sp_brc H (o' + 1)); omega) (Nat.le_of_ble_eq_true rfl) (Nat.le_of_ble_eq_true rfl) (Nat.le_of_ble_eq_true rfl) ?_
    refine aw_ireturn dX0_carries_51 rfl ?_
    exact ⟨by rw [t2, o2]; rfl, _, mm_core.rf, hX, hs⟩
  refine aw_aload_n dX0_carries_0 rfl ?_
  refine aw_iload_n dX0_carries_1 rfl ?_
  refine xx_call0 dX0_carries_2 sX0_188 rfl hW hX (hq.mv hs hX0).xh hs (xo_isT hn) rfl (hX.1 0 (by decide)) rfl rfl ⟨Nat.le_of_ble_eq_true rfl, Nat.le_of_ble_eq_true rfl⟩ (by exact Nat.le_of_ble_eq_true rfl) (fun h hX hs => ?_)
  refine aw_if_eqB (tgt := 21) dX0_carries_5 (by decide) (fun c_5 => ?_) (fun c_5 => ?_)
  · refine aw_iconst (v := -1) dX0_carries_21 rfl ?_
    refine aw_ireturn dX0_carries_22 rfl ?_
    refine ⟨?_, _, mm_core.rf, hX, hs⟩
    rw [no (fun z => by first | exact c_5 z.1 | exact c_13 z.2.1 | exact z.2.2 c_18)]
  · refine aw_aload_n dX0_carries_8 rfl ?_
    refine aw_iload_n dX0_carries_9 rfl ?_
    refine xx_call0 dX0_carries_10 sX0_188 rfl hW hX (hq.mv hs hX0).xh hs (xo_isT hn) rfl (hX.1 0 (by decide)) rfl rfl ⟨Nat.le_of_ble_eq_true rfl, Nat.le_of_ble_eq_true rfl⟩ (by exact Nat.le_of_ble_eq_true rfl) (fun h hX hs => ?_)
    refine aw_if_eqB (tgt := 21) dX0_carries_13 (by decide) (fun c_13 => ?_) (fun c_13 => ?_)
    · refine aw_iconst (v := -1) dX0_carries_21 rfl ?_
      refine aw_ireturn dX0_carries_22 rfl ?_
      refine ⟨?_, _, mm_core.rf, hX, hs⟩
      rw [no (fun z => by first | exact c_5 z.1 | exact c_13 z.2.1 | exact z.2.2 c_18)]
    · refine aw_iload_n dX0_carries_16 rfl ?_
      refine aw_iload_n dX0_carries_17 rfl ?_
      refine aw_icmp_ne (tgt := 23) dX0_carries_18 (by decide) (fun c_18 => ?_) (fun c_18 => ?_)
      · exact go h hX hs c_5 c_13 c_18
      · refine aw_iconst (v := -1) dX0_carries_21 rfl ?_
        refine aw_ireturn dX0_carries_22 rfl ?_
        refine ⟨?_, _, mm_core.rf, hX, hs⟩
        rw [no (fun z => by first | exact c_5 z.1 | exact c_13 z.2.1 | exact z.2.2 c_18)]

