set_option maxRecDepth 100000
/-! the model: marks -/
def mm_markS (s : mm_S) (so of b : Nat) : mm_S := mm_setN (mm_setV (mm_setA (mm_setA (mm_setA (mm_setA s 59 (aw_u (mm_a s 59) (mm_n s 64) so)) 60 (aw_u (mm_a s 60) (mm_n s 64) of)) 63 (aw_u (mm_a s 63) (mm_n s 64) b)) 61 (aw_u (mm_a s 61) (mm_n s 64) (mm_n s 65))) 62 (aw_u (mm_v s 62) (mm_n s 64) (-1))) 64 (mm_n s 64 + 1)
def op_mark (s : mm_S) : Int32 := if mm_n s 64 = 30 then -1 else nI (mm_n s 64)
def op_markS (s : mm_S) (so of b : Nat) : mm_S := if mm_n s 64 = 30 then s else mm_markS s so of b
set_option maxHeartbeats 4000000 in
theorem mm_mark {s : mm_S} {so of b : Nat} (hm : mm_n s 64 ≤ 30) (hb : b < 2) : mm_Met yX5_mark cX5_mark 4 (some .int) 0 [.int (nI (so)), .int (nI (of)), .int (nI (b))] s (some (.int (op_mark s))) (op_markS s so of b) := by
  refine mm_Met.of (by decide +kernel) (fun _ => Nat.le_of_ble_eq_true rfl) (fun G w h0 hW hR => ?_)
  have hs : mm_same w h0 h0 := mm_same.rf
  show AW G (aw_rm 0 0 0) yX5_mark cX5_mark 4 (some .int) (aw_N G (mm_Po G w h0 (some (.int (op_mark s))) (op_markS s so of b)) 0 0) 0 0 h0 0 [(0, .ref w.1), (1, .int (nI (so))), (2, .int (nI (of))), (3, .int (nI (b)))] []
  refine aw_aload_n dX5_mark_0 rfl ?_
  refine aw_get dX5_mark_1 fX5_362 rfl hR.1 (by rfl) ?_
  refine aw_bipush (v := nI 30) dX5_mark_4 rfl ?_
  refine aw_icmp_neN (tgt := 11) dX5_mark_6 (by decide) (by omega) (by omega) (fun c_6 => ?_) (fun c_6 => ?_)
  · refine aw_aload_n dX5_mark_11 rfl ?_
    refine aw_get dX5_mark_12 fX5_118 rfl hR.1 (by rfl) ?_
    refine aw_aload_n dX5_mark_15 rfl ?_
    refine aw_get dX5_mark_16 fX5_362 rfl hR.1 (by rfl) ?_
    refine aw_iload_n dX5_mark_19 rfl ?_
    refine mm_iast (k := 59) rfl hW hR hs dX5_mark_20 (by omega) (by decide) (fun h hR hs => ?_)
    refine aw_aload_n dX5_mark_21 rfl ?_
    refine aw_get dX5_mark_22 fX5_121 rfl hR.1 (by rfl) ?_
    refine aw_aload_n dX5_mark_25 rfl ?_
    refine aw_get dX5_mark_26 fX5_362 rfl hR.1 (by rfl) ?_
    try simp only [mm_n_N, mm_n_A, mm_n_V, mm_n_Fp, mm_n_W, mm_n_Nm, mm_a_N, mm_a_A, mm_a_V, mm_a_Fp, mm_a_W, mm_a_Nm, mm_v_N, mm_v_A, mm_v_V, mm_fp_N, mm_fp_A, mm_fp_Fp, mm_w_N, mm_w_W, Nat.reduceEqDiff, reduceIte, if_true, if_false, mm_H_45, mm_H_46, mm_H_47, mm_H_50, mm_H_53, mm_H_54, mm_H_55, mm_H_56, mm_H_57, mm_H_58, mm_H_66, mm_H_67, mm_H_68]
    refine aw_iload_n dX5_mark_29 rfl ?_
    refine mm_iast (k := 60) rfl hW hR hs dX5_mark_30 (by omega) (by decide) (fun h hR hs => ?_)
    refine aw_aload_n dX5_mark_31 rfl ?_
    refine aw_get dX5_mark_32 fX5_130 rfl hR.1 (by rfl) ?_
    refine aw_aload_n dX5_mark_35 rfl ?_
    refine aw_get dX5_mark_36 fX5_362 rfl hR.1 (by rfl) ?_
    try simp only [mm_n_N, mm_n_A, mm_n_V, mm_n_Fp, mm_n_W, mm_n_Nm, mm_a_N, mm_a_A, mm_a_V, mm_a_Fp, mm_a_W, mm_a_Nm, mm_v_N, mm_v_A, mm_v_V, mm_fp_N, mm_fp_A, mm_fp_Fp, mm_w_N, mm_w_W, Nat.reduceEqDiff, reduceIte, if_true, if_false, mm_H_45, mm_H_46, mm_H_47, mm_H_50, mm_H_53, mm_H_54, mm_H_55, mm_H_56, mm_H_57, mm_H_58, mm_H_66, mm_H_67, mm_H_68]
    refine aw_iload_n dX5_mark_39 rfl ?_
    refine mm_zast (k := 63) rfl hW hR hs dX5_mark_40 (by omega) (by decide) (by omega) (fun h hR hs => ?_)
    refine aw_aload_n dX5_mark_41 rfl ?_
    refine aw_get dX5_mark_42 fX5_124 rfl hR.1 (by rfl) ?_
    refine aw_aload_n dX5_mark_45 rfl ?_
    refine aw_get dX5_mark_46 fX5_362 rfl hR.1 (by rfl) ?_
    try simp only [mm_n_N, mm_n_A, mm_n_V, mm_n_Fp, mm_n_W, mm_n_Nm, mm_a_N, mm_a_A, mm_a_V, mm_a_Fp, mm_a_W, mm_a_Nm, mm_v_N, mm_v_A, mm_v_V, mm_fp_N, mm_fp_A, mm_fp_Fp, mm_w_N, mm_w_W, Nat.reduceEqDiff, reduceIte, if_true, if_false, mm_H_45, mm_H_46, mm_H_47, mm_H_50, mm_H_53, mm_H_54, mm_H_55, mm_H_56, mm_H_57, mm_H_58, mm_H_66, mm_H_67, mm_H_68]
    refine aw_aload_n dX5_mark_49 rfl ?_
    refine aw_get dX5_mark_50 fX5_485 rfl hR.1 (by rfl) ?_
    try simp only [mm_n_N, mm_n_A, mm_n_V, mm_n_Fp, mm_n_W, mm_n_Nm, mm_a_N, mm_a_A, mm_a_V, mm_a_Fp, mm_a_W, mm_a_Nm, mm_v_N, mm_v_A, mm_v_V, mm_fp_N, mm_fp_A, mm_fp_Fp, mm_w_N, mm_w_W, Nat.reduceEqDiff, reduceIte, if_true, if_false, mm_H_45, mm_H_46, mm_H_47, mm_H_50, mm_H_53, mm_H_54, mm_H_55, mm_H_56, mm_H_57, mm_H_58, mm_H_66, mm_H_67, mm_H_68]
    refine mm_iast (k := 61) rfl hW hR hs dX5_mark_53 (by omega) (by decide) (fun h hR hs => ?_)
    refine aw_aload_n dX5_mark_54 rfl ?_
    refine aw_get dX5_mark_55 fX5_127 rfl hR.1 (by rfl) ?_
    refine aw_aload_n dX5_mark_58 rfl ?_
    refine aw_get dX5_mark_59 fX5_362 rfl hR.1 (by rfl) ?_
    try simp only [mm_n_N, mm_n_A, mm_n_V, mm_n_Fp, mm_n_W, mm_n_Nm, mm_a_N, mm_a_A, mm_a_V, mm_a_Fp, mm_a_W, mm_a_Nm, mm_v_N, mm_v_A, mm_v_V, mm_fp_N, mm_fp_A, mm_fp_Fp, mm_w_N, mm_w_W, Nat.reduceEqDiff, reduceIte, if_true, if_false, mm_H_45, mm_H_46, mm_H_47, mm_H_50, mm_H_53, mm_H_54, mm_H_55, mm_H_56, mm_H_57, mm_H_58, mm_H_66, mm_H_67, mm_H_68]
    refine aw_iconst (v := -1) dX5_mark_62 rfl ?_
    refine mm_vast (k := 62) rfl hW hR hs dX5_mark_63 (by omega) (by decide) (fun h hR hs => ?_)
    refine aw_aload_n dX5_mark_64 rfl ?_
    refine aw_dup dX5_mark_65 rfl ?_
    refine aw_get dX5_mark_66 fX5_362 rfl hR.1 (by rfl) ?_
    try simp only [mm_n_N, mm_n_A, mm_n_V, mm_n_Fp, mm_n_W, mm_n_Nm, mm_a_N, mm_a_A, mm_a_V, mm_a_Fp, mm_a_W, mm_a_Nm, mm_v_N, mm_v_A, mm_v_V, mm_fp_N, mm_fp_A, mm_fp_Fp, mm_w_N, mm_w_W, Nat.reduceEqDiff, reduceIte, if_true, if_false, mm_H_45, mm_H_46, mm_H_47, mm_H_50, mm_H_53, mm_H_54, mm_H_55, mm_H_56, mm_H_57, mm_H_58, mm_H_66, mm_H_67, mm_H_68]
    refine aw_iconst (v := nI 1) dX5_mark_69 rfl ?_
    refine aw_iaddN dX5_mark_70 ?_
    refine mm_putN (k := 64) hW hR hs dX5_mark_71 (pX5_362 _) rfl rfl (mm_F_set64 _ _ _) (by decide) (fun h hR hs => ?_)
    refine aw_aload_n dX5_mark_74 rfl ?_
    refine aw_get dX5_mark_75 fX5_362 rfl hR.1 (by rfl) ?_
    try simp only [mm_n_N, mm_n_A, mm_n_V, mm_n_Fp, mm_n_W, mm_n_Nm, mm_a_N, mm_a_A, mm_a_V, mm_a_Fp, mm_a_W, mm_a_Nm, mm_v_N, mm_v_A, mm_v_V, mm_fp_N, mm_fp_A, mm_fp_Fp, mm_w_N, mm_w_W, Nat.reduceEqDiff, reduceIte, if_true, if_false, mm_H_45, mm_H_46, mm_H_47, mm_H_50, mm_H_53, mm_H_54, mm_H_55, mm_H_56, mm_H_57, mm_H_58, mm_H_66, mm_H_67, mm_H_68]
    refine aw_iconst (v := nI 1) dX5_mark_78 rfl ?_
    refine aw_isubN dX5_mark_79 (by omega) ?_
    refine aw_ireturn dX5_mark_80 rfl ?_
    refine ⟨?_, mm_eq hR ?_, hs⟩
    · rw [op_mark, if_neg (by omega)]
      try simp only [mm_n_N, mm_n_A, mm_n_V, mm_n_Fp, mm_n_W, mm_n_Nm, mm_a_N, mm_a_A, mm_a_V, mm_a_Fp, mm_a_W, mm_a_Nm, mm_v_N, mm_v_A, mm_v_V, mm_fp_N, mm_fp_A, mm_fp_Fp, mm_w_N, mm_w_W, Nat.reduceEqDiff, reduceIte, if_true, if_false, mm_H_45, mm_H_46, mm_H_47, mm_H_50, mm_H_53, mm_H_54, mm_H_55, mm_H_56, mm_H_57, mm_H_58, mm_H_66, mm_H_67, mm_H_68]
      first
        | rfl
        | rw [Nat.add_sub_cancel]
        | (show nI (_ + 1 - 1) = _; rw [Nat.add_sub_cancel])
    · rw [op_markS, if_neg (by omega)]
      rfl
  · refine aw_iconst (v := -1) dX5_mark_9 rfl ?_
    refine aw_ireturn dX5_mark_10 rfl ?_
    exact ⟨by rw [op_mark, if_pos (by omega)], mm_eq hR (by rw [op_markS, if_pos (by omega)]), hs⟩
noncomputable def op_chalk (s : mm_S) (a : Int32) : Int32 := aw_if (0 ≤ a.toInt ∧ a.toInt ≤ (mm_n s 41 : Int)) (op_mark s) (-1)
noncomputable def op_chalkS (s : mm_S) (a : Int32) (b : Nat) : mm_S := aw_if (0 ≤ a.toInt ∧ a.toInt ≤ (mm_n s 41 : Int)) (op_markS s 0 a.toNatClampNeg b) s
noncomputable def op_tread (s : mm_S) (a : Int32) : Int32 := aw_if (0 ≤ a.toInt ∧ a.toInt ≤ 9) (op_mark s) (-1)
noncomputable def op_treadS (s : mm_S) (a : Int32) (b : Nat) : mm_S := aw_if (0 ≤ a.toInt ∧ a.toInt ≤ 9) (op_markS s 1 a.toNatClampNeg b) s
set_option maxHeartbeats 4000000 in
theorem mo_chalk {s : mm_S} {a : Int32} {b : Nat} (hH : sp_okH (mm_H s)) (hm : mm_n s 64 ≤ 30) (hb : b < 2) : mm_Op yX5_chalk cX5_chalk 3 (some .int) 1 [.int (a), .int (nI (b))] s (some (.int (op_chalk s a))) (op_chalkS s a b) := by
  refine mm_Op.of (by decide +kernel) (fun _ => Nat.le_of_ble_eq_true rfl) (fun G w h0 hW hR => ?_)
  have hs : mm_same w h0 h0 := mm_same.rf
  show AW G (aw_rm 1 0 0) yX5_chalk cX5_chalk 3 (some .int) (aw_N G (mm_PoC G w h0 (some (.int (op_chalk s a))) (op_chalkS s a b)) 0 0) 0 0 h0 0 [(0, .ref w.1), (1, .int (a)), (2, .int (nI (b)))] []
  have hs1 : 1 ≤ mm_n s 41 := hH.1.1; have hs20 : mm_n s 41 ≤ 20 := hH.1.2; have hn : mm_n s 42 ≤ 8 := hH.2.1; have hlv : ∀ t, t < 8 → mm_a s 32 t ≤ 20 := fun t ht => (hH.2.2.1 t ht).1; have hsg : ∀ t, t < 8 → mm_a s 33 t ≤ 40 := fun t ht => (hH.2.2.1 t ht).2.1; have hhv : ∀ t, t < 8 → mm_a s 34 t ≤ 9 := fun t ht => (hH.2.2.1 t ht).2.2.1; have how : ∀ t, t < 8 → mm_a s 35 t ≤ 999 := fun t ht => (hH.2.2.1 t ht).2.2.2.1; have hfl : ∀ t, t < 8 → mm_a s 36 t ≤ 100 := fun t ht => (hH.2.2.1 t ht).2.2.2.2; have hF0 : sp_fok (mm_steps s 0) := hH.2.2.2.1; have hF1 : sp_fok (mm_steps s 1) := hH.2.2.2.2; have h42 : sp_hn (mm_H s) = mm_n s 42 := rfl; have h41 : sp_hs (mm_H s) = mm_n s 41 := rfl
  have e41 : (nI (mm_n s 41)).toInt = mm_n s 41 := aw_ti (by omega)
  refine aw_iload_n dX5_chalk_0 rfl ?_
  refine aw_iconst (v := nI 0) dX5_chalk_1 rfl ?_
  refine aw_aload_n dX5_chalk_2 rfl ?_
  refine aw_get dX5_chalk_3 fX5_82 rfl hR.1 (by rfl) ?_
  refine aw_callP (r := _) dX5_chalk_6 sX5_368 rfl (mp_isIn) rfl rfl ⟨Nat.le_of_ble_eq_true rfl, Nat.le_of_ble_eq_true rfl⟩ (Nat.le_of_ble_eq_true rfl) ?_
  refine aw_if_eqB (tgt := 22) dX5_chalk_9 (by decide) (fun c_9 => ?_) (fun c_9 => ?_)
  · refine aw_iconst (v := -1) dX5_chalk_22 rfl ?_
    refine aw_ireturn dX5_chalk_23 rfl ?_
    first
      | (refine ⟨?_, _, ?_, hR, hs⟩
         · rw [op_chalk, aw_if1 z]
         · rw [op_chalkS, aw_if1 z, a2]
           exact mm_core.rf)
      | (have z : ¬ (0 ≤ a.toInt ∧ a.toInt ≤ (mm_n s 41 : Int)) := by
           rw [e41] at c_9
           exact c_9
         exact ⟨by rw [op_chalk, aw_if0 z], _, by rw [op_chalkS, aw_if0 z]; exact mm_core.rf, hR, hs⟩)
  · have z : 0 ≤ a.toInt ∧ a.toInt ≤ (mm_n s 41 : Int) := by
      rw [e41] at c_9
      exact c_9
    obtain ⟨a', ha', ea, a1, a2⟩ := aw_ofN (x := a) z.1
    refine AW_ls (show _ = [(0, .ref w.1), (1, .int (nI a')), (2, .int (nI b))] by rw [← ea]) ?_
    refine aw_aload_n dX5_chalk_12 rfl ?_
    refine aw_iconst (v := nI 0) dX5_chalk_13 rfl ?_
    refine aw_iload_n dX5_chalk_14 rfl ?_
    refine aw_iload_n dX5_chalk_15 rfl ?_
    refine mm_call dX5_chalk_16 sX5_488 rfl hW hR hs (mm_mark hm hb) rfl rfl ⟨Nat.le_of_ble_eq_true rfl, Nat.le_of_ble_eq_true rfl⟩ (Nat.le_of_ble_eq_true rfl) (fun h hR hs => ?_)
    refine aw_goto (tgt := 23) dX5_chalk_19 (by decide) ?_
    refine aw_ireturn dX5_chalk_23 rfl ?_
    first
      | (refine ⟨?_, _, ?_, hR, hs⟩
         · rw [op_chalk, aw_if1 z]
         · rw [op_chalkS, aw_if1 z, a2]
           exact mm_core.rf)
      | (have z : ¬ (0 ≤ a.toInt ∧ a.toInt ≤ (mm_n s 41 : Int)) := by
           rw [e41] at c_9
           exact c_9
         exact ⟨by rw [op_chalk, aw_if0 z], _, by rw [op_chalkS, aw_if0 z]; exact mm_core.rf, hR, hs⟩)
set_option maxHeartbeats 4000000 in
theorem mo_tread {s : mm_S} {a : Int32} {b : Nat} (hm : mm_n s 64 ≤ 30) (hb : b < 2) : mm_Op yX5_tread cX5_tread 3 (some .int) 1 [.int (a), .int (nI (b))] s (some (.int (op_tread s a))) (op_treadS s a b) := by
  refine mm_Op.of (by decide +kernel) (fun _ => Nat.le_of_ble_eq_true rfl) (fun G w h0 hW hR => ?_)
  have hs : mm_same w h0 h0 := mm_same.rf
  show AW G (aw_rm 1 0 0) yX5_tread cX5_tread 3 (some .int) (aw_N G (mm_PoC G w h0 (some (.int (op_tread s a))) (op_treadS s a b)) 0 0) 0 0 h0 0 [(0, .ref w.1), (1, .int (a)), (2, .int (nI (b)))] []
  refine aw_iload_n dX5_tread_0 rfl ?_
  refine aw_iconst (v := nI 0) dX5_tread_1 rfl ?_
  refine aw_bipush (v := nI 9) dX5_tread_2 rfl ?_
  refine aw_callP (r := _) dX5_tread_4 sX5_368 rfl (mp_isIn) rfl rfl ⟨Nat.le_of_ble_eq_true rfl, Nat.le_of_ble_eq_true rfl⟩ (Nat.le_of_ble_eq_true rfl) ?_
  refine aw_if_eqB (tgt := 20) dX5_tread_7 (by decide) (fun c_7 => ?_) (fun c_7 => ?_)
  · refine aw_iconst (v := -1) dX5_tread_20 rfl ?_
    refine aw_ireturn dX5_tread_21 rfl ?_
    first
      | (refine ⟨?_, _, ?_, hR, hs⟩
         · rw [op_tread, aw_if1 z]
         · rw [op_treadS, aw_if1 z, a2]
           exact mm_core.rf)
      | (have z : ¬ (0 ≤ a.toInt ∧ a.toInt ≤ 9) := c_7
         exact ⟨by rw [op_tread, aw_if0 z], _, by rw [op_treadS, aw_if0 z]; exact mm_core.rf, hR, hs⟩)
  · have z : 0 ≤ a.toInt ∧ a.toInt ≤ 9 := c_7
    obtain ⟨a', ha', ea, a1, a2⟩ := aw_ofN (x := a) z.1
    refine AW_ls (show _ = [(0, .ref w.1), (1, .int (nI a')), (2, .int (nI b))] by rw [← ea]) ?_
    refine aw_aload_n dX5_tread_10 rfl ?_
    refine aw_iconst (v := nI 1) dX5_tread_11 rfl ?_
    refine aw_iload_n dX5_tread_12 rfl ?_
    refine aw_iload_n dX5_tread_13 rfl ?_
    refine mm_call dX5_tread_14 sX5_488 rfl hW hR hs (mm_mark hm hb) rfl rfl ⟨Nat.le_of_ble_eq_true rfl, Nat.le_of_ble_eq_true rfl⟩ (Nat.le_of_ble_eq_true rfl) (fun h hR hs => ?_)
    refine aw_goto (tgt := 21) dX5_tread_17 (by decide) ?_
    refine aw_ireturn dX5_tread_21 rfl ?_
    first
      | (refine ⟨?_, _, ?_, hR, hs⟩
         · rw [op_tread, aw_if1 z]
         · rw [op_treadS, aw_if1 z, a2]
           exact mm_core.rf)
      | (have z : ¬ (0 ≤ a.toInt ∧ a.toInt ≤ 9) := c_7
         exact ⟨by rw [op_tread, aw_if0 z], _, by rw [op_treadS, aw_if0 z]; exact mm_core.rf, hR, hs⟩)
def op_untellP (s : mm_S) (i : Int32) : Prop := (0 ≤ i.toInt ∧ i.toInt < (mm_n s 64 : Int)) ∧ (mm_v s 62 i.toNatClampNeg).toInt < 0
noncomputable def op_untellS (s : mm_S) (i : Int32) : mm_S := aw_if (op_untellP s i) (mm_setV s 62 (aw_u (mm_v s 62) i.toNatClampNeg (nI (mm_n s 65)))) s
set_option maxHeartbeats 4000000 in
theorem mo_untell {s : mm_S} {i : Int32} {dc : Decidable (op_untellP s i)} (hm : mm_n s 64 ≤ 30) : mm_Op yX5_untell cX5_untell 2 (some .boolean) 1 [.int (i)] s (some (.int (nI (aw_t (op_untellP s i))))) (op_untellS s i) := by
  refine mm_Op.of (by decide +kernel) (fun _ => Nat.le_of_ble_eq_true rfl) (fun G w h0 hW hR => ?_)
  have hs : mm_same w h0 h0 := mm_same.rf
  show AW G (aw_rm 1 0 0) yX5_untell cX5_untell 2 (some .boolean) (aw_N G (mm_PoC G w h0 (some (.int (nI (aw_t (op_untellP s i))))) (op_untellS s i)) 0 0) 0 0 h0 0 [(0, .ref w.1), (1, .int (i))] []
  have e1 : (nI (mm_n s 64) - nI 1).toInt = (mm_n s 64 : Int) - 1 := pk_sub_toInt (by omega) (by omega)
  have e0 : (nI 0).toInt = 0 := rfl
  refine aw_iload_n dX5_untell_0 rfl ?_
  refine aw_iconst (v := nI 0) dX5_untell_1 rfl ?_
  refine aw_aload_n dX5_untell_2 rfl ?_
  refine aw_get dX5_untell_3 fX5_362 rfl hR.1 (by rfl) ?_
  refine aw_iconst (v := nI 1) dX5_untell_6 rfl ?_
  refine aw_isub dX5_untell_7 ?_
  refine aw_callP (r := _) dX5_untell_8 sX5_368 rfl (mp_isIn) rfl rfl ⟨Nat.le_of_ble_eq_true rfl, Nat.le_of_ble_eq_true rfl⟩ (Nat.le_of_ble_eq_true rfl) ?_
  refine aw_if_eqB (tgt := 23) dX5_untell_11 (by decide) (fun c_11 => ?_) (fun c_11 => ?_)
  · refine aw_iconst (v := nI 0) dX5_untell_23 rfl ?_
    refine aw_zreturn dX5_untell_24 rfl rfl ?_
    have z : ¬ op_untellP s i := by
      unfold op_untellP
      first
        | (rw [i2]; intro z; exact c_20 (by rw [aw_i0]; exact z.2))
        | (intro z; omega)
    exact ⟨by rw [aw_t0 z], _, by rw [op_untellS, aw_if0 z]; exact mm_core.rf, hR, hs⟩
  · obtain ⟨i', hi', ei, i1, i2⟩ := aw_ofN (x := i) (by omega)
    refine AW_ls (show _ = [(0, .ref w.1), (1, .int (nI i'))] by rw [← ei]) ?_
    refine aw_aload_n dX5_untell_14 rfl ?_
    refine aw_get dX5_untell_15 fX5_127 rfl hR.1 (by rfl) ?_
    refine aw_iload_n dX5_untell_18 rfl ?_
    refine aw_ialdN dX5_untell_19 (hR.2.2.2.1 62 30 rfl) (by omega) (by decide) ?_
    refine aw_if_lt (tgt := 25) dX5_untell_20 (by decide) (fun c_20 => ?_) (fun c_20 => ?_)
    · refine aw_aload_n dX5_untell_25 rfl ?_
      refine aw_get dX5_untell_26 fX5_127 rfl hR.1 (by rfl) ?_
      refine aw_iload_n dX5_untell_29 rfl ?_
      refine aw_aload_n dX5_untell_30 rfl ?_
      refine aw_get dX5_untell_31 fX5_485 rfl hR.1 (by rfl) ?_
      refine mm_vast (k := 62) rfl hW hR hs dX5_untell_34 (by omega) (by decide) (fun h hR hs => ?_)
      refine aw_iconst (v := nI 1) dX5_untell_35 rfl ?_
      refine aw_zreturn dX5_untell_36 rfl rfl ?_
      have z : op_untellP s i := by
        unfold op_untellP
        rw [i2]
        rw [aw_i0] at c_20
        exact ⟨by omega, c_20⟩
      exact ⟨by rw [aw_t1 z], _, by rw [op_untellS, aw_if1 z, i2]; exact mm_core.rf, hR, hs⟩
    · refine aw_iconst (v := nI 0) dX5_untell_23 rfl ?_
      refine aw_zreturn dX5_untell_24 rfl rfl ?_
      have z : ¬ op_untellP s i := by
        unfold op_untellP
        first
          | (rw [i2]; intro z; exact c_20 (by rw [aw_i0]; exact z.2))
          | (intro z; omega)
      exact ⟨by rw [aw_t0 z], _, by rw [op_untellS, aw_if0 z]; exact mm_core.rf, hR, hs⟩
/-- what a mark says of a run: whether its place or its heaviness is so -/
def sp_soN (s : mm_S) (j t f o : Nat) : Nat := if mm_a s 59 j = 0 then (if f ≤ mm_a s 60 j ∧ mm_a s 60 j ≤ o then 1 else 0) else (if mm_a s 60 j ≤ mm_a s 34 t then 1 else 0)
/-- a mark isn't told yet, or taken back, or fits -/
def sp_fit (s : mm_S) (t f o : Nat) (k : Int32) (j : Nat) : Bool := decide (k.toInt < (mm_a s 61 j : Int)) || (decide (0 ≤ (mm_v s 62 j).toInt) && decide ((mm_v s 62 j).toInt ≤ k.toInt)) || decide (sp_soN s j t f o = mm_a s 63 j)
def sp_fits (s : mm_S) (t f o : Nat) (k : Int32) : Nat → Bool
  | 0 => decide (o - f ≤ mm_a s 33 t)
  | j + 1 => sp_fits s t f o k j && sp_fit s t f o k j
theorem sp_fits_no {s : mm_S} {t f o : Nat} {k : Int32} {j : Nat} (h : sp_fits s t f o k j = false) : ∀ n, j ≤ n → sp_fits s t f o k n = false := by
  intro n
  induction n with
  | zero => intro hn; rw [show j = 0 by omega] at h; exact h
  | succ n ih =>
    intro hn
    by_cases e : j = n + 1
    · rw [← e]; exact h
    · show (sp_fits s t f o k n && _) = false
      rw [ih (by omega)]
      rfl
/-- this is a run: all marks fit -/
def sp_isR (s : mm_S) (t f o : Nat) (k : Int32) : Nat := if sp_fits s t f o k (mm_n s 64) then 1 else 0
theorem sp_isR_lt {s : mm_S} {t f o : Nat} {k : Int32} : sp_isR s t f o k < 2 := by unfold sp_isR; split <;> decide
/-- bounds of marks -/
def mm_okM (s : mm_S) : Prop := mm_n s 64 ≤ 30 ∧ ∀ j, j < 30 → mm_a s 59 j < 2 ∧ mm_a s 60 j ≤ 20 ∧ mm_a s 61 j ≤ 100000 ∧ mm_a s 63 j < 2
set_option maxHeartbeats 4000000 in
theorem mm_isRun {s : mm_S} {t f o : Nat} {k : Int32} (hH : sp_okH (mm_H s)) (hM : mm_okM s) (ht : t < 8) (hfo : f ≤ o) (ho : o ≤ 20) : mm_Met yX5_isRun cX5_isRun 8 (some .boolean) 1 [.int (nI (t)), .int (nI (f)), .int (nI (o)), .int (k)] s (some (.int (nI (sp_isR s t f o k)))) (s) := by
  refine mm_Met.of (by decide +kernel) (fun _ => Nat.le_of_ble_eq_true rfl) (fun G w h0 hW hR => ?_)
  have hs : mm_same w h0 h0 := mm_same.rf
  show AW G (aw_rm 1 0 0) yX5_isRun cX5_isRun 8 (some .boolean) (aw_N G (mm_Po G w h0 (some (.int (nI (sp_isR s t f o k)))) (s)) 0 0) 0 0 h0 0 [(0, .ref w.1), (1, .int (nI (t))), (2, .int (nI (f))), (3, .int (nI (o))), (4, .int (k))] []
  have hs1 : 1 ≤ mm_n s 41 := hH.1.1; have hs20 : mm_n s 41 ≤ 20 := hH.1.2; have hn : mm_n s 42 ≤ 8 := hH.2.1; have hlv : ∀ t, t < 8 → mm_a s 32 t ≤ 20 := fun t ht => (hH.2.2.1 t ht).1; have hsg : ∀ t, t < 8 → mm_a s 33 t ≤ 40 := fun t ht => (hH.2.2.1 t ht).2.1; have hhv : ∀ t, t < 8 → mm_a s 34 t ≤ 9 := fun t ht => (hH.2.2.1 t ht).2.2.1; have how : ∀ t, t < 8 → mm_a s 35 t ≤ 999 := fun t ht => (hH.2.2.1 t ht).2.2.2.1; have hfl : ∀ t, t < 8 → mm_a s 36 t ≤ 100 := fun t ht => (hH.2.2.1 t ht).2.2.2.2; have hF0 : sp_fok (mm_steps s 0) := hH.2.2.2.1; have hF1 : sp_fok (mm_steps s 1) := hH.2.2.2.2; have h42 : sp_hn (mm_H s) = mm_n s 42 := rfl; have h41 : sp_hs (mm_H s) = mm_n s 41 := rfl
  have q33 := hsg t ht
  have q34 := hhv t ht
  have hm := hM.1
  have loop : ∀ (m j b : Nat) (h : aw_H) (lsx : List (Nat × Value)), (lsx = [] ∨ ∃ z, lsx = [(7, .int z)]) → mm_n s 64 - j = m → j ≤ mm_n s 64 → (b = 1 ∧ sp_fits s t f o k j = true ∨ b = 0 ∧ sp_fits s t f o k j = false) → AW G (aw_rm 1 0 0) yX5_isRun cX5_isRun 8 (some .boolean) (aw_N G (mm_Po G w h0 (some (.int (nI (sp_isR s t f o k)))) s) 0 0) 0 0 h0 22 ((0, .ref w.1) :: (1, .int (nI t)) :: (2, .int (nI f)) :: (3, .int (nI o)) :: (4, .int k) :: (5, .int (nI b)) :: (6, .int (nI j)) :: lsx) [] := by
    intro m
    induction m using Nat.strongRecOn with
    | _ m ih =>
      intro j b h lsx hls hm9 hj hb
      have fin : (b = 0 ∨ j = mm_n s 64) → nI b = nI (sp_isR s t f o k) := by
        intro z
        unfold sp_isR
        rcases hb with ⟨e, e2⟩ | ⟨e, e2⟩
        · rw [show mm_n s 64 = j by omega, e2, e]; rfl
        · rw [sp_fits_no e2 _ hj, e]; rfl
      by_cases hj9 : j < mm_n s 64 ∧ b = 1
      · obtain ⟨hj1, hb1⟩ := hj9
        obtain ⟨g1, g2, g3, g4⟩ := hM.2 j (by omega)
        have hfj : sp_fits s t f o k j = true := by
          rcases hb with ⟨-, e⟩ | ⟨e, -⟩
          · exact e
          · omega
        have eS : sp_fits s t f o k (j + 1) = (sp_fits s t f o k j && sp_fit s t f o k j) := rfl
        rw [hfj, Bool.true_and] at eS
        subst hb1
        have e61 : (nI (mm_a s 61 j)).toInt = mm_a s 61 j := aw_ti (by omega)
        have e1 : (nI f).toInt = f := aw_ti (by omega)
        have e2 : (nI o).toInt = o := aw_ti (by omega)
        have e3 : (nI (mm_a s 60 j)).toInt = mm_a s 60 j := aw_ti (by omega)
        have next : ∀ (b2 : Nat) (lsx : List (Nat × Value)), (lsx = [] ∨ ∃ z, lsx = [(7, .int z)]) → (b2 = 1 ∧ sp_fits s t f o k (j + 1) = true ∨ b2 = 0 ∧ sp_fits s t f o k (j + 1) = false) → AW G (aw_rm 1 0 0) yX5_isRun cX5_isRun 8 (some .boolean) (aw_N G (mm_Po G w h0 (some (.int (nI (sp_isR s t f o k)))) s) 0 0) 0 0 h0 140 ((0, .ref w.1) :: (1, .int (nI t)) :: (2, .int (nI f)) :: (3, .int (nI o)) :: (4, .int k) :: (5, .int (nI b2)) :: (6, .int (nI j)) :: lsx) [] := by
          intro b2 lsx hls hb2
          rcases hls with rfl | ⟨z, rfl⟩
          ·
            refine aw_iincN (b := 1) dX5_isRun_140 rfl rfl (by decide) rfl rfl ?_
            refine aw_goto (tgt := 22) dX5_isRun_143 (by decide) ?_
            exact ih (mm_n s 64 - (j + 1)) (by omega) (j + 1) b2 h _ (Or.inl rfl) rfl (by omega) hb2
          ·
            refine aw_iincN (b := 1) dX5_isRun_140 rfl rfl (by decide) rfl rfl ?_
            refine aw_goto (tgt := 22) dX5_isRun_143 (by decide) ?_
            exact ih (mm_n s 64 - (j + 1)) (by omega) (j + 1) b2 h _ (Or.inr ⟨z, rfl⟩) rfl (by omega) hb2
        have tail : ∀ (v : Nat), ¬ k.toInt < (mm_a s 61 j : Int) → ¬ (0 ≤ (mm_v s 62 j).toInt ∧ (mm_v s 62 j).toInt ≤ k.toInt) → v = sp_soN s j t f o → v < 2 → AW G (aw_rm 1 0 0) yX5_isRun cX5_isRun 8 (some .boolean) (aw_N G (mm_Po G w h0 (some (.int (nI (sp_isR s t f o k)))) (s)) 0 0) 0 0 h0 121 [(0, .ref w.1), (1, .int (nI t)), (2, .int (nI f)), (3, .int (nI o)), (4, .int k), (5, .int (nI 1)), (6, .int (nI j)), (7, .int (nI v))] [] := by
          intro v z1 z2 ev hv2
          have ef : sp_fit s t f o k j = decide (sp_soN s j t f o = mm_a s 63 j) := by
            unfold sp_fit
            rw [decide_eq_false z1, Bool.false_or]
            by_cases y : 0 ≤ (mm_v s 62 j).toInt
            · rw [decide_eq_true y, decide_eq_false (fun z => z2 ⟨y, z⟩)]; rfl
            · rw [decide_eq_false y]; rfl
          refine aw_iload dX5_isRun_121 rfl ?_
          refine aw_aload_n dX5_isRun_123 rfl ?_
          refine aw_get dX5_isRun_124 fX5_130 rfl hR.1 (by rfl) ?_
          refine aw_iload dX5_isRun_127 rfl ?_
          refine aw_zaldN dX5_isRun_129 (hR.2.2.1 63 30 rfl) (by omega) (by decide) ?_
          refine aw_icmp_neN (tgt := 137) dX5_isRun_130 (by decide) (by omega) (by omega) (fun c_130 => ?_) (fun c_130 => ?_)
          · refine aw_iconst (v := nI 0) dX5_isRun_137 rfl ?_
            refine aw_istore dX5_isRun_138 (by decide) rfl rfl ?_
            refine next _ _ (Or.inr ⟨_, rfl⟩) ?_
            first
              | (refine Or.inl ⟨rfl, ?_⟩; rw [eS, ef, ← ev]; exact decide_eq_true c_130; done)
              | (refine Or.inr ⟨rfl, ?_⟩; rw [eS, ef, ← ev]; exact decide_eq_false c_130)
          · refine aw_iconst (v := nI 1) dX5_isRun_133 rfl ?_
            refine aw_goto (tgt := 138) dX5_isRun_134 (by decide) ?_
            refine aw_istore dX5_isRun_138 (by decide) rfl rfl ?_
            refine next _ _ (Or.inr ⟨_, rfl⟩) ?_
            first
              | (refine Or.inl ⟨rfl, ?_⟩; rw [eS, ef, ← ev]; exact decide_eq_true c_130; done)
              | (refine Or.inr ⟨rfl, ?_⟩; rw [eS, ef, ← ev]; exact decide_eq_false c_130)
        have mid : ∀ (lsx : List (Nat × Value)), (lsx = [] ∨ ∃ z, lsx = [(7, .int z)]) → ¬ k.toInt < (mm_a s 61 j : Int) → ¬ (0 ≤ (mm_v s 62 j).toInt ∧ (mm_v s 62 j).toInt ≤ k.toInt) → AW G (aw_rm 1 0 0) yX5_isRun cX5_isRun 8 (some .boolean) (aw_N G (mm_Po G w h0 (some (.int (nI (sp_isR s t f o k)))) s) 0 0) 0 0 h0 73 ((0, .ref w.1) :: (1, .int (nI t)) :: (2, .int (nI f)) :: (3, .int (nI o)) :: (4, .int k) :: (5, .int (nI 1)) :: (6, .int (nI j)) :: lsx) [] := by
          intro lsx hls z1 z2
          have eB : ∀ (dc : Decidable ((nI f).toInt ≤ (nI (mm_a s 60 j)).toInt ∧ (nI (mm_a s 60 j)).toInt ≤ (nI o).toInt)), mm_a s 59 j = 0 → @aw_t ((nI f).toInt ≤ (nI (mm_a s 60 j)).toInt ∧ (nI (mm_a s 60 j)).toInt ≤ (nI o).toInt) dc = sp_soN s j t f o := by
            intro dc z
            unfold sp_soN
            rw [if_pos z]
            unfold aw_t
            by_cases y : f ≤ mm_a s 60 j ∧ mm_a s 60 j ≤ o
            · rw [if_pos y, if_pos (by omega)]
            · rw [if_neg y, if_neg (by omega)]
          rcases hls with rfl | ⟨z, rfl⟩
          ·
            refine aw_aload_n dX5_isRun_73 rfl ?_
            refine aw_get dX5_isRun_74 fX5_118 rfl hR.1 (by rfl) ?_
            refine aw_iload dX5_isRun_77 rfl ?_
            refine aw_ialdN dX5_isRun_79 (hR.2.1 59 30 rfl) (by omega) (by decide) ?_
            refine aw_if_neN (tgt := 98) dX5_isRun_80 (by decide) (by omega) (fun c_80 => ?_) (fun c_80 => ?_)
            · refine aw_aload_n dX5_isRun_98 rfl ?_
              refine aw_get dX5_isRun_99 fX5_73 rfl hR.1 (by rfl) ?_
              refine aw_iload_n dX5_isRun_102 rfl ?_
              refine aw_ialdN dX5_isRun_103 (hR.2.1 34 8 rfl) (by omega) (by decide) ?_
              refine aw_aload_n dX5_isRun_104 rfl ?_
              refine aw_get dX5_isRun_105 fX5_121 rfl hR.1 (by rfl) ?_
              refine aw_iload dX5_isRun_108 rfl ?_
              refine aw_ialdN dX5_isRun_110 (hR.2.1 60 30 rfl) (by omega) (by decide) ?_
              refine aw_icmp_ltN (tgt := 118) dX5_isRun_111 (by decide) (by omega) (by omega) (fun c_111 => ?_) (fun c_111 => ?_)
              · refine aw_iconst (v := nI 0) dX5_isRun_118 rfl ?_
                refine aw_istore dX5_isRun_119 (by decide) rfl rfl ?_
                first
                  | exact tail _ z1 z2 (eB _ (by omega)) aw_t_lt
                  | exact tail 1 z1 z2 (by unfold sp_soN; rw [if_neg (by omega), if_pos (by omega)]) (by decide)
                  | exact tail 0 z1 z2 (by unfold sp_soN; rw [if_neg (by omega), if_neg (by omega)]) (by decide)
              · refine aw_iconst (v := nI 1) dX5_isRun_114 rfl ?_
                refine aw_goto (tgt := 119) dX5_isRun_115 (by decide) ?_
                refine aw_istore dX5_isRun_119 (by decide) rfl rfl ?_
                first
                  | exact tail _ z1 z2 (eB _ (by omega)) aw_t_lt
                  | exact tail 1 z1 z2 (by unfold sp_soN; rw [if_neg (by omega), if_pos (by omega)]) (by decide)
                  | exact tail 0 z1 z2 (by unfold sp_soN; rw [if_neg (by omega), if_neg (by omega)]) (by decide)
            · refine aw_aload_n dX5_isRun_83 rfl ?_
              refine aw_get dX5_isRun_84 fX5_121 rfl hR.1 (by rfl) ?_
              refine aw_iload dX5_isRun_87 rfl ?_
              refine aw_ialdN dX5_isRun_89 (hR.2.1 60 30 rfl) (by omega) (by decide) ?_
              refine aw_iload_n dX5_isRun_90 rfl ?_
              refine aw_iload_n dX5_isRun_91 rfl ?_
              refine aw_callP (r := _) dX5_isRun_92 sX5_368 rfl (mp_isIn) rfl rfl ⟨Nat.le_of_ble_eq_true rfl, Nat.le_of_ble_eq_true rfl⟩ (Nat.le_of_ble_eq_true rfl) ?_
              refine aw_goto (tgt := 119) dX5_isRun_95 (by decide) ?_
              refine aw_istore dX5_isRun_119 (by decide) rfl rfl ?_
              first
                | exact tail _ z1 z2 (eB _ (by omega)) aw_t_lt
                | exact tail 1 z1 z2 (by unfold sp_soN; rw [if_neg (by omega), if_pos (by omega)]) (by decide)
                | exact tail 0 z1 z2 (by unfold sp_soN; rw [if_neg (by omega), if_neg (by omega)]) (by decide)
          ·
            refine aw_aload_n dX5_isRun_73 rfl ?_
            refine aw_get dX5_isRun_74 fX5_118 rfl hR.1 (by rfl) ?_
            refine aw_iload dX5_isRun_77 rfl ?_
            refine aw_ialdN dX5_isRun_79 (hR.2.1 59 30 rfl) (by omega) (by decide) ?_
            refine aw_if_neN (tgt := 98) dX5_isRun_80 (by decide) (by omega) (fun c_80 => ?_) (fun c_80 => ?_)
            · refine aw_aload_n dX5_isRun_98 rfl ?_
              refine aw_get dX5_isRun_99 fX5_73 rfl hR.1 (by rfl) ?_
              refine aw_iload_n dX5_isRun_102 rfl ?_
              refine aw_ialdN dX5_isRun_103 (hR.2.1 34 8 rfl) (by omega) (by decide) ?_
              refine aw_aload_n dX5_isRun_104 rfl ?_
              refine aw_get dX5_isRun_105 fX5_121 rfl hR.1 (by rfl) ?_
              refine aw_iload dX5_isRun_108 rfl ?_
              refine aw_ialdN dX5_isRun_110 (hR.2.1 60 30 rfl) (by omega) (by decide) ?_
              refine aw_icmp_ltN (tgt := 118) dX5_isRun_111 (by decide) (by omega) (by omega) (fun c_111 => ?_) (fun c_111 => ?_)
              · refine aw_iconst (v := nI 0) dX5_isRun_118 rfl ?_
                refine aw_istore dX5_isRun_119 (by decide) rfl rfl ?_
                first
                  | exact tail _ z1 z2 (eB _ (by omega)) aw_t_lt
                  | exact tail 1 z1 z2 (by unfold sp_soN; rw [if_neg (by omega), if_pos (by omega)]) (by decide)
                  | exact tail 0 z1 z2 (by unfold sp_soN; rw [if_neg (by omega), if_neg (by omega)]) (by decide)
              · refine aw_iconst (v := nI 1) dX5_isRun_114 rfl ?_
                refine aw_goto (tgt := 119) dX5_isRun_115 (by decide) ?_
                refine aw_istore dX5_isRun_119 (by decide) rfl rfl ?_
                first
                  | exact tail _ z1 z2 (eB _ (by omega)) aw_t_lt
                  | exact tail 1 z1 z2 (by unfold sp_soN; rw [if_neg (by omega), if_pos (by omega)]) (by decide)
                  | exact tail 0 z1 z2 (by unfold sp_soN; rw [if_neg (by omega), if_neg (by omega)]) (by decide)
            · refine aw_aload_n dX5_isRun_83 rfl ?_
              refine aw_get dX5_isRun_84 fX5_121 rfl hR.1 (by rfl) ?_
              refine aw_iload dX5_isRun_87 rfl ?_
              refine aw_ialdN dX5_isRun_89 (hR.2.1 60 30 rfl) (by omega) (by decide) ?_
              refine aw_iload_n dX5_isRun_90 rfl ?_
              refine aw_iload_n dX5_isRun_91 rfl ?_
              refine aw_callP (r := _) dX5_isRun_92 sX5_368 rfl (mp_isIn) rfl rfl ⟨Nat.le_of_ble_eq_true rfl, Nat.le_of_ble_eq_true rfl⟩ (Nat.le_of_ble_eq_true rfl) ?_
              refine aw_goto (tgt := 119) dX5_isRun_95 (by decide) ?_
              refine aw_istore dX5_isRun_119 (by decide) rfl rfl ?_
              first
                | exact tail _ z1 z2 (eB _ (by omega)) aw_t_lt
                | exact tail 1 z1 z2 (by unfold sp_soN; rw [if_neg (by omega), if_pos (by omega)]) (by decide)
                | exact tail 0 z1 z2 (by unfold sp_soN; rw [if_neg (by omega), if_neg (by omega)]) (by decide)
        have fitY : k.toInt < (mm_a s 61 j : Int) ∨ (0 ≤ (mm_v s 62 j).toInt ∧ (mm_v s 62 j).toInt ≤ k.toInt) → sp_fits s t f o k (j + 1) = true := by
          intro z
          rw [eS]
          unfold sp_fit
          rcases z with z | ⟨z, y⟩
          · rw [decide_eq_true z]; rfl
          · rw [decide_eq_true z, decide_eq_true y]; simp
        rcases hls with rfl | ⟨z, rfl⟩
        ·
          refine aw_iload dX5_isRun_22 rfl ?_
          refine aw_aload_n dX5_isRun_24 rfl ?_
          refine aw_get dX5_isRun_25 fX5_362 rfl hR.1 (by rfl) ?_
          refine aw_icmp_geN (tgt := 146) dX5_isRun_28 (by decide) (by omega) (by omega) (fun c_28 => by exfalso; omega) (fun c_28 => ?_)
          refine aw_iload dX5_isRun_31 rfl ?_
          refine aw_if_eqN (tgt := 146) dX5_isRun_33 (by decide) (by omega) (fun c_33 => by exfalso; omega) (fun c_33 => ?_)
          refine aw_aload_n dX5_isRun_36 rfl ?_
          refine aw_get dX5_isRun_37 fX5_124 rfl hR.1 (by rfl) ?_
          refine aw_iload dX5_isRun_40 rfl ?_
          refine aw_ialdN dX5_isRun_42 (hR.2.1 61 30 rfl) (by omega) (by decide) ?_
          refine aw_iload dX5_isRun_43 rfl ?_
          refine aw_icmp_gt (tgt := 140) dX5_isRun_45 (by decide) (fun c_45 => ?_) (fun c_45 => ?_)
          · simp only [Int32.lt_iff_toInt_lt, Int32.le_iff_toInt_le, e61, show (0 : Int32).toInt = 0 from rfl] at *
            exact next 1 _ (Or.inl rfl) (Or.inl ⟨rfl, fitY (by omega)⟩)
          · refine aw_aload_n dX5_isRun_48 rfl ?_
            refine aw_get dX5_isRun_49 fX5_127 rfl hR.1 (by rfl) ?_
            refine aw_iload dX5_isRun_52 rfl ?_
            refine aw_ialdN dX5_isRun_54 (hR.2.2.2.1 62 30 rfl) (by omega) (by decide) ?_
            refine aw_if_lt (tgt := 73) dX5_isRun_55 (by decide) (fun c_55 => ?_) (fun c_55 => ?_)
            · simp only [Int32.lt_iff_toInt_lt, Int32.le_iff_toInt_le, e61, show (0 : Int32).toInt = 0 from rfl] at *
              exact mid _ (Or.inl rfl) (by omega) (by omega)
            · refine aw_aload_n dX5_isRun_58 rfl ?_
              refine aw_get dX5_isRun_59 fX5_127 rfl hR.1 (by rfl) ?_
              refine aw_iload dX5_isRun_62 rfl ?_
              refine aw_ialdN dX5_isRun_64 (hR.2.2.2.1 62 30 rfl) (by omega) (by decide) ?_
              refine aw_iload dX5_isRun_65 rfl ?_
              refine aw_icmp_gt (tgt := 73) dX5_isRun_67 (by decide) (fun c_67 => ?_) (fun c_67 => ?_)
              · simp only [Int32.lt_iff_toInt_lt, Int32.le_iff_toInt_le, e61, show (0 : Int32).toInt = 0 from rfl] at *
                exact mid _ (Or.inl rfl) (by omega) (by omega)
              · refine aw_goto (tgt := 140) dX5_isRun_70 (by decide) ?_
                simp only [Int32.lt_iff_toInt_lt, Int32.le_iff_toInt_le, e61, show (0 : Int32).toInt = 0 from rfl] at *
                exact next 1 _ (Or.inl rfl) (Or.inl ⟨rfl, fitY (by omega)⟩)
        ·
          refine aw_iload dX5_isRun_22 rfl ?_
          refine aw_aload_n dX5_isRun_24 rfl ?_
          refine aw_get dX5_isRun_25 fX5_362 rfl hR.1 (by rfl) ?_
          refine aw_icmp_geN (tgt := 146) dX5_isRun_28 (by decide) (by omega) (by omega) (fun c_28 => by exfalso; omega) (fun c_28 => ?_)
          refine aw_iload dX5_isRun_31 rfl ?_
          refine aw_if_eqN (tgt := 146) dX5_isRun_33 (by decide) (by omega) (fun c_33 => by exfalso; omega) (fun c_33 => ?_)
          refine aw_aload_n dX5_isRun_36 rfl ?_
          refine aw_get dX5_isRun_37 fX5_124 rfl hR.1 (by rfl) ?_
          refine aw_iload dX5_isRun_40 rfl ?_
          refine aw_ialdN dX5_isRun_42 (hR.2.1 61 30 rfl) (by omega) (by decide) ?_
          refine aw_iload dX5_isRun_43 rfl ?_
          refine aw_icmp_gt (tgt := 140) dX5_isRun_45 (by decide) (fun c_45 => ?_) (fun c_45 => ?_)
          · simp only [Int32.lt_iff_toInt_lt, Int32.le_iff_toInt_le, e61, show (0 : Int32).toInt = 0 from rfl] at *
            exact next 1 _ (Or.inr ⟨_, rfl⟩) (Or.inl ⟨rfl, fitY (by omega)⟩)
          · refine aw_aload_n dX5_isRun_48 rfl ?_
            refine aw_get dX5_isRun_49 fX5_127 rfl hR.1 (by rfl) ?_
            refine aw_iload dX5_isRun_52 rfl ?_
            refine aw_ialdN dX5_isRun_54 (hR.2.2.2.1 62 30 rfl) (by omega) (by decide) ?_
            refine aw_if_lt (tgt := 73) dX5_isRun_55 (by decide) (fun c_55 => ?_) (fun c_55 => ?_)
            · simp only [Int32.lt_iff_toInt_lt, Int32.le_iff_toInt_le, e61, show (0 : Int32).toInt = 0 from rfl] at *
              exact mid _ (Or.inr ⟨_, rfl⟩) (by omega) (by omega)
            · refine aw_aload_n dX5_isRun_58 rfl ?_
              refine aw_get dX5_isRun_59 fX5_127 rfl hR.1 (by rfl) ?_
              refine aw_iload dX5_isRun_62 rfl ?_
              refine aw_ialdN dX5_isRun_64 (hR.2.2.2.1 62 30 rfl) (by omega) (by decide) ?_
              refine aw_iload dX5_isRun_65 rfl ?_
              refine aw_icmp_gt (tgt := 73) dX5_isRun_67 (by decide) (fun c_67 => ?_) (fun c_67 => ?_)
              · simp only [Int32.lt_iff_toInt_lt, Int32.le_iff_toInt_le, e61, show (0 : Int32).toInt = 0 from rfl] at *
                exact mid _ (Or.inr ⟨_, rfl⟩) (by omega) (by omega)
              · refine aw_goto (tgt := 140) dX5_isRun_70 (by decide) ?_
                simp only [Int32.lt_iff_toInt_lt, Int32.le_iff_toInt_le, e61, show (0 : Int32).toInt = 0 from rfl] at *
                exact next 1 _ (Or.inr ⟨_, rfl⟩) (Or.inl ⟨rfl, fitY (by omega)⟩)
      · have eb : nI b = nI (sp_isR s t f o k) := fin (by omega)
        have hb2 : b < 2 := by omega
        rcases hls with rfl | ⟨z, rfl⟩
        ·
          refine aw_iload dX5_isRun_22 rfl ?_
          refine aw_aload_n dX5_isRun_24 rfl ?_
          refine aw_get dX5_isRun_25 fX5_362 rfl hR.1 (by rfl) ?_
          refine aw_icmp_geN (tgt := 146) dX5_isRun_28 (by decide) (by omega) (by omega) (fun c_28 => ?_) (fun c_28 => ?_)
          · refine aw_iload dX5_isRun_146 rfl ?_
            refine aw_zreturn dX5_isRun_148 rfl (aw_nb (by omega)) ?_
            exact ⟨by rw [eb], hR, hs⟩
          · refine aw_iload dX5_isRun_31 rfl ?_
            refine aw_if_eqN (tgt := 146) dX5_isRun_33 (by decide) (by omega) (fun c_33 => ?_) (fun c_33 => by exfalso; omega)
            refine aw_iload dX5_isRun_146 rfl ?_
            refine aw_zreturn dX5_isRun_148 rfl (aw_nb (by omega)) ?_
            exact ⟨by rw [eb], hR, hs⟩
        ·
          refine aw_iload dX5_isRun_22 rfl ?_
          refine aw_aload_n dX5_isRun_24 rfl ?_
          refine aw_get dX5_isRun_25 fX5_362 rfl hR.1 (by rfl) ?_
          refine aw_icmp_geN (tgt := 146) dX5_isRun_28 (by decide) (by omega) (by omega) (fun c_28 => ?_) (fun c_28 => ?_)
          · refine aw_iload dX5_isRun_146 rfl ?_
            refine aw_zreturn dX5_isRun_148 rfl (aw_nb (by omega)) ?_
            exact ⟨by rw [eb], hR, hs⟩
          · refine aw_iload dX5_isRun_31 rfl ?_
            refine aw_if_eqN (tgt := 146) dX5_isRun_33 (by decide) (by omega) (fun c_33 => ?_) (fun c_33 => by exfalso; omega)
            refine aw_iload dX5_isRun_146 rfl ?_
            refine aw_zreturn dX5_isRun_148 rfl (aw_nb (by omega)) ?_
            exact ⟨by rw [eb], hR, hs⟩
  refine aw_iload_n dX5_isRun_0 rfl ?_
  refine aw_iload_n dX5_isRun_1 rfl ?_
  refine aw_isubN dX5_isRun_2 (by omega) ?_
  refine aw_aload_n dX5_isRun_3 rfl ?_
  refine aw_get dX5_isRun_4 fX5_70 rfl hR.1 (by rfl) ?_
  refine aw_iload_n dX5_isRun_7 rfl ?_
  refine aw_ialdN dX5_isRun_8 (hR.2.1 33 8 rfl) (by omega) (by decide) ?_
  refine aw_icmp_gtN (tgt := 16) dX5_isRun_9 (by decide) (by omega) (by omega) (fun c_9 => ?_) (fun c_9 => ?_)
  · refine aw_iconst (v := nI 0) dX5_isRun_16 rfl ?_
    refine aw_istore dX5_isRun_17 (by decide) rfl rfl ?_
    refine aw_iconst (v := nI 0) dX5_isRun_19 rfl ?_
    refine aw_istore dX5_isRun_20 (by decide) rfl rfl ?_
    first
      | exact loop (mm_n s 64) 0 1 h0 [] (Or.inl rfl) rfl (Nat.zero_le _) (Or.inl ⟨rfl, decide_eq_true (by omega)⟩)
      | exact loop (mm_n s 64) 0 0 h0 [] (Or.inl rfl) rfl (Nat.zero_le _) (Or.inr ⟨rfl, decide_eq_false (by omega)⟩)
  · refine aw_iconst (v := nI 1) dX5_isRun_12 rfl ?_
    refine aw_goto (tgt := 17) dX5_isRun_13 (by decide) ?_
    refine aw_istore dX5_isRun_17 (by decide) rfl rfl ?_
    refine aw_iconst (v := nI 0) dX5_isRun_19 rfl ?_
    refine aw_istore dX5_isRun_20 (by decide) rfl rfl ?_
    first
      | exact loop (mm_n s 64) 0 1 h0 [] (Or.inl rfl) rfl (Nat.zero_le _) (Or.inl ⟨rfl, decide_eq_true (by omega)⟩)
      | exact loop (mm_n s 64) 0 0 h0 [] (Or.inl rfl) rfl (Nat.zero_le _) (Or.inr ⟨rfl, decide_eq_false (by omega)⟩)

