set_option maxRecDepth 100000
/-! the model: formulas -/
def sp_osg (s : Nat) : Prop := s = 21 ∨ s = 38 ∨ s = 43 ∨ s = 45 ∨ s = 60 ∨ s = 61 ∨ s = 62 ∨ s = 124 ∨ s = 42 ∨ s = 47 ∨ s = 37 ∨ s = 20
theorem sp_tight_le (s : Nat) : sp_tight s ≤ 6 := by
  unfold sp_tight
  repeat' split
  all_goals decide
theorem sp_osg_lt {s : Nat} (h : sp_osg s) : s < 256 := by unfold sp_osg at h; omega
def mm_addS (s : mm_S) (x v : Nat) : mm_S := mm_setA (mm_setA (mm_setA s 11 (aw_u (mm_a s 11) (320 * mm_n s 20 + mm_a s 13 (mm_n s 20)) x)) 12 (aw_u (mm_a s 12) (320 * mm_n s 20 + mm_a s 13 (mm_n s 20)) v)) 13 (aw_u (mm_a s 13) (mm_n s 20) (mm_a s 13 (mm_n s 20) + 1))
set_option maxHeartbeats 4000000 in
theorem mm_add {s : mm_S} {x v : Nat} (hf : mm_n s 20 < 2) (hm : mm_a s 13 (mm_n s 20) < 320) : mm_Met yX5_add cX5_add 3 none 0 [.int (nI (x)), .int (nI (v))] s none (mm_addS s x v) := by
  refine mm_Met.of (by decide +kernel) (fun _ => Nat.le_of_ble_eq_true rfl) (fun G w h0 hW hR => ?_)
  have hs : mm_same w h0 h0 := mm_same.rf
  show AW G (aw_rm 0 0 0) yX5_add cX5_add 3 none (aw_N G (mm_Po G w h0 none (mm_addS s x v)) 0 0) 0 0 h0 0 [(0, .ref w.1), (1, .int (nI (x))), (2, .int (nI (v)))] []
  refine aw_aload_n dX5_add_0 rfl ?_
  refine aw_get dX5_add_1 fX5_21 rfl hR.1 (by rfl) ?_
  refine aw_sipush (v := nI 320) dX5_add_4 rfl ?_
  refine aw_aload_n dX5_add_7 rfl ?_
  refine aw_get dX5_add_8 fX5_251 rfl hR.1 (by rfl) ?_
  refine aw_imulN dX5_add_11 ?_
  refine aw_aload_n dX5_add_12 rfl ?_
  refine aw_get dX5_add_13 fX5_27 rfl hR.1 (by rfl) ?_
  refine aw_aload_n dX5_add_16 rfl ?_
  refine aw_get dX5_add_17 fX5_251 rfl hR.1 (by rfl) ?_
  refine aw_ialdN dX5_add_20 (hR.2.1 13 2 rfl) (by omega) (by decide) ?_
  refine aw_iaddN dX5_add_21 ?_
  refine aw_iload_n dX5_add_22 rfl ?_
  refine mm_iast (k := 11) rfl hW hR hs dX5_add_23 (by omega) (by decide) (fun h hR hs => ?_)
  refine aw_aload_n dX5_add_24 rfl ?_
  refine aw_get dX5_add_25 fX5_24 rfl hR.1 (by rfl) ?_
  refine aw_sipush (v := nI 320) dX5_add_28 rfl ?_
  refine aw_aload_n dX5_add_31 rfl ?_
  refine aw_get dX5_add_32 fX5_251 rfl hR.1 (by rfl) ?_
  try simp only [mm_n_N, mm_n_A, mm_n_V, mm_n_Fp, mm_n_W, mm_n_Nm, mm_a_N, mm_a_A, mm_a_V, mm_a_Fp, mm_a_W, mm_a_Nm, mm_v_N, mm_v_A, mm_v_V, mm_fp_N, mm_fp_A, mm_fp_Fp, mm_w_N, mm_w_W, Nat.reduceEqDiff, reduceIte, if_true, if_false, mm_H_45, mm_H_46, mm_H_47, mm_H_50, mm_H_53, mm_H_54, mm_H_55, mm_H_56, mm_H_57, mm_H_58, mm_H_66, mm_H_67, mm_H_68]
  refine aw_imulN dX5_add_35 ?_
  refine aw_aload_n dX5_add_36 rfl ?_
  refine aw_get dX5_add_37 fX5_27 rfl hR.1 (by rfl) ?_
  refine aw_aload_n dX5_add_40 rfl ?_
  refine aw_get dX5_add_41 fX5_251 rfl hR.1 (by rfl) ?_
  try simp only [mm_n_N, mm_n_A, mm_n_V, mm_n_Fp, mm_n_W, mm_n_Nm, mm_a_N, mm_a_A, mm_a_V, mm_a_Fp, mm_a_W, mm_a_Nm, mm_v_N, mm_v_A, mm_v_V, mm_fp_N, mm_fp_A, mm_fp_Fp, mm_w_N, mm_w_W, Nat.reduceEqDiff, reduceIte, if_true, if_false, mm_H_45, mm_H_46, mm_H_47, mm_H_50, mm_H_53, mm_H_54, mm_H_55, mm_H_56, mm_H_57, mm_H_58, mm_H_66, mm_H_67, mm_H_68]
  refine aw_ialdN dX5_add_44 (hR.2.1 13 2 rfl) (by omega) (by decide) ?_
  try simp only [mm_n_N, mm_n_A, mm_n_V, mm_n_Fp, mm_n_W, mm_n_Nm, mm_a_N, mm_a_A, mm_a_V, mm_a_Fp, mm_a_W, mm_a_Nm, mm_v_N, mm_v_A, mm_v_V, mm_fp_N, mm_fp_A, mm_fp_Fp, mm_w_N, mm_w_W, Nat.reduceEqDiff, reduceIte, if_true, if_false, mm_H_45, mm_H_46, mm_H_47, mm_H_50, mm_H_53, mm_H_54, mm_H_55, mm_H_56, mm_H_57, mm_H_58, mm_H_66, mm_H_67, mm_H_68]
  refine aw_iaddN dX5_add_45 ?_
  refine aw_iload_n dX5_add_46 rfl ?_
  refine mm_iast (k := 12) rfl hW hR hs dX5_add_47 (by omega) (by decide) (fun h hR hs => ?_)
  refine aw_aload_n dX5_add_48 rfl ?_
  refine aw_get dX5_add_49 fX5_27 rfl hR.1 (by rfl) ?_
  refine aw_aload_n dX5_add_52 rfl ?_
  refine aw_get dX5_add_53 fX5_251 rfl hR.1 (by rfl) ?_
  try simp only [mm_n_N, mm_n_A, mm_n_V, mm_n_Fp, mm_n_W, mm_n_Nm, mm_a_N, mm_a_A, mm_a_V, mm_a_Fp, mm_a_W, mm_a_Nm, mm_v_N, mm_v_A, mm_v_V, mm_fp_N, mm_fp_A, mm_fp_Fp, mm_w_N, mm_w_W, Nat.reduceEqDiff, reduceIte, if_true, if_false, mm_H_45, mm_H_46, mm_H_47, mm_H_50, mm_H_53, mm_H_54, mm_H_55, mm_H_56, mm_H_57, mm_H_58, mm_H_66, mm_H_67, mm_H_68]
  refine aw_dup2 dX5_add_56 rfl rfl ?_
  refine aw_ialdN dX5_add_57 (hR.2.1 13 2 rfl) (by omega) (by decide) ?_
  try simp only [mm_n_N, mm_n_A, mm_n_V, mm_n_Fp, mm_n_W, mm_n_Nm, mm_a_N, mm_a_A, mm_a_V, mm_a_Fp, mm_a_W, mm_a_Nm, mm_v_N, mm_v_A, mm_v_V, mm_fp_N, mm_fp_A, mm_fp_Fp, mm_w_N, mm_w_W, Nat.reduceEqDiff, reduceIte, if_true, if_false, mm_H_45, mm_H_46, mm_H_47, mm_H_50, mm_H_53, mm_H_54, mm_H_55, mm_H_56, mm_H_57, mm_H_58, mm_H_66, mm_H_67, mm_H_68]
  refine aw_iconst (v := nI 1) dX5_add_58 rfl ?_
  refine aw_iaddN dX5_add_59 ?_
  refine mm_iast (k := 13) rfl hW hR hs dX5_add_60 (by omega) (by decide) (fun h hR hs => ?_)
  refine aw_vreturn dX5_add_61 rfl ?_
  exact ⟨rfl, mm_eq hR rfl, hs⟩
def mm_full (s : mm_S) : Prop := mm_n s 22 = 60 ∨ mm_n s 24 = 30
set_option maxHeartbeats 4000000 in
theorem mm_isFull {s : mm_S} (h1 : mm_n s 22 ≤ 60) (h2 : mm_n s 24 ≤ 30) : mm_Met yX5_isFull cX5_isFull 1 (some .boolean) 0 [] s (some (.int (nI (aw_t (mm_n s 22 = 60 ∨ mm_n s 24 = 30))))) (s) := by
  refine mm_Met.of (by decide +kernel) (fun _ => Nat.le_of_ble_eq_true rfl) (fun G w h0 hW hR => ?_)
  have hs : mm_same w h0 h0 := mm_same.rf
  show AW G (aw_rm 0 0 0) yX5_isFull cX5_isFull 1 (some .boolean) (aw_N G (mm_Po G w h0 (some (.int (nI (aw_t (mm_n s 22 = 60 ∨ mm_n s 24 = 30))))) (s)) 0 0) 0 0 h0 0 [(0, .ref w.1)] []
  refine aw_aload_n dX5_isFull_0 rfl ?_
  refine aw_get dX5_isFull_1 fX5_267 rfl hR.1 (by rfl) ?_
  refine aw_bipush (v := nI 60) dX5_isFull_4 rfl ?_
  refine aw_icmp_eqN (tgt := 18) dX5_isFull_6 (by decide) (by omega) (by omega) (fun c_6 => ?_) (fun c_6 => ?_)
  · refine aw_iconst (v := nI 1) dX5_isFull_18 rfl ?_
    refine aw_goto (tgt := 23) dX5_isFull_19 (by decide) ?_
    refine aw_zreturn dX5_isFull_23 rfl rfl ?_
    exact ⟨by rw [aw_t1 (by omega)], hR, hs⟩
  · refine aw_aload_n dX5_isFull_9 rfl ?_
    refine aw_get dX5_isFull_10 fX5_270 rfl hR.1 (by rfl) ?_
    refine aw_bipush (v := nI 30) dX5_isFull_13 rfl ?_
    refine aw_icmp_neN (tgt := 22) dX5_isFull_15 (by decide) (by omega) (by omega) (fun c_15 => ?_) (fun c_15 => ?_)
    · refine aw_iconst (v := nI 0) dX5_isFull_22 rfl ?_
      refine aw_zreturn dX5_isFull_23 rfl rfl ?_
      exact ⟨by rw [aw_t0 (by omega)], hR, hs⟩
    · refine aw_iconst (v := nI 1) dX5_isFull_18 rfl ?_
      refine aw_goto (tgt := 23) dX5_isFull_19 (by decide) ?_
      refine aw_zreturn dX5_isFull_23 rfl rfl ?_
      exact ⟨by rw [aw_t1 (by omega)], hR, hs⟩
set_option maxHeartbeats 4000000 in
theorem mm_countUnit {s : mm_S} : mm_Met yX5_countUnit cX5_countUnit 1 none 0 [] s none (mm_setN (mm_setN s 22 (mm_n s 22 + 1)) 24 (mm_n s 24 + 1)) := by
  refine mm_Met.of (by decide +kernel) (fun _ => Nat.le_of_ble_eq_true rfl) (fun G w h0 hW hR => ?_)
  have hs : mm_same w h0 h0 := mm_same.rf
  show AW G (aw_rm 0 0 0) yX5_countUnit cX5_countUnit 1 none (aw_N G (mm_Po G w h0 none (mm_setN (mm_setN s 22 (mm_n s 22 + 1)) 24 (mm_n s 24 + 1))) 0 0) 0 0 h0 0 [(0, .ref w.1)] []
  refine aw_aload_n dX5_countUnit_0 rfl ?_
  refine aw_dup dX5_countUnit_1 rfl ?_
  refine aw_get dX5_countUnit_2 fX5_267 rfl hR.1 (by rfl) ?_
  refine aw_iconst (v := nI 1) dX5_countUnit_5 rfl ?_
  refine aw_iaddN dX5_countUnit_6 ?_
  refine mm_putN (k := 22) hW hR hs dX5_countUnit_7 (pX5_267 _) rfl rfl (mm_F_set22 _ _ _) (by decide) (fun h hR hs => ?_)
  refine aw_aload_n dX5_countUnit_10 rfl ?_
  refine aw_dup dX5_countUnit_11 rfl ?_
  refine aw_get dX5_countUnit_12 fX5_270 rfl hR.1 (by rfl) ?_
  try simp only [mm_n_N, mm_n_A, mm_n_V, mm_n_Fp, mm_n_W, mm_n_Nm, mm_a_N, mm_a_A, mm_a_V, mm_a_Fp, mm_a_W, mm_a_Nm, mm_v_N, mm_v_A, mm_v_V, mm_fp_N, mm_fp_A, mm_fp_Fp, mm_w_N, mm_w_W, Nat.reduceEqDiff, reduceIte, if_true, if_false, mm_H_45, mm_H_46, mm_H_47, mm_H_50, mm_H_53, mm_H_54, mm_H_55, mm_H_56, mm_H_57, mm_H_58, mm_H_66, mm_H_67, mm_H_68]
  refine aw_iconst (v := nI 1) dX5_countUnit_15 rfl ?_
  refine aw_iaddN dX5_countUnit_16 ?_
  refine mm_putN (k := 24) hW hR hs dX5_countUnit_17 (pX5_270 _) rfl rfl (mm_F_set24 _ _ _) (by decide) (fun h hR hs => ?_)
  refine aw_vreturn dX5_countUnit_20 rfl ?_
  exact ⟨rfl, hR, hs⟩
set_option maxHeartbeats 4000000 in
theorem mm_mayNot {s : mm_S} (ho : mm_n s 21 ≤ 160) (hb : ∀ j, j < mm_n s 21 → sp_osg (mm_a s 17 j)) : mm_Met yX5_mayNot cX5_mayNot 1 (some .boolean) 1 [] s (some (.int (nI (aw_t (mm_n s 21 = 0 ∨ mm_a s 17 (mm_n s 21 - 1) = 20 ∨ sp_tight (mm_a s 17 (mm_n s 21 - 1)) < 4))))) (s) := by
  refine mm_Met.of (by decide +kernel) (fun _ => Nat.le_of_ble_eq_true rfl) (fun G w h0 hW hR => ?_)
  have hs : mm_same w h0 h0 := mm_same.rf
  show AW G (aw_rm 1 0 0) yX5_mayNot cX5_mayNot 1 (some .boolean) (aw_N G (mm_Po G w h0 (some (.int (nI (aw_t (mm_n s 21 = 0 ∨ mm_a s 17 (mm_n s 21 - 1) = 20 ∨ sp_tight (mm_a s 17 (mm_n s 21 - 1)) < 4))))) (s)) 0 0) 0 0 h0 0 [(0, .ref w.1)] []
  have tl := sp_tight_le (mm_a s 17 (mm_n s 21 - 1))
  have ol : ¬ mm_n s 21 = 0 → mm_a s 17 (mm_n s 21 - 1) < 256 := fun h => sp_osg_lt (hb _ (by omega))
  by_cases z : mm_n s 21 = 0
  ·
    refine aw_aload_n dX5_mayNot_0 rfl ?_
    refine aw_get dX5_mayNot_1 fX5_254 rfl hR.1 (by rfl) ?_
    refine aw_if_eqN (tgt := 41) dX5_mayNot_4 (by decide) (by omega) (fun c_4 => ?_) (fun c_4 => by exfalso; omega)
    refine aw_iconst (v := nI 1) dX5_mayNot_41 rfl ?_
    refine aw_goto (tgt := 46) dX5_mayNot_42 (by decide) ?_
    refine aw_zreturn dX5_mayNot_46 rfl rfl ?_
    exact ⟨by rw [aw_t1 (by omega)], hR, hs⟩
  · have h1 := ol z
    refine aw_aload_n dX5_mayNot_0 rfl ?_
    refine aw_get dX5_mayNot_1 fX5_254 rfl hR.1 (by rfl) ?_
    refine aw_if_eqN (tgt := 41) dX5_mayNot_4 (by decide) (by omega) (fun c_4 => by exfalso; omega) (fun c_4 => ?_)
    refine aw_aload_n dX5_mayNot_7 rfl ?_
    refine aw_get dX5_mayNot_8 fX5_39 rfl hR.1 (by rfl) ?_
    refine aw_aload_n dX5_mayNot_11 rfl ?_
    refine aw_get dX5_mayNot_12 fX5_254 rfl hR.1 (by rfl) ?_
    refine aw_iconst (v := nI 1) dX5_mayNot_15 rfl ?_
    refine aw_isubN dX5_mayNot_16 (by omega) ?_
    refine aw_ialdN dX5_mayNot_17 (hR.2.1 17 160 rfl) (by omega) (by decide) ?_
    refine aw_bipush (v := nI 20) dX5_mayNot_18 rfl ?_
    refine aw_icmp_eqN (tgt := 41) dX5_mayNot_20 (by decide) (by omega) (by omega) (fun c_20 => ?_) (fun c_20 => ?_)
    · refine aw_iconst (v := nI 1) dX5_mayNot_41 rfl ?_
      refine aw_goto (tgt := 46) dX5_mayNot_42 (by decide) ?_
      refine aw_zreturn dX5_mayNot_46 rfl rfl ?_
      exact ⟨by rw [aw_t1 (by omega)], hR, hs⟩
    · refine aw_aload_n dX5_mayNot_23 rfl ?_
      refine aw_get dX5_mayNot_24 fX5_39 rfl hR.1 (by rfl) ?_
      refine aw_aload_n dX5_mayNot_27 rfl ?_
      refine aw_get dX5_mayNot_28 fX5_254 rfl hR.1 (by rfl) ?_
      refine aw_iconst (v := nI 1) dX5_mayNot_31 rfl ?_
      refine aw_isubN dX5_mayNot_32 (by omega) ?_
      refine aw_ialdN dX5_mayNot_33 (hR.2.1 17 160 rfl) (by omega) (by decide) ?_
      refine aw_callP (r := _) dX5_mayNot_34 sX5_257 rfl (mp_tight (hb _ (by omega))) rfl rfl ⟨Nat.le_of_ble_eq_true rfl, Nat.le_of_ble_eq_true rfl⟩ (Nat.le_of_ble_eq_true rfl) ?_
      refine aw_iconst (v := nI 4) dX5_mayNot_37 rfl ?_
      refine aw_icmp_geN (tgt := 45) dX5_mayNot_38 (by decide) (by omega) (by omega) (fun c_38 => ?_) (fun c_38 => ?_)
      · refine aw_iconst (v := nI 0) dX5_mayNot_45 rfl ?_
        refine aw_zreturn dX5_mayNot_46 rfl rfl ?_
        exact ⟨by rw [aw_t0 (by omega)], hR, hs⟩
      · refine aw_iconst (v := nI 1) dX5_mayNot_41 rfl ?_
        refine aw_goto (tgt := 46) dX5_mayNot_42 (by decide) ?_
        refine aw_zreturn dX5_mayNot_46 rfl rfl ?_
        exact ⟨by rw [aw_t1 (by omega)], hR, hs⟩
def mm_opS (s : mm_S) (v : Nat) : mm_S := mm_setN (mm_setN (mm_setA s 17 (aw_u (mm_a s 17) (mm_n s 21) v)) 21 (mm_n s 21 + 1)) 25 (mm_n s 25 + 1)
def mm_opnS (s : mm_S) (v : Nat) : mm_S := if mm_n s 2 = 0 then mm_tk (mm_opS s v) else mm_opS s v
set_option maxHeartbeats 4000000 in
theorem mm_openUp {s : mm_S} {v : Nat} (hP : mm_okP s) (ho : mm_n s 21 < 160) : mm_Met yX5_openUp cX5_openUp 2 none 2 [.int (nI (v))] s none (mm_opnS s v) := by
  refine mm_Met.of (by decide +kernel) (fun _ => Nat.le_of_ble_eq_true rfl) (fun G w h0 hW hR => ?_)
  have hs : mm_same w h0 h0 := mm_same.rf
  show AW G (aw_rm 2 0 0) yX5_openUp cX5_openUp 2 none (aw_N G (mm_Po G w h0 none (mm_opnS s v)) 0 0) 0 0 h0 0 [(0, .ref w.1), (1, .int (nI (v)))] []
  obtain ⟨p1, p2, p3, p4, p5, p6, p7⟩ := hP
  refine aw_aload_n dX5_openUp_0 rfl ?_
  refine aw_get dX5_openUp_1 fX5_39 rfl hR.1 (by rfl) ?_
  refine aw_aload_n dX5_openUp_4 rfl ?_
  refine aw_get dX5_openUp_5 fX5_254 rfl hR.1 (by rfl) ?_
  refine aw_iload_n dX5_openUp_8 rfl ?_
  refine mm_iast (k := 17) rfl hW hR hs dX5_openUp_9 (by omega) (by decide) (fun h hR hs => ?_)
  refine aw_aload_n dX5_openUp_10 rfl ?_
  refine aw_dup dX5_openUp_11 rfl ?_
  refine aw_get dX5_openUp_12 fX5_254 rfl hR.1 (by rfl) ?_
  try simp only [mm_n_N, mm_n_A, mm_n_V, mm_n_Fp, mm_n_W, mm_n_Nm, mm_a_N, mm_a_A, mm_a_V, mm_a_Fp, mm_a_W, mm_a_Nm, mm_v_N, mm_v_A, mm_v_V, mm_fp_N, mm_fp_A, mm_fp_Fp, mm_w_N, mm_w_W, Nat.reduceEqDiff, reduceIte, if_true, if_false, mm_H_45, mm_H_46, mm_H_47, mm_H_50, mm_H_53, mm_H_54, mm_H_55, mm_H_56, mm_H_57, mm_H_58, mm_H_66, mm_H_67, mm_H_68]
  refine aw_iconst (v := nI 1) dX5_openUp_15 rfl ?_
  refine aw_iaddN dX5_openUp_16 ?_
  refine mm_putN (k := 21) hW hR hs dX5_openUp_17 (pX5_254 _) rfl rfl (mm_F_set21 _ _ _) (by decide) (fun h hR hs => ?_)
  refine aw_aload_n dX5_openUp_20 rfl ?_
  refine aw_dup dX5_openUp_21 rfl ?_
  refine aw_get dX5_openUp_22 fX5_264 rfl hR.1 (by rfl) ?_
  try simp only [mm_n_N, mm_n_A, mm_n_V, mm_n_Fp, mm_n_W, mm_n_Nm, mm_a_N, mm_a_A, mm_a_V, mm_a_Fp, mm_a_W, mm_a_Nm, mm_v_N, mm_v_A, mm_v_V, mm_fp_N, mm_fp_A, mm_fp_Fp, mm_w_N, mm_w_W, Nat.reduceEqDiff, reduceIte, if_true, if_false, mm_H_45, mm_H_46, mm_H_47, mm_H_50, mm_H_53, mm_H_54, mm_H_55, mm_H_56, mm_H_57, mm_H_58, mm_H_66, mm_H_67, mm_H_68]
  refine aw_iconst (v := nI 1) dX5_openUp_25 rfl ?_
  refine aw_iaddN dX5_openUp_26 ?_
  refine mm_putN (k := 25) hW hR hs dX5_openUp_27 (pX5_264 _) rfl rfl (mm_F_set25 _ _ _) (by decide) (fun h hR hs => ?_)
  have hR := mm_eq hR (show _ = mm_opS s v from rfl)
  refine aw_aload_n dX5_openUp_30 rfl ?_
  refine aw_get dX5_openUp_31 fX5_182 rfl hR.1 (by rfl) ?_
  try simp only [mm_n_N, mm_n_A, mm_n_V, mm_n_Fp, mm_n_W, mm_n_Nm, mm_a_N, mm_a_A, mm_a_V, mm_a_Fp, mm_a_W, mm_a_Nm, mm_v_N, mm_v_A, mm_v_V, mm_fp_N, mm_fp_A, mm_fp_Fp, mm_w_N, mm_w_W, Nat.reduceEqDiff, reduceIte, if_true, if_false, mm_H_45, mm_H_46, mm_H_47, mm_H_50, mm_H_53, mm_H_54, mm_H_55, mm_H_56, mm_H_57, mm_H_58, mm_H_66, mm_H_67, mm_H_68]
  rw [show mm_n (mm_opS s v) 2 = mm_n s 2 from rfl]
  refine aw_if_neN (tgt := 41) dX5_openUp_34 (by decide) (by omega) (fun c_34 => ?_) (fun c_34 => ?_)
  · refine aw_vreturn dX5_openUp_41 rfl ?_
    refine ⟨rfl, mm_eq hR ?_, hs⟩
    unfold mm_opnS
    first
      | (rw [if_pos (show mm_n s 2 = 0 by omega)]; done)
      | (rw [if_neg (show ¬ mm_n s 2 = 0 by omega)]; done)
  · refine aw_aload_n dX5_openUp_37 rfl ?_
    refine mm_call dX5_openUp_38 sX5_230 rfl hW hR hs (mm_token (s := mm_opS s v) p1 p2 p3) rfl rfl ⟨Nat.le_of_ble_eq_true rfl, Nat.le_of_ble_eq_true rfl⟩ (Nat.le_of_ble_eq_true rfl) (fun h hR hs => ?_)
    refine aw_vreturn dX5_openUp_41 rfl ?_
    refine ⟨rfl, mm_eq hR ?_, hs⟩
    unfold mm_opnS
    first
      | (rw [if_pos (show mm_n s 2 = 0 by omega)]; done)
      | (rw [if_neg (show ¬ mm_n s 2 = 0 by omega)]; done)
def mm_brk (s : mm_S) : Nat → Bool
  | 0 => false
  | k + 1 => mm_brk s k || decide (mm_a s 17 k = 20)
set_option maxHeartbeats 4000000 in
theorem mm_hasBracket {s : mm_S} (ho : mm_n s 21 ≤ 160) (hb : ∀ j, j < mm_n s 21 → sp_osg (mm_a s 17 j)) : mm_Met yX5_hasBracket cX5_hasBracket 3 (some .boolean) 0 [] s (some (.int (nI (aw_t (mm_brk s (mm_n s 21) = true))))) (s) := by
  refine mm_Met.of (by decide +kernel) (fun _ => Nat.le_of_ble_eq_true rfl) (fun G w h0 hW hR => ?_)
  have hs : mm_same w h0 h0 := mm_same.rf
  show AW G (aw_rm 0 0 0) yX5_hasBracket cX5_hasBracket 3 (some .boolean) (aw_N G (mm_Po G w h0 (some (.int (nI (aw_t (mm_brk s (mm_n s 21) = true))))) (s)) 0 0) 0 0 h0 0 [(0, .ref w.1)] []
  have loop : ∀ (m k : Nat) (h : aw_H), mm_n s 21 - k = m → k ≤ mm_n s 21 → mm_R G w h s → mm_same w h0 h → AW G (aw_rm 0 0 0) yX5_hasBracket cX5_hasBracket 3 (some .boolean) (aw_N G (mm_Po G w h0 (some (.int (nI (aw_t (mm_brk s (mm_n s 21) = true))))) (s)) 0 0) 0 0 h 4 [(0, .ref w.1), (1, .int (nI (aw_t (mm_brk s k = true)))), (2, .int (nI k))] [] := by
    intro m
    induction m using Nat.strongRecOn with
    | _ m ih =>
      intro k h hm hk hR hs
      have next : ∀ (v : Nat) (h : aw_H), k < mm_n s 21 → v = aw_t (mm_brk s (k + 1) = true) → mm_R G w h s → mm_same w h0 h → AW G (aw_rm 0 0 0) yX5_hasBracket cX5_hasBracket 3 (some .boolean) (aw_N G (mm_Po G w h0 (some (.int (nI (aw_t (mm_brk s (mm_n s 21) = true))))) (s)) 0 0) 0 0 h 32 [(0, .ref w.1), (1, .int (nI (aw_t (mm_brk s k = true)))), (2, .int (nI k))] [.int (nI v)] := by
        intro v h hk9 ev hR hs
        rw [ev]
        refine aw_istore_n dX5_hasBracket_32 (by decide) rfl rfl ?_
        refine aw_iincN (b := 1) dX5_hasBracket_33 rfl rfl (by decide) rfl rfl ?_
        refine aw_goto (tgt := 4) dX5_hasBracket_36 (by decide) ?_
        exact ih (mm_n s 21 - (k + 1)) (by omega) (k + 1) h rfl (by omega) hR hs
      by_cases hk9 : k < mm_n s 21
      · have hb9 := sp_osg_lt (hb k (by omega))
        have eS : mm_brk s (k + 1) = (mm_brk s k || decide (mm_a s 17 k = 20)) := rfl
        refine aw_iload_n dX5_hasBracket_4 rfl ?_
        refine aw_aload_n dX5_hasBracket_5 rfl ?_
        refine aw_get dX5_hasBracket_6 fX5_254 rfl hR.1 (by rfl) ?_
        refine aw_icmp_geN (tgt := 39) dX5_hasBracket_9 (by decide) (by omega) (by omega) (fun c_9 => by exfalso; omega) (fun c_9 => ?_)
        refine aw_iload_n dX5_hasBracket_12 rfl ?_
        refine aw_if_neB (tgt := 27) dX5_hasBracket_13 (by decide) (fun c_13 => ?_) (fun c_13 => ?_)
        · refine aw_iconst (v := nI 1) dX5_hasBracket_27 rfl ?_
          refine aw_goto (tgt := 32) dX5_hasBracket_28 (by decide) ?_
          first
            | (refine next 1 h hk9 ?_ hR hs
               rw [aw_t1 (by rw [eS]; first | rw [c_13, Bool.true_or] | rw [decide_eq_true c_24, Bool.or_true])]
               done)
            | (refine next 0 h hk9 ?_ hR hs
               rw [aw_t0 (by rw [eS, aw_bf c_13, decide_eq_false c_24]; decide)])
        · refine aw_aload_n dX5_hasBracket_16 rfl ?_
          refine aw_get dX5_hasBracket_17 fX5_39 rfl hR.1 (by rfl) ?_
          refine aw_iload_n dX5_hasBracket_20 rfl ?_
          refine aw_ialdN dX5_hasBracket_21 (hR.2.1 17 160 rfl) (by omega) (by decide) ?_
          refine aw_bipush (v := nI 20) dX5_hasBracket_22 rfl ?_
          refine aw_icmp_neN (tgt := 31) dX5_hasBracket_24 (by decide) (by omega) (by omega) (fun c_24 => ?_) (fun c_24 => ?_)
          · refine aw_iconst (v := nI 0) dX5_hasBracket_31 rfl ?_
            first
              | (refine next 1 h hk9 ?_ hR hs
                 rw [aw_t1 (by rw [eS]; first | rw [c_13, Bool.true_or] | rw [decide_eq_true c_24, Bool.or_true])]
                 done)
              | (refine next 0 h hk9 ?_ hR hs
                 rw [aw_t0 (by rw [eS, aw_bf c_13, decide_eq_false c_24]; decide)])
          · refine aw_iconst (v := nI 1) dX5_hasBracket_27 rfl ?_
            refine aw_goto (tgt := 32) dX5_hasBracket_28 (by decide) ?_
            first
              | (refine next 1 h hk9 ?_ hR hs
                 rw [aw_t1 (by rw [eS]; first | rw [c_13, Bool.true_or] | rw [decide_eq_true c_24, Bool.or_true])]
                 done)
              | (refine next 0 h hk9 ?_ hR hs
                 rw [aw_t0 (by rw [eS, aw_bf c_13, decide_eq_false c_24]; decide)])
      · obtain rfl : k = mm_n s 21 := by omega
        refine aw_iload_n dX5_hasBracket_4 rfl ?_
        refine aw_aload_n dX5_hasBracket_5 rfl ?_
        refine aw_get dX5_hasBracket_6 fX5_254 rfl hR.1 (by rfl) ?_
        refine aw_icmp_geN (tgt := 39) dX5_hasBracket_9 (by decide) (by omega) (by omega) (fun c_9 => ?_) (fun c_9 => by exfalso; omega)
        refine aw_iload_n dX5_hasBracket_39 rfl ?_
        refine aw_zreturn dX5_hasBracket_40 rfl (aw_nb aw_t_lt) ?_
        exact ⟨rfl, hR, hs⟩
  refine aw_iconst (v := nI 0) dX5_hasBracket_0 rfl ?_
  refine aw_istore_n dX5_hasBracket_1 (by decide) rfl rfl ?_
  refine aw_iconst (v := nI 0) dX5_hasBracket_2 rfl ?_
  refine aw_istore_n dX5_hasBracket_3 (by decide) rfl rfl ?_
  exact loop _ 0 h0 rfl (Nat.zero_le _) hR hs
def mm_askd (s : mm_S) : Int32 := if mm_n s 6 = 1 then (if mm_w s = 32497644331170163 then 0 else if mm_w s = 448377484921 then 1 else if mm_w s = 474214787188 then 2 else if mm_w s = 2003133803 then 3 else if mm_w s = 27985222756885860 then 4 else if mm_w s = 1818846836 then 5 else -1) else -1
set_option maxHeartbeats 4000000 in
theorem mm_asked {s : mm_S} (h6 : mm_n s 6 < 256) : mm_Met yX5_asked cX5_asked 1 (some .int) 0 [] s (some (.int (mm_askd s))) (s) := by
  refine mm_Met.of (by decide +kernel) (fun _ => Nat.le_of_ble_eq_true rfl) (fun G w h0 hW hR => ?_)
  have hs : mm_same w h0 h0 := mm_same.rf
  show AW G (aw_rm 0 0 0) yX5_asked cX5_asked 1 (some .int) (aw_N G (mm_Po G w h0 (some (.int (mm_askd s))) (s)) 0 0) 0 0 h0 0 [(0, .ref w.1)] []
  refine aw_aload_n dX5_asked_0 rfl ?_
  refine aw_get dX5_asked_1 fX5_169 rfl hR.1 (by rfl) ?_
  refine aw_iconst (v := nI 1) dX5_asked_4 rfl ?_
  refine aw_icmp_eqN (tgt := 10) dX5_asked_5 (by decide) (by omega) (by omega) (fun c_5 => ?_) (fun c_5 => ?_)
  · refine aw_aload_n dX5_asked_10 rfl ?_
    refine aw_get dX5_asked_11 fX5_162 rfl hR.1 (by rfl) ?_
    refine aw_ldc2 dX5_asked_14 q1588 ?_
    refine aw_lcmp dX5_asked_17 ?_
    refine aw_if_neL (tgt := 23) dX5_asked_18 (by decide) (fun c_18 => ?_) (fun c_18 => ?_)
    · refine aw_aload_n dX5_asked_23 rfl ?_
      refine aw_get dX5_asked_24 fX5_162 rfl hR.1 (by rfl) ?_
      refine aw_ldc2 dX5_asked_27 q1637 ?_
      refine aw_lcmp dX5_asked_30 ?_
      refine aw_if_neL (tgt := 36) dX5_asked_31 (by decide) (fun c_31 => ?_) (fun c_31 => ?_)
      · refine aw_aload_n dX5_asked_36 rfl ?_
        refine aw_get dX5_asked_37 fX5_162 rfl hR.1 (by rfl) ?_
        refine aw_ldc2 dX5_asked_40 q1643 ?_
        refine aw_lcmp dX5_asked_43 ?_
        refine aw_if_neL (tgt := 49) dX5_asked_44 (by decide) (fun c_44 => ?_) (fun c_44 => ?_)
        · refine aw_aload_n dX5_asked_49 rfl ?_
          refine aw_get dX5_asked_50 fX5_162 rfl hR.1 (by rfl) ?_
          refine aw_ldc2 dX5_asked_53 q1644 ?_
          refine aw_lcmp dX5_asked_56 ?_
          refine aw_if_neL (tgt := 62) dX5_asked_57 (by decide) (fun c_57 => ?_) (fun c_57 => ?_)
          · refine aw_aload_n dX5_asked_62 rfl ?_
            refine aw_get dX5_asked_63 fX5_162 rfl hR.1 (by rfl) ?_
            refine aw_ldc2 dX5_asked_66 q1645 ?_
            refine aw_lcmp dX5_asked_69 ?_
            refine aw_if_neL (tgt := 75) dX5_asked_70 (by decide) (fun c_70 => ?_) (fun c_70 => ?_)
            · refine aw_aload_n dX5_asked_75 rfl ?_
              refine aw_get dX5_asked_76 fX5_162 rfl hR.1 (by rfl) ?_
              refine aw_ldc2 dX5_asked_79 q1605 ?_
              refine aw_lcmp dX5_asked_82 ?_
              refine aw_if_neL (tgt := 90) dX5_asked_83 (by decide) (fun c_83 => ?_) (fun c_83 => ?_)
              · refine aw_iconst (v := -1) dX5_asked_90 rfl ?_
                refine aw_ireturn dX5_asked_91 rfl ?_
                refine ⟨?_, hR, hs⟩
                unfold mm_askd
                simp [*]
                try rfl
              · refine aw_iconst (v := nI 5) dX5_asked_86 rfl ?_
                refine aw_goto (tgt := 91) dX5_asked_87 (by decide) ?_
                refine aw_ireturn dX5_asked_91 rfl ?_
                refine ⟨?_, hR, hs⟩
                unfold mm_askd
                simp [*]
                try rfl
            · refine aw_iconst (v := nI 4) dX5_asked_73 rfl ?_
              refine aw_ireturn dX5_asked_74 rfl ?_
              refine ⟨?_, hR, hs⟩
              unfold mm_askd
              simp [*]
              try rfl
          · refine aw_iconst (v := nI 3) dX5_asked_60 rfl ?_
            refine aw_ireturn dX5_asked_61 rfl ?_
            refine ⟨?_, hR, hs⟩
            unfold mm_askd
            simp [*]
            try rfl
        · refine aw_iconst (v := nI 2) dX5_asked_47 rfl ?_
          refine aw_ireturn dX5_asked_48 rfl ?_
          refine ⟨?_, hR, hs⟩
          unfold mm_askd
          simp [*]
          try rfl
      · refine aw_iconst (v := nI 1) dX5_asked_34 rfl ?_
        refine aw_ireturn dX5_asked_35 rfl ?_
        refine ⟨?_, hR, hs⟩
        unfold mm_askd
        simp [*]
        try rfl
    · refine aw_iconst (v := nI 0) dX5_asked_21 rfl ?_
      refine aw_ireturn dX5_asked_22 rfl ?_
      refine ⟨?_, hR, hs⟩
      unfold mm_askd
      simp [*]
      try rfl
  · refine aw_iconst (v := -1) dX5_asked_8 rfl ?_
    refine aw_ireturn dX5_asked_9 rfl ?_
    refine ⟨?_, hR, hs⟩
    unfold mm_askd
    simp [*]
    try rfl
def mm_isR (k : Nat) : Prop := k = 60 ∨ k = 62 ∨ k = 61 ∨ k = 43 ∨ k = 45 ∨ k = 42 ∨ k = 47 ∨ k = 37
def mm_sgn (s : mm_S) : Nat := if mm_n s 6 = 1 ∧ mm_w s = 6385252 then 38 else if mm_n s 6 = 1 ∧ mm_w s = 28530 then 124 else if mm_n s 6 = 60 ∨ mm_n s 6 = 62 ∨ mm_n s 6 = 61 ∨ mm_n s 6 = 43 ∨ mm_n s 6 = 45 ∨ mm_n s 6 = 42 ∨ mm_n s 6 = 47 ∨ mm_n s 6 = 37 then mm_n s 6 else 0
set_option maxHeartbeats 4000000 in
theorem mm_sign {s : mm_S} (h6 : mm_n s 6 < 256) : mm_Met yX5_sign cX5_sign 1 (some .int) 1 [] s (some (.int (nI (mm_sgn s)))) (s) := by
  refine mm_Met.of (by decide +kernel) (fun _ => Nat.le_of_ble_eq_true rfl) (fun G w h0 hW hR => ?_)
  have hs : mm_same w h0 h0 := mm_same.rf
  show AW G (aw_rm 1 0 0) yX5_sign cX5_sign 1 (some .int) (aw_N G (mm_Po G w h0 (some (.int (nI (mm_sgn s)))) (s)) 0 0) 0 0 h0 0 [(0, .ref w.1)] []
  refine aw_aload_n dX5_sign_0 rfl ?_
  refine aw_ldc2 dX5_sign_1 q1646 ?_
  refine mm_call dX5_sign_4 sX5_223 rfl hW hR hs (mm_isWord (by omega)) rfl rfl ⟨Nat.le_of_ble_eq_true rfl, Nat.le_of_ble_eq_true rfl⟩ (Nat.le_of_ble_eq_true rfl) (fun h hR hs => ?_)
  refine aw_if_eqB (tgt := 13) dX5_sign_7 (by decide) (fun c_7 => ?_) (fun c_7 => ?_)
  · refine aw_aload_n dX5_sign_13 rfl ?_
    refine aw_ldc2 dX5_sign_14 q1647 ?_
    refine mm_call dX5_sign_17 sX5_223 rfl hW hR hs (mm_isWord (by omega)) rfl rfl ⟨Nat.le_of_ble_eq_true rfl, Nat.le_of_ble_eq_true rfl⟩ (Nat.le_of_ble_eq_true rfl) (fun h hR hs => ?_)
    refine aw_if_eqB (tgt := 26) dX5_sign_20 (by decide) (fun c_20 => ?_) (fun c_20 => ?_)
    · refine aw_aload_n dX5_sign_26 rfl ?_
      refine aw_get dX5_sign_27 fX5_169 rfl hR.1 (by rfl) ?_
      refine aw_bipush (v := nI 60) dX5_sign_30 rfl ?_
      refine aw_icmp_eqN (tgt := 98) dX5_sign_32 (by decide) (by omega) (by omega) (fun c_32 => ?_) (fun c_32 => ?_)
      · refine aw_aload_n dX5_sign_98 rfl ?_
        refine aw_get dX5_sign_99 fX5_169 rfl hR.1 (by rfl) ?_
        refine aw_goto (tgt := 106) dX5_sign_102 (by decide) ?_
        refine aw_ireturn dX5_sign_106 rfl ?_
        refine ⟨?_, hR, hs⟩
        unfold mm_sgn
        rw [if_neg c_7, if_neg c_20]
        first
          | (rw [if_pos (by omega)]; done)
          | (rw [if_neg (by omega)]; done)
      · refine aw_aload_n dX5_sign_35 rfl ?_
        refine aw_get dX5_sign_36 fX5_169 rfl hR.1 (by rfl) ?_
        refine aw_bipush (v := nI 62) dX5_sign_39 rfl ?_
        refine aw_icmp_eqN (tgt := 98) dX5_sign_41 (by decide) (by omega) (by omega) (fun c_41 => ?_) (fun c_41 => ?_)
        · refine aw_aload_n dX5_sign_98 rfl ?_
          refine aw_get dX5_sign_99 fX5_169 rfl hR.1 (by rfl) ?_
          refine aw_goto (tgt := 106) dX5_sign_102 (by decide) ?_
          refine aw_ireturn dX5_sign_106 rfl ?_
          refine ⟨?_, hR, hs⟩
          unfold mm_sgn
          rw [if_neg c_7, if_neg c_20]
          first
            | (rw [if_pos (by omega)]; done)
            | (rw [if_neg (by omega)]; done)
        · refine aw_aload_n dX5_sign_44 rfl ?_
          refine aw_get dX5_sign_45 fX5_169 rfl hR.1 (by rfl) ?_
          refine aw_bipush (v := nI 61) dX5_sign_48 rfl ?_
          refine aw_icmp_eqN (tgt := 98) dX5_sign_50 (by decide) (by omega) (by omega) (fun c_50 => ?_) (fun c_50 => ?_)
          · refine aw_aload_n dX5_sign_98 rfl ?_
            refine aw_get dX5_sign_99 fX5_169 rfl hR.1 (by rfl) ?_
            refine aw_goto (tgt := 106) dX5_sign_102 (by decide) ?_
            refine aw_ireturn dX5_sign_106 rfl ?_
            refine ⟨?_, hR, hs⟩
            unfold mm_sgn
            rw [if_neg c_7, if_neg c_20]
            first
              | (rw [if_pos (by omega)]; done)
              | (rw [if_neg (by omega)]; done)
          · refine aw_aload_n dX5_sign_53 rfl ?_
            refine aw_get dX5_sign_54 fX5_169 rfl hR.1 (by rfl) ?_
            refine aw_bipush (v := nI 43) dX5_sign_57 rfl ?_
            refine aw_icmp_eqN (tgt := 98) dX5_sign_59 (by decide) (by omega) (by omega) (fun c_59 => ?_) (fun c_59 => ?_)
            · refine aw_aload_n dX5_sign_98 rfl ?_
              refine aw_get dX5_sign_99 fX5_169 rfl hR.1 (by rfl) ?_
              refine aw_goto (tgt := 106) dX5_sign_102 (by decide) ?_
              refine aw_ireturn dX5_sign_106 rfl ?_
              refine ⟨?_, hR, hs⟩
              unfold mm_sgn
              rw [if_neg c_7, if_neg c_20]
              first
                | (rw [if_pos (by omega)]; done)
                | (rw [if_neg (by omega)]; done)
            · refine aw_aload_n dX5_sign_62 rfl ?_
              refine aw_get dX5_sign_63 fX5_169 rfl hR.1 (by rfl) ?_
              refine aw_bipush (v := nI 45) dX5_sign_66 rfl ?_
              refine aw_icmp_eqN (tgt := 98) dX5_sign_68 (by decide) (by omega) (by omega) (fun c_68 => ?_) (fun c_68 => ?_)
              · refine aw_aload_n dX5_sign_98 rfl ?_
                refine aw_get dX5_sign_99 fX5_169 rfl hR.1 (by rfl) ?_
                refine aw_goto (tgt := 106) dX5_sign_102 (by decide) ?_
                refine aw_ireturn dX5_sign_106 rfl ?_
                refine ⟨?_, hR, hs⟩
                unfold mm_sgn
                rw [if_neg c_7, if_neg c_20]
                first
                  | (rw [if_pos (by omega)]; done)
                  | (rw [if_neg (by omega)]; done)
              · refine aw_aload_n dX5_sign_71 rfl ?_
                refine aw_get dX5_sign_72 fX5_169 rfl hR.1 (by rfl) ?_
                refine aw_bipush (v := nI 42) dX5_sign_75 rfl ?_
                refine aw_icmp_eqN (tgt := 98) dX5_sign_77 (by decide) (by omega) (by omega) (fun c_77 => ?_) (fun c_77 => ?_)
                · refine aw_aload_n dX5_sign_98 rfl ?_
                  refine aw_get dX5_sign_99 fX5_169 rfl hR.1 (by rfl) ?_
                  refine aw_goto (tgt := 106) dX5_sign_102 (by decide) ?_
                  refine aw_ireturn dX5_sign_106 rfl ?_
                  refine ⟨?_, hR, hs⟩
                  unfold mm_sgn
                  rw [if_neg c_7, if_neg c_20]
                  first
                    | (rw [if_pos (by omega)]; done)
                    | (rw [if_neg (by omega)]; done)
                · refine aw_aload_n dX5_sign_80 rfl ?_
                  refine aw_get dX5_sign_81 fX5_169 rfl hR.1 (by rfl) ?_
                  refine aw_bipush (v := nI 47) dX5_sign_84 rfl ?_
                  refine aw_icmp_eqN (tgt := 98) dX5_sign_86 (by decide) (by omega) (by omega) (fun c_86 => ?_) (fun c_86 => ?_)
                  · refine aw_aload_n dX5_sign_98 rfl ?_
                    refine aw_get dX5_sign_99 fX5_169 rfl hR.1 (by rfl) ?_
                    refine aw_goto (tgt := 106) dX5_sign_102 (by decide) ?_
                    refine aw_ireturn dX5_sign_106 rfl ?_
                    refine ⟨?_, hR, hs⟩
                    unfold mm_sgn
                    rw [if_neg c_7, if_neg c_20]
                    first
                      | (rw [if_pos (by omega)]; done)
                      | (rw [if_neg (by omega)]; done)
                  · refine aw_aload_n dX5_sign_89 rfl ?_
                    refine aw_get dX5_sign_90 fX5_169 rfl hR.1 (by rfl) ?_
                    refine aw_bipush (v := nI 37) dX5_sign_93 rfl ?_
                    refine aw_icmp_neN (tgt := 105) dX5_sign_95 (by decide) (by omega) (by omega) (fun c_95 => ?_) (fun c_95 => ?_)
                    · refine aw_iconst (v := nI 0) dX5_sign_105 rfl ?_
                      refine aw_ireturn dX5_sign_106 rfl ?_
                      refine ⟨?_, hR, hs⟩
                      unfold mm_sgn
                      rw [if_neg c_7, if_neg c_20]
                      first
                        | (rw [if_pos (by omega)]; done)
                        | (rw [if_neg (by omega)]; done)
                    · refine aw_aload_n dX5_sign_98 rfl ?_
                      refine aw_get dX5_sign_99 fX5_169 rfl hR.1 (by rfl) ?_
                      refine aw_goto (tgt := 106) dX5_sign_102 (by decide) ?_
                      refine aw_ireturn dX5_sign_106 rfl ?_
                      refine ⟨?_, hR, hs⟩
                      unfold mm_sgn
                      rw [if_neg c_7, if_neg c_20]
                      first
                        | (rw [if_pos (by omega)]; done)
                        | (rw [if_neg (by omega)]; done)
    · refine aw_bipush (v := nI 124) dX5_sign_23 rfl ?_
      refine aw_ireturn dX5_sign_25 rfl ?_
      exact ⟨by unfold mm_sgn; rw [if_neg c_7, if_pos c_20], hR, hs⟩
  · refine aw_bipush (v := nI 38) dX5_sign_10 rfl ?_
    refine aw_ireturn dX5_sign_12 rfl ?_
    exact ⟨by unfold mm_sgn; rw [if_pos c_7], hR, hs⟩
def sp_hr (f : Nat → Nat) : Nat → Bool
  | 0 => false
  | k + 1 => if f k = 20 ∨ sp_tight (f k) ≤ 4 then decide (f k ≠ 20 ∧ sp_tight (f k) = 4) else sp_hr f k
set_option maxHeartbeats 4000000 in
theorem mm_hasRelation {s : mm_S} (ho : mm_n s 21 ≤ 160) (hb : ∀ j, j < mm_n s 21 → sp_osg (mm_a s 17 j)) : mm_Met yX5_hasRelation cX5_hasRelation 2 (some .boolean) 1 [] s (some (.int (nI (aw_t (sp_hr (mm_a s 17) (mm_n s 21) = true))))) (s) := by
  refine mm_Met.of (by decide +kernel) (fun _ => Nat.le_of_ble_eq_true rfl) (fun G w h0 hW hR => ?_)
  have hs : mm_same w h0 h0 := mm_same.rf
  show AW G (aw_rm 1 0 0) yX5_hasRelation cX5_hasRelation 2 (some .boolean) (aw_N G (mm_Po G w h0 (some (.int (nI (aw_t (sp_hr (mm_a s 17) (mm_n s 21) = true))))) (s)) 0 0) 0 0 h0 0 [(0, .ref w.1)] []
  have r7 : ∀ (c : Nat) (h : aw_H), c ≤ mm_n s 21 → sp_hr (mm_a s 17) c = sp_hr (mm_a s 17) (mm_n s 21) → mm_R G w h s → mm_same w h0 h → AW G (aw_rm 1 0 0) yX5_hasRelation cX5_hasRelation 2 (some .boolean) (aw_N G (mm_Po G w h0 (some (.int (nI (aw_t (sp_hr (mm_a s 17) (mm_n s 21) = true))))) (s)) 0 0) 0 0 h 7 [(0, .ref w.1), (1, .int (sp_cv c))] [] := by
    intro c
    induction c with
    | zero =>
      intro h hc ec hR hs
      have e0 : ¬ sp_hr (mm_a s 17) (mm_n s 21) = true := by rw [← ec]; exact Bool.false_ne_true
      refine aw_iload_n dX5_hasRelation_7 rfl ?_
      refine aw_if_lt (tgt := 41) dX5_hasRelation_8 (by decide) (fun c_8 => ?_) (fun c_8 => by exfalso; exact absurd (by decide) c_8)
      refine aw_iload_n dX5_hasRelation_41 rfl ?_
      refine aw_if_lt (tgt := 73) dX5_hasRelation_42 (by decide) (fun c_42 => ?_) (fun c_42 => by exfalso; exact absurd (by decide) c_42)
      refine aw_iconst (v := nI 0) dX5_hasRelation_73 rfl ?_
      refine aw_zreturn dX5_hasRelation_74 rfl rfl ?_
      exact ⟨by rw [aw_t0 e0], hR, hs⟩
    | succ c ih =>
      intro h hc ec hR hs
      have og := hb c (by omega)
      have ol := sp_osg_lt og
      have tl := sp_tight_le (mm_a s 17 c)
      have ec2 : (if mm_a s 17 c = 20 ∨ sp_tight (mm_a s 17 c) ≤ 4 then decide (mm_a s 17 c ≠ 20 ∧ sp_tight (mm_a s 17 c) = 4) else sp_hr (mm_a s 17) c) = sp_hr (mm_a s 17) (mm_n s 21) := ec
      rw [sp_cv_s]
      by_cases z : mm_a s 17 c = 20 ∨ sp_tight (mm_a s 17 c) ≤ 4
      · rw [if_pos z] at ec2
        have rt : ∀ v : Nat, ((mm_a s 17 c ≠ 20 ∧ sp_tight (mm_a s 17 c) = 4) → v = 1) → (¬ (mm_a s 17 c ≠ 20 ∧ sp_tight (mm_a s 17 c) = 4) → v = 0) → some (Value.int (nI v)) = some (Value.int (nI (aw_t (sp_hr (mm_a s 17) (mm_n s 21) = true)))) := fun v h1 h2 => by
          by_cases y : mm_a s 17 c ≠ 20 ∧ sp_tight (mm_a s 17 c) = 4
          · rw [aw_t1 (by rw [← ec2]; exact decide_eq_true y), h1 y]
          · rw [aw_t0 (by rw [← ec2, decide_eq_false y]; exact Bool.false_ne_true), h2 y]
        refine aw_iload_n dX5_hasRelation_7 rfl ?_
        refine aw_if_ltN (tgt := 41) dX5_hasRelation_8 (by decide) (by omega) ?_
        refine aw_aload_n dX5_hasRelation_11 rfl ?_
        refine aw_get dX5_hasRelation_12 fX5_39 rfl hR.1 (by rfl) ?_
        refine aw_iload_n dX5_hasRelation_15 rfl ?_
        refine aw_ialdN dX5_hasRelation_16 (hR.2.1 17 160 rfl) (by omega) (by decide) ?_
        refine aw_bipush (v := nI 20) dX5_hasRelation_17 rfl ?_
        refine aw_icmp_eqN (tgt := 41) dX5_hasRelation_19 (by decide) (by omega) (by omega) (fun c_19 => ?_) (fun c_19 => ?_)
        · refine aw_iload_n dX5_hasRelation_41 rfl ?_
          refine aw_if_ltN (tgt := 73) dX5_hasRelation_42 (by decide) (by omega) ?_
          refine aw_aload_n dX5_hasRelation_45 rfl ?_
          refine aw_get dX5_hasRelation_46 fX5_39 rfl hR.1 (by rfl) ?_
          refine aw_iload_n dX5_hasRelation_49 rfl ?_
          refine aw_ialdN dX5_hasRelation_50 (hR.2.1 17 160 rfl) (by omega) (by decide) ?_
          refine aw_bipush (v := nI 20) dX5_hasRelation_51 rfl ?_
          refine aw_icmp_eqN (tgt := 73) dX5_hasRelation_53 (by decide) (by omega) (by omega) (fun c_53 => ?_) (fun c_53 => ?_)
          · refine aw_iconst (v := nI 0) dX5_hasRelation_73 rfl ?_
            refine aw_zreturn dX5_hasRelation_74 rfl rfl ?_
            first
              | exact ⟨rt 1 (fun _ => rfl) (fun y => by omega), hR, hs⟩
              | exact ⟨rt 0 (fun y => by omega) (fun _ => rfl), hR, hs⟩
          · refine aw_aload_n dX5_hasRelation_56 rfl ?_
            refine aw_get dX5_hasRelation_57 fX5_39 rfl hR.1 (by rfl) ?_
            refine aw_iload_n dX5_hasRelation_60 rfl ?_
            refine aw_ialdN dX5_hasRelation_61 (hR.2.1 17 160 rfl) (by omega) (by decide) ?_
            refine aw_callP (r := _) dX5_hasRelation_62 sX5_257 rfl (mp_tight og) rfl rfl ⟨Nat.le_of_ble_eq_true rfl, Nat.le_of_ble_eq_true rfl⟩ (Nat.le_of_ble_eq_true rfl) ?_
            refine aw_iconst (v := nI 4) dX5_hasRelation_65 rfl ?_
            refine aw_icmp_neN (tgt := 73) dX5_hasRelation_66 (by decide) (by omega) (by omega) (fun c_66 => ?_) (fun c_66 => ?_)
            · refine aw_iconst (v := nI 0) dX5_hasRelation_73 rfl ?_
              refine aw_zreturn dX5_hasRelation_74 rfl rfl ?_
              first
                | exact ⟨rt 1 (fun _ => rfl) (fun y => by omega), hR, hs⟩
                | exact ⟨rt 0 (fun y => by omega) (fun _ => rfl), hR, hs⟩
            · refine aw_iconst (v := nI 1) dX5_hasRelation_69 rfl ?_
              refine aw_goto (tgt := 74) dX5_hasRelation_70 (by decide) ?_
              refine aw_zreturn dX5_hasRelation_74 rfl rfl ?_
              first
                | exact ⟨rt 1 (fun _ => rfl) (fun y => by omega), hR, hs⟩
                | exact ⟨rt 0 (fun y => by omega) (fun _ => rfl), hR, hs⟩
        · refine aw_aload_n dX5_hasRelation_22 rfl ?_
          refine aw_get dX5_hasRelation_23 fX5_39 rfl hR.1 (by rfl) ?_
          refine aw_iload_n dX5_hasRelation_26 rfl ?_
          refine aw_ialdN dX5_hasRelation_27 (hR.2.1 17 160 rfl) (by omega) (by decide) ?_
          refine aw_callP (r := _) dX5_hasRelation_28 sX5_257 rfl (mp_tight og) rfl rfl ⟨Nat.le_of_ble_eq_true rfl, Nat.le_of_ble_eq_true rfl⟩ (Nat.le_of_ble_eq_true rfl) ?_
          refine aw_iconst (v := nI 4) dX5_hasRelation_31 rfl ?_
          refine aw_icmp_leN (tgt := 41) dX5_hasRelation_32 (by decide) (by omega) (by omega) (fun c_32 => ?_) (fun c_32 => ?_)
          · refine aw_iload_n dX5_hasRelation_41 rfl ?_
            refine aw_if_ltN (tgt := 73) dX5_hasRelation_42 (by decide) (by omega) ?_
            refine aw_aload_n dX5_hasRelation_45 rfl ?_
            refine aw_get dX5_hasRelation_46 fX5_39 rfl hR.1 (by rfl) ?_
            refine aw_iload_n dX5_hasRelation_49 rfl ?_
            refine aw_ialdN dX5_hasRelation_50 (hR.2.1 17 160 rfl) (by omega) (by decide) ?_
            refine aw_bipush (v := nI 20) dX5_hasRelation_51 rfl ?_
            refine aw_icmp_eqN (tgt := 73) dX5_hasRelation_53 (by decide) (by omega) (by omega) (fun c_53 => ?_) (fun c_53 => ?_)
            · refine aw_iconst (v := nI 0) dX5_hasRelation_73 rfl ?_
              refine aw_zreturn dX5_hasRelation_74 rfl rfl ?_
              first
                | exact ⟨rt 1 (fun _ => rfl) (fun y => by omega), hR, hs⟩
                | exact ⟨rt 0 (fun y => by omega) (fun _ => rfl), hR, hs⟩
            · refine aw_aload_n dX5_hasRelation_56 rfl ?_
              refine aw_get dX5_hasRelation_57 fX5_39 rfl hR.1 (by rfl) ?_
              refine aw_iload_n dX5_hasRelation_60 rfl ?_
              refine aw_ialdN dX5_hasRelation_61 (hR.2.1 17 160 rfl) (by omega) (by decide) ?_
              refine aw_callP (r := _) dX5_hasRelation_62 sX5_257 rfl (mp_tight og) rfl rfl ⟨Nat.le_of_ble_eq_true rfl, Nat.le_of_ble_eq_true rfl⟩ (Nat.le_of_ble_eq_true rfl) ?_
              refine aw_iconst (v := nI 4) dX5_hasRelation_65 rfl ?_
              refine aw_icmp_neN (tgt := 73) dX5_hasRelation_66 (by decide) (by omega) (by omega) (fun c_66 => ?_) (fun c_66 => ?_)
              · refine aw_iconst (v := nI 0) dX5_hasRelation_73 rfl ?_
                refine aw_zreturn dX5_hasRelation_74 rfl rfl ?_
                first
                  | exact ⟨rt 1 (fun _ => rfl) (fun y => by omega), hR, hs⟩
                  | exact ⟨rt 0 (fun y => by omega) (fun _ => rfl), hR, hs⟩
              · refine aw_iconst (v := nI 1) dX5_hasRelation_69 rfl ?_
                refine aw_goto (tgt := 74) dX5_hasRelation_70 (by decide) ?_
                refine aw_zreturn dX5_hasRelation_74 rfl rfl ?_
                first
                  | exact ⟨rt 1 (fun _ => rfl) (fun y => by omega), hR, hs⟩
                  | exact ⟨rt 0 (fun y => by omega) (fun _ => rfl), hR, hs⟩
          · exfalso; omega
      · rw [if_neg z] at ec2
        refine aw_iload_n dX5_hasRelation_7 rfl ?_
        refine aw_if_ltN (tgt := 41) dX5_hasRelation_8 (by decide) (by omega) ?_
        refine aw_aload_n dX5_hasRelation_11 rfl ?_
        refine aw_get dX5_hasRelation_12 fX5_39 rfl hR.1 (by rfl) ?_
        refine aw_iload_n dX5_hasRelation_15 rfl ?_
        refine aw_ialdN dX5_hasRelation_16 (hR.2.1 17 160 rfl) (by omega) (by decide) ?_
        refine aw_bipush (v := nI 20) dX5_hasRelation_17 rfl ?_
        refine aw_icmp_eqN (tgt := 41) dX5_hasRelation_19 (by decide) (by omega) (by omega) (fun c_19 => by exfalso; omega) (fun c_19 => ?_)
        refine aw_aload_n dX5_hasRelation_22 rfl ?_
        refine aw_get dX5_hasRelation_23 fX5_39 rfl hR.1 (by rfl) ?_
        refine aw_iload_n dX5_hasRelation_26 rfl ?_
        refine aw_ialdN dX5_hasRelation_27 (hR.2.1 17 160 rfl) (by omega) (by decide) ?_
        refine aw_callP (r := _) dX5_hasRelation_28 sX5_257 rfl (mp_tight og) rfl rfl ⟨Nat.le_of_ble_eq_true rfl, Nat.le_of_ble_eq_true rfl⟩ (Nat.le_of_ble_eq_true rfl) ?_
        refine aw_iconst (v := nI 4) dX5_hasRelation_31 rfl ?_
        refine aw_icmp_leN (tgt := 41) dX5_hasRelation_32 (by decide) (by omega) (by omega) (fun c_32 => by exfalso; omega) (fun c_32 => ?_)
        refine aw_iinc (v := -1) dX5_hasRelation_35 rfl rfl (by decide) rfl rfl ?_
        refine aw_goto (tgt := 7) dX5_hasRelation_38 (by decide) ?_
        refine AW_ls ?_ (ih h (by omega) ec2 hR hs)
        rw [aw_cvd]
        rfl
  refine aw_aload_n dX5_hasRelation_0 rfl ?_
  refine aw_get dX5_hasRelation_1 fX5_254 rfl hR.1 (by rfl) ?_
  refine aw_iconst (v := nI 1) dX5_hasRelation_4 rfl ?_
  refine aw_isub dX5_hasRelation_5 ?_
  refine aw_istore_n dX5_hasRelation_6 (by decide) rfl rfl ?_
  refine AW_ls ?_ (r7 (mm_n s 21) h0 (Nat.le_refl _) rfl hR hs)
  rw [← aw_cvs]
  rfl

