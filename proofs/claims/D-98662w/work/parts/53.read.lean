set_option maxRecDepth 100000
/-! the model: lines -/
def mm_rs1 (s : mm_S) : mm_S := mm_setN (mm_tn (mm_tk s) 1 20) 37 (mm_tnv (mm_tk s))
def mm_rs (s : mm_S) : mm_S := mm_setN (mm_op (mm_rs1 s) 1818846836 (mm_tnv (mm_tk s))) 38 (mm_opv (mm_rs1 s) 1818846836)
theorem mm_rs1_ok {s : mm_S} (hP : mm_okP s) : mm_okP (mm_rs1 s) := mm_tn_ok (lo := 1) (hi := 20) (mm_tk_ok hP)
set_option maxHeartbeats 4000000 in
theorem mm_readStoreys {s : mm_S} (hP : mm_okP s) : mm_Met yX5_readStoreys cX5_readStoreys 1 none 5 [] s none (mm_rs s) := by
  refine mm_Met.of (by decide +kernel) (fun _ => Nat.le_of_ble_eq_true rfl) (fun G w h0 hW hR => ?_)
  have hs : mm_same w h0 h0 := mm_same.rf
  show AW G (aw_rm 5 0 0) yX5_readStoreys cX5_readStoreys 1 none (aw_N G (mm_Po G w h0 none (mm_rs s)) 0 0) 0 0 h0 0 [(0, .ref w.1)] []
  have hv : mm_tnv (mm_tk s) ≤ 100000 := by
    unfold mm_tnv
    split
    · exact (mm_tk_ok hP).2.2.2.2.1
    · exact Nat.zero_le _
  have e37 : mm_n (mm_rs1 s) 37 = mm_tnv (mm_tk s) := rfl
  refine aw_aload_n dX5_readStoreys_0 rfl ?_
  refine mm_call dX5_readStoreys_1 sX5_230 rfl hW hR hs (mm_token hP.1 hP.2.1 hP.2.2.1) rfl rfl ⟨Nat.le_of_ble_eq_true rfl, Nat.le_of_ble_eq_true rfl⟩ (Nat.le_of_ble_eq_true rfl) (fun h hR hs => ?_)
  refine aw_aload_n dX5_readStoreys_4 rfl ?_
  refine aw_aload_n dX5_readStoreys_5 rfl ?_
  refine aw_iconst (v := nI 1) dX5_readStoreys_6 rfl ?_
  refine aw_bipush (v := nI 20) dX5_readStoreys_7 rfl ?_
  refine mm_call dX5_readStoreys_9 sX5_237 rfl hW hR hs (mm_toldNumber (s := mm_tk s) (mm_tk_ok hP) (by decide) (by decide)) rfl rfl ⟨Nat.le_of_ble_eq_true rfl, Nat.le_of_ble_eq_true rfl⟩ (Nat.le_of_ble_eq_true rfl) (fun h hR hs => ?_)
  try simp only [mm_n_N, mm_n_A, mm_n_V, mm_n_Fp, mm_n_W, mm_n_Nm, mm_a_N, mm_a_A, mm_a_V, mm_a_Fp, mm_a_W, mm_a_Nm, mm_v_N, mm_v_A, mm_v_V, mm_fp_N, mm_fp_A, mm_fp_Fp, mm_w_N, mm_w_W, Nat.reduceEqDiff, reduceIte, if_true, if_false, mm_H_45, mm_H_46, mm_H_47, mm_H_50, mm_H_53, mm_H_54, mm_H_55, mm_H_56, mm_H_57, mm_H_58, mm_H_66, mm_H_67, mm_H_68]
  refine mm_putN (k := 37) hW hR hs dX5_readStoreys_12 (pX5_312 _) rfl rfl (mm_F_set37 _ _ _) (by decide) (fun h hR hs => ?_)
  have hR : mm_R G w h (mm_rs1 s) := hR
  refine aw_aload_n dX5_readStoreys_15 rfl ?_
  refine aw_aload_n dX5_readStoreys_16 rfl ?_
  refine aw_ldc2 dX5_readStoreys_17 q1605 ?_
  refine aw_aload_n dX5_readStoreys_20 rfl ?_
  refine aw_get dX5_readStoreys_21 fX5_312 rfl hR.1 (by rfl) ?_
  try simp only [mm_n_N, mm_n_A, mm_n_V, mm_n_Fp, mm_n_W, mm_n_Nm, mm_a_N, mm_a_A, mm_a_V, mm_a_Fp, mm_a_W, mm_a_Nm, mm_v_N, mm_v_A, mm_v_V, mm_fp_N, mm_fp_A, mm_fp_Fp, mm_w_N, mm_w_W, Nat.reduceEqDiff, reduceIte, if_true, if_false, mm_H_45, mm_H_46, mm_H_47, mm_H_50, mm_H_53, mm_H_54, mm_H_55, mm_H_56, mm_H_57, mm_H_58, mm_H_66, mm_H_67, mm_H_68]
  refine mm_call dX5_readStoreys_24 sX5_315 rfl hW hR hs (mm_option (s := mm_rs1 s) (mm_rs1_ok hP) (by omega)) rfl rfl ⟨Nat.le_of_ble_eq_true rfl, Nat.le_of_ble_eq_true rfl⟩ (Nat.le_of_ble_eq_true rfl) (fun h hR hs => ?_)
  try simp only [mm_n_N, mm_n_A, mm_n_V, mm_n_Fp, mm_n_W, mm_n_Nm, mm_a_N, mm_a_A, mm_a_V, mm_a_Fp, mm_a_W, mm_a_Nm, mm_v_N, mm_v_A, mm_v_V, mm_fp_N, mm_fp_A, mm_fp_Fp, mm_w_N, mm_w_W, Nat.reduceEqDiff, reduceIte, if_true, if_false, mm_H_45, mm_H_46, mm_H_47, mm_H_50, mm_H_53, mm_H_54, mm_H_55, mm_H_56, mm_H_57, mm_H_58, mm_H_66, mm_H_67, mm_H_68]
  refine mm_putN (k := 38) hW hR hs dX5_readStoreys_27 (pX5_319 _) rfl rfl (mm_F_set38 _ _ _) (by decide) (fun h hR hs => ?_)
  refine aw_vreturn dX5_readStoreys_30 rfl ?_
  exact ⟨rfl, mm_eq hR rfl, hs⟩
theorem mm_nn1_ok {s : mm_S} (hP : mm_okP s) : mm_okP (mm_nn1 s) := by
  unfold mm_nn1
  split
  · split
    · exact mm_wr_ok hP (by decide)
    · exact mm_tk_ok (s := mm_setNm s _) hP
  · exact mm_wr_ok hP (by decide)
theorem mm_wr_n2 {s : mm_S} {v j : Nat} (hj : j ≠ 2) : mm_n (mm_wr s v) j = mm_n s j := by
  unfold mm_wr
  split
  · show (if j = 2 then _ else mm_n s j) = _
    rw [if_neg hj]
  · rfl
theorem mm_tk_n {s : mm_S} {j : Nat} (h4 : j ≠ 4) (h6 : j ≠ 6) (h7 : j ≠ 7) (h8 : j ≠ 8) : mm_n (mm_tk s) j = mm_n s j := by
  unfold mm_tk
  rw [mm_tkS_n, if_neg h4, if_neg h6, if_neg h8, if_neg h7]
theorem mm_nn1_n {s : mm_S} {j : Nat} (hj : 8 < j) : mm_n (mm_nn1 s) j = mm_n s j := by
  unfold mm_nn1
  split
  · split
    · exact mm_wr_n2 (by omega)
    · rw [mm_tk_n (by omega) (by omega) (by omega) (by omega)]; rfl
  · exact mm_wr_n2 (by omega)
def mm_tl1 (s : mm_S) (k t : Nat) (v : Int64) (hi : Nat) : mm_S := mm_setA (mm_tn (mm_wn s v) 0 hi) k (aw_u (mm_a (mm_tn (mm_wn s v) 0 hi) k) t (mm_tnv (mm_wn s v)))
theorem mm_wn_n {s : mm_S} {v : Int64} {j : Nat} (hj : 8 < j) : mm_n (mm_wn s v) j = mm_n s j := by
  unfold mm_wn
  split
  · split
    · exact mm_tk_n (by omega) (by omega) (by omega) (by omega)
    · exact mm_wr_n2 (by omega)
  · rfl
theorem mm_tn_n {s : mm_S} {lo hi j : Nat} (hj : 8 < j) : mm_n (mm_tn s lo hi) j = mm_n s j := by
  unfold mm_tn
  split
  · split
    · exact mm_tk_n (by omega) (by omega) (by omega) (by omega)
    · unfold mm_tn0
      split
      · exact mm_wr_n2 (by omega)
      · split
        · exact mm_wr_n2 (by omega)
        · rfl
  · rfl
theorem mm_tl1_n {s : mm_S} {k t hi j : Nat} {v : Int64} (hj : 8 < j) : mm_n (mm_tl1 s k t v hi) j = mm_n s j := (mm_tn_n hj).trans (mm_wn_n hj)
theorem mm_tl1_ok {s : mm_S} {k t hi : Nat} {v : Int64} (hk : k ≠ 0) (hP : mm_okP s) : mm_okP (mm_tl1 s k t v hi) := by
  have h := mm_tn_ok (lo := 0) (hi := hi) (mm_wn_ok (v := v) hP)
  obtain ⟨p1, p2, p3, p4, p5, p6, p7⟩ := h
  refine ⟨p1, p2, ?_, p4, p5, p6, p7⟩
  intro j hj
  show mm_a (mm_setA _ k _) 0 j < 256
  rw [mm_a_A, if_neg (Ne.symm hk)]
  exact p3 j hj
theorem mm_op_n {s : mm_S} {v : Int64} {hi j : Nat} (hj : 8 < j) : mm_n (mm_op s v hi) j = mm_n s j := by
  unfold mm_op
  split
  · exact (mm_tn_n hj).trans (mm_wn_n hj)
  · rfl
theorem mm_op_ok {s : mm_S} {v : Int64} {hi : Nat} (hP : mm_okP s) : mm_okP (mm_op s v hi) := by
  unfold mm_op
  split
  · exact mm_tn_ok (mm_wn_ok hP)
  · exact hP
theorem mm_ok_A {s : mm_S} {k : Nat} {f : Nat → Nat} (hk : k ≠ 0) (hP : mm_okP s) : mm_okP (mm_setA s k f) := by
  obtain ⟨p1, p2, p3, p4, p5, p6, p7⟩ := hP
  refine ⟨p1, p2, ?_, p4, p5, p6, p7⟩
  intro j hj
  rw [mm_a_A, if_neg (Ne.symm hk)]
  exact p3 j hj
def mm_rt0 (s : mm_S) : mm_S := mm_nn1 (mm_tk s)
def mm_rt4 (s : mm_S) (t : Nat) : mm_S := mm_tl1 (mm_tl1 (mm_tl1 (mm_tl1 s 27 t 28526 (mm_n s 37)) 28 t 126943973305959 40) 29 t 448377484921 9) 30 t 1870095731 999
def mm_rt5 (s : mm_S) (t : Nat) : mm_S := mm_setA (mm_op (mm_rt4 s t) 439720963187 100) 31 (aw_u (mm_a (mm_op (mm_rt4 s t) 439720963187 100) 31) t (mm_opv (mm_rt4 s t) 439720963187))
def mm_rt (s : mm_S) : mm_S := if mm_n (mm_rt5 (mm_rt0 s) (mm_n s 39)) 2 = 0 then mm_setN (mm_rt5 (mm_rt0 s) (mm_n s 39)) 39 (mm_n s 39 + 1) else mm_rt5 (mm_rt0 s) (mm_n s 39)
set_option maxHeartbeats 4000000 in
theorem mm_readTenant {s : mm_S} (hP : mm_okP s) (h2 : mm_n s 2 = 0) (h39 : mm_n s 39 < 8) (h37 : mm_n s 37 ≤ 100000) : mm_Met yX5_readTenant cX5_readTenant 2 none 5 [] s none (mm_rt s) := by
  refine mm_Met.of (by decide +kernel) (fun _ => Nat.le_of_ble_eq_true rfl) (fun G w h0 hW hR => ?_)
  have hs : mm_same w h0 h0 := mm_same.rf
  show AW G (aw_rm 5 0 0) yX5_readTenant cX5_readTenant 2 none (aw_N G (mm_Po G w h0 none (mm_rt s)) 0 0) 0 0 h0 0 [(0, .ref w.1)] []
  obtain ⟨u, hu⟩ : ∃ u, u = mm_rt0 s := ⟨_, rfl⟩
  have cnn : mm_Met yX5_newName cX5_newName 2 none 2 [] s none u := by rw [hu]; exact mm_newName hP h2 h39
  have uP : mm_okP u := by rw [hu]; exact mm_nn1_ok (mm_tk_ok hP)
  have u39 : mm_n u 39 = mm_n s 39 := by rw [hu]; exact (mm_nn1_n (by omega)).trans (mm_tk_n (by omega) (by omega) (by omega) (by omega))
  have u37 : mm_n u 37 = mm_n s 37 := by rw [hu]; exact (mm_nn1_n (by omega)).trans (mm_tk_n (by omega) (by omega) (by omega) (by omega))
  have v37 : ∀ k v hi, mm_n (mm_tl1 u k (mm_n u 39) v hi) 39 = mm_n u 39 := fun k v hi => mm_tl1_n (by omega)
  obtain ⟨k, hk⟩ : ∃ k, k = mm_n u 39 := ⟨_, rfl⟩
  obtain ⟨a1, e1⟩ : ∃ a1, a1 = mm_tl1 u 27 k 28526 (mm_n u 37) := ⟨_, rfl⟩
  have P1 : mm_okP a1 := by rw [e1]; exact mm_tl1_ok (by decide) uP
  obtain ⟨a2, e2⟩ : ∃ a2, a2 = mm_tl1 a1 28 k 126943973305959 40 := ⟨_, rfl⟩
  have P2 : mm_okP a2 := by rw [e2]; exact mm_tl1_ok (by decide) P1
  obtain ⟨a3, e3⟩ : ∃ a3, a3 = mm_tl1 a2 29 k 448377484921 9 := ⟨_, rfl⟩
  have P3 : mm_okP a3 := by rw [e3]; exact mm_tl1_ok (by decide) P2
  obtain ⟨a4, e4⟩ : ∃ a4, a4 = mm_tl1 a3 30 k 1870095731 999 := ⟨_, rfl⟩
  have P4 : mm_okP a4 := by rw [e4]; exact mm_tl1_ok (by decide) P3
  obtain ⟨a5, e5⟩ : ∃ a5, a5 = mm_setA (mm_op a4 439720963187 100) 31 (aw_u (mm_a (mm_op a4 439720963187 100) 31) k (mm_opv a4 439720963187)) := ⟨_, rfl⟩
  have e9 : mm_rt4 u k = a4 := by unfold mm_rt4; rw [e4, e3, e2, e1]
  have P5 : mm_okP a5 := by rw [e5]; exact mm_ok_A (by decide) (mm_op_ok P4)
  have en : mm_n a5 39 = k := by
    rw [e5]
    show mm_n (mm_op a4 439720963187 100) 39 = k
    rw [mm_op_n (by omega), e4, mm_tl1_n (by omega), e3, mm_tl1_n (by omega), e2, mm_tl1_n (by omega), e1, mm_tl1_n (by omega), hk]
  have ks : mm_n s 39 = k := by rw [hk, u39]
  have e10 : mm_rt5 u k = a5 := by unfold mm_rt5; rw [e9, e5]
  have fin : mm_rt s = if mm_n a5 2 = 0 then mm_setN a5 39 (mm_n a5 39 + 1) else a5 := by unfold mm_rt; rw [ks, ← hu, e10, en]
  refine aw_aload_n dX5_readTenant_0 rfl ?_
  refine mm_call dX5_readTenant_1 sX5_322 rfl hW hR hs cnn rfl rfl ⟨Nat.le_of_ble_eq_true rfl, Nat.le_of_ble_eq_true rfl⟩ (Nat.le_of_ble_eq_true rfl) (fun h hR hs => ?_)
  refine aw_aload_n dX5_readTenant_4 rfl ?_
  refine aw_get dX5_readTenant_5 fX5_248 rfl hR.1 (by rfl) ?_
  try simp only [mm_n_N, mm_n_A, mm_n_V, mm_n_Fp, mm_n_W, mm_n_Nm, mm_a_N, mm_a_A, mm_a_V, mm_a_Fp, mm_a_W, mm_a_Nm, mm_v_N, mm_v_A, mm_v_V, mm_fp_N, mm_fp_A, mm_fp_Fp, mm_w_N, mm_w_W, Nat.reduceEqDiff, reduceIte, if_true, if_false, mm_H_45, mm_H_46, mm_H_47, mm_H_50, mm_H_53, mm_H_54, mm_H_55, mm_H_56, mm_H_57, mm_H_58, mm_H_66, mm_H_67, mm_H_68]
  rw [← hk]
  refine aw_istore_n dX5_readTenant_8 (by decide) rfl rfl ?_
  refine aw_aload_n dX5_readTenant_9 rfl ?_
  refine aw_get dX5_readTenant_10 fX5_52 rfl hR.1 (by rfl) ?_
  refine aw_iload_n dX5_readTenant_13 rfl ?_
  refine aw_aload_n dX5_readTenant_14 rfl ?_
  refine aw_ldc2 dX5_readTenant_15 q1635 ?_
  refine aw_iconst (v := nI 0) dX5_readTenant_18 rfl ?_
  refine aw_aload_n dX5_readTenant_19 rfl ?_
  refine aw_get dX5_readTenant_20 fX5_312 rfl hR.1 (by rfl) ?_
  try simp only [mm_n_N, mm_n_A, mm_n_V, mm_n_Fp, mm_n_W, mm_n_Nm, mm_a_N, mm_a_A, mm_a_V, mm_a_Fp, mm_a_W, mm_a_Nm, mm_v_N, mm_v_A, mm_v_V, mm_fp_N, mm_fp_A, mm_fp_Fp, mm_w_N, mm_w_W, Nat.reduceEqDiff, reduceIte, if_true, if_false, mm_H_45, mm_H_46, mm_H_47, mm_H_50, mm_H_53, mm_H_54, mm_H_55, mm_H_56, mm_H_57, mm_H_58, mm_H_66, mm_H_67, mm_H_68]
  refine mm_call dX5_readTenant_23 sX5_241 rfl hW hR hs (mm_told (s := u) uP (by decide) (by omega)) rfl rfl ⟨Nat.le_of_ble_eq_true rfl, Nat.le_of_ble_eq_true rfl⟩ (Nat.le_of_ble_eq_true rfl) (fun h hR hs => ?_)
  try simp only [mm_n_N, mm_n_A, mm_n_V, mm_n_Fp, mm_n_W, mm_n_Nm, mm_a_N, mm_a_A, mm_a_V, mm_a_Fp, mm_a_W, mm_a_Nm, mm_v_N, mm_v_A, mm_v_V, mm_fp_N, mm_fp_A, mm_fp_Fp, mm_w_N, mm_w_W, Nat.reduceEqDiff, reduceIte, if_true, if_false, mm_H_45, mm_H_46, mm_H_47, mm_H_50, mm_H_53, mm_H_54, mm_H_55, mm_H_56, mm_H_57, mm_H_58, mm_H_66, mm_H_67, mm_H_68]
  refine mm_iast (k := 27) rfl hW hR hs dX5_readTenant_26 (by omega) (by decide) (fun h hR hs => ?_)
  have hR := mm_eq hR e1.symm
  refine aw_aload_n dX5_readTenant_27 rfl ?_
  refine aw_get dX5_readTenant_28 fX5_55 rfl hR.1 (by rfl) ?_
  refine aw_iload_n dX5_readTenant_31 rfl ?_
  refine aw_aload_n dX5_readTenant_32 rfl ?_
  refine aw_ldc2 dX5_readTenant_33 q1636 ?_
  refine aw_iconst (v := nI 0) dX5_readTenant_36 rfl ?_
  refine aw_bipush (v := nI 40) dX5_readTenant_37 rfl ?_
  refine mm_call dX5_readTenant_39 sX5_241 rfl hW hR hs (mm_told P1 (by decide) (by decide)) rfl rfl ⟨Nat.le_of_ble_eq_true rfl, Nat.le_of_ble_eq_true rfl⟩ (Nat.le_of_ble_eq_true rfl) (fun h hR hs => ?_)
  try simp only [mm_n_N, mm_n_A, mm_n_V, mm_n_Fp, mm_n_W, mm_n_Nm, mm_a_N, mm_a_A, mm_a_V, mm_a_Fp, mm_a_W, mm_a_Nm, mm_v_N, mm_v_A, mm_v_V, mm_fp_N, mm_fp_A, mm_fp_Fp, mm_w_N, mm_w_W, Nat.reduceEqDiff, reduceIte, if_true, if_false, mm_H_45, mm_H_46, mm_H_47, mm_H_50, mm_H_53, mm_H_54, mm_H_55, mm_H_56, mm_H_57, mm_H_58, mm_H_66, mm_H_67, mm_H_68]
  refine mm_iast (k := 28) rfl hW hR hs dX5_readTenant_42 (by omega) (by decide) (fun h hR hs => ?_)
  have hR := mm_eq hR e2.symm
  refine aw_aload_n dX5_readTenant_43 rfl ?_
  refine aw_get dX5_readTenant_44 fX5_58 rfl hR.1 (by rfl) ?_
  refine aw_iload_n dX5_readTenant_47 rfl ?_
  refine aw_aload_n dX5_readTenant_48 rfl ?_
  refine aw_ldc2 dX5_readTenant_49 q1637 ?_
  refine aw_iconst (v := nI 0) dX5_readTenant_52 rfl ?_
  refine aw_bipush (v := nI 9) dX5_readTenant_53 rfl ?_
  refine mm_call dX5_readTenant_55 sX5_241 rfl hW hR hs (mm_told P2 (by decide) (by decide)) rfl rfl ⟨Nat.le_of_ble_eq_true rfl, Nat.le_of_ble_eq_true rfl⟩ (Nat.le_of_ble_eq_true rfl) (fun h hR hs => ?_)
  try simp only [mm_n_N, mm_n_A, mm_n_V, mm_n_Fp, mm_n_W, mm_n_Nm, mm_a_N, mm_a_A, mm_a_V, mm_a_Fp, mm_a_W, mm_a_Nm, mm_v_N, mm_v_A, mm_v_V, mm_fp_N, mm_fp_A, mm_fp_Fp, mm_w_N, mm_w_W, Nat.reduceEqDiff, reduceIte, if_true, if_false, mm_H_45, mm_H_46, mm_H_47, mm_H_50, mm_H_53, mm_H_54, mm_H_55, mm_H_56, mm_H_57, mm_H_58, mm_H_66, mm_H_67, mm_H_68]
  refine mm_iast (k := 29) rfl hW hR hs dX5_readTenant_58 (by omega) (by decide) (fun h hR hs => ?_)
  have hR := mm_eq hR e3.symm
  refine aw_aload_n dX5_readTenant_59 rfl ?_
  refine aw_get dX5_readTenant_60 fX5_61 rfl hR.1 (by rfl) ?_
  refine aw_iload_n dX5_readTenant_63 rfl ?_
  refine aw_aload_n dX5_readTenant_64 rfl ?_
  refine aw_ldc2 dX5_readTenant_65 q1638 ?_
  refine aw_iconst (v := nI 0) dX5_readTenant_68 rfl ?_
  refine aw_sipush (v := nI 999) dX5_readTenant_69 rfl ?_
  refine mm_call dX5_readTenant_72 sX5_241 rfl hW hR hs (mm_told P3 (by decide) (by decide)) rfl rfl ⟨Nat.le_of_ble_eq_true rfl, Nat.le_of_ble_eq_true rfl⟩ (Nat.le_of_ble_eq_true rfl) (fun h hR hs => ?_)
  try simp only [mm_n_N, mm_n_A, mm_n_V, mm_n_Fp, mm_n_W, mm_n_Nm, mm_a_N, mm_a_A, mm_a_V, mm_a_Fp, mm_a_W, mm_a_Nm, mm_v_N, mm_v_A, mm_v_V, mm_fp_N, mm_fp_A, mm_fp_Fp, mm_w_N, mm_w_W, Nat.reduceEqDiff, reduceIte, if_true, if_false, mm_H_45, mm_H_46, mm_H_47, mm_H_50, mm_H_53, mm_H_54, mm_H_55, mm_H_56, mm_H_57, mm_H_58, mm_H_66, mm_H_67, mm_H_68]
  refine mm_iast (k := 30) rfl hW hR hs dX5_readTenant_75 (by omega) (by decide) (fun h hR hs => ?_)
  have hR := mm_eq hR e4.symm
  refine aw_aload_n dX5_readTenant_76 rfl ?_
  refine aw_get dX5_readTenant_77 fX5_64 rfl hR.1 (by rfl) ?_
  refine aw_iload_n dX5_readTenant_80 rfl ?_
  refine aw_aload_n dX5_readTenant_81 rfl ?_
  refine aw_ldc2 dX5_readTenant_82 q1639 ?_
  refine aw_bipush (v := nI 100) dX5_readTenant_85 rfl ?_
  refine mm_call dX5_readTenant_87 sX5_315 rfl hW hR hs (mm_option P4 (by decide)) rfl rfl ⟨Nat.le_of_ble_eq_true rfl, Nat.le_of_ble_eq_true rfl⟩ (Nat.le_of_ble_eq_true rfl) (fun h hR hs => ?_)
  try simp only [mm_n_N, mm_n_A, mm_n_V, mm_n_Fp, mm_n_W, mm_n_Nm, mm_a_N, mm_a_A, mm_a_V, mm_a_Fp, mm_a_W, mm_a_Nm, mm_v_N, mm_v_A, mm_v_V, mm_fp_N, mm_fp_A, mm_fp_Fp, mm_w_N, mm_w_W, Nat.reduceEqDiff, reduceIte, if_true, if_false, mm_H_45, mm_H_46, mm_H_47, mm_H_50, mm_H_53, mm_H_54, mm_H_55, mm_H_56, mm_H_57, mm_H_58, mm_H_66, mm_H_67, mm_H_68]
  refine mm_iast (k := 31) rfl hW hR hs dX5_readTenant_90 (by omega) (by decide) (fun h hR hs => ?_)
  have hR := mm_eq hR e5.symm
  refine aw_aload_n dX5_readTenant_91 rfl ?_
  refine aw_get dX5_readTenant_92 fX5_182 rfl hR.1 (by rfl) ?_
  try simp only [mm_n_N, mm_n_A, mm_n_V, mm_n_Fp, mm_n_W, mm_n_Nm, mm_a_N, mm_a_A, mm_a_V, mm_a_Fp, mm_a_W, mm_a_Nm, mm_v_N, mm_v_A, mm_v_V, mm_fp_N, mm_fp_A, mm_fp_Fp, mm_w_N, mm_w_W, Nat.reduceEqDiff, reduceIte, if_true, if_false, mm_H_45, mm_H_46, mm_H_47, mm_H_50, mm_H_53, mm_H_54, mm_H_55, mm_H_56, mm_H_57, mm_H_58, mm_H_66, mm_H_67, mm_H_68]
  refine aw_if_neN (tgt := 108) dX5_readTenant_95 (by decide) (by have q := P5.2.2.2.2.2.1; omega) (fun c_95 => ?_) (fun c_95 => ?_)
  · refine aw_vreturn dX5_readTenant_108 rfl ?_
    refine ⟨rfl, mm_eq hR ?_, hs⟩
    rw [fin]
    first
      | (rw [if_pos (by omega)]; done)
      | (rw [if_neg (by omega)]; done)
  · refine aw_aload_n dX5_readTenant_98 rfl ?_
    refine aw_dup dX5_readTenant_99 rfl ?_
    refine aw_get dX5_readTenant_100 fX5_248 rfl hR.1 (by rfl) ?_
    try simp only [mm_n_N, mm_n_A, mm_n_V, mm_n_Fp, mm_n_W, mm_n_Nm, mm_a_N, mm_a_A, mm_a_V, mm_a_Fp, mm_a_W, mm_a_Nm, mm_v_N, mm_v_A, mm_v_V, mm_fp_N, mm_fp_A, mm_fp_Fp, mm_w_N, mm_w_W, Nat.reduceEqDiff, reduceIte, if_true, if_false, mm_H_45, mm_H_46, mm_H_47, mm_H_50, mm_H_53, mm_H_54, mm_H_55, mm_H_56, mm_H_57, mm_H_58, mm_H_66, mm_H_67, mm_H_68]
    refine aw_iconst (v := nI 1) dX5_readTenant_103 rfl ?_
    refine aw_iaddN dX5_readTenant_104 ?_
    refine mm_putN (k := 39) hW hR hs dX5_readTenant_105 (pX5_248 _) rfl rfl (mm_F_set39 _ _ _) (by decide) (fun h hR hs => ?_)
    refine aw_vreturn dX5_readTenant_108 rfl ?_
    refine ⟨rfl, mm_eq hR ?_, hs⟩
    rw [fin]
    first
      | (rw [if_pos (by omega)]; done)
      | (rw [if_neg (by omega)]; done)

