set_option maxRecDepth 100000
/-! the model: calls -/
theorem mm_N_self (s : mm_S) (k : Nat) : mm_setN s k (mm_n s k) = s := by
  obtain ⟨sn, sr⟩ := s
  refine Prod.ext ?_ rfl
  funext j
  show aw_u sn k (sn k) j = _
  unfold aw_u
  split
  · rename_i q; rw [q]
  · rfl
theorem mm_A_cm {s : mm_S} {k j : Nat} {f g : Nat → Nat} (h : k ≠ j) : mm_setA (mm_setA s k f) j g = mm_setA (mm_setA s j g) k f := by
  unfold mm_setA
  dsimp only
  congr 4
  funext i
  unfold aw_u
  by_cases e : i = j
  · rw [if_pos e, if_neg (fun z => h (z.symm.trans e)), if_pos e]
  · rw [if_neg e, if_neg e]
theorem mm_A_id {s : mm_S} {k : Nat} {f : Nat → Nat} (h : ∀ j, f j = mm_a s k j) : mm_setA s k f = s := by
  rw [show f = mm_a s k from funext h]
  exact mm_A_self s k
set_option maxHeartbeats 4000000 in
theorem mm_act_c {s : mm_S} (ha : mm_n s 48 ≤ 40) : mm_Met yX5_act cX5_act 2 none 0 [] s none (mm_act s) := by
  refine mm_Met.of (by decide +kernel) (fun _ => Nat.le_of_ble_eq_true rfl) (fun G w h0 hW hR => ?_)
  have hs : mm_same w h0 h0 := mm_same.rf
  show AW G (aw_rm 0 0 0) yX5_act cX5_act 2 none (aw_N G (mm_Po G w h0 none (mm_act s)) 0 0) 0 0 h0 0 [(0, .ref w.1)] []
  have fill : ∀ (m k : Nat) (h : aw_H), 28 - k = m → k ≤ 28 → mm_R G w h (mm_setN (mm_setA s 47 (fun j => if 28 * mm_a0 s ≤ j ∧ j < 28 * mm_a0 s + k then mm_a s 45 (j - 28 * mm_a0 s) else if mm_n s 48 = 40 ∧ j < 1092 then mm_a s 47 (28 + j) else mm_a s 47 j)) 48 (mm_a0 s)) → mm_same w h0 h → AW G (aw_rm 0 0 0) yX5_act cX5_act 2 none (aw_N G (mm_Po G w h0 none (mm_act s)) 0 0) 0 0 h 51 [(0, .ref w.1), (1, .int (nI k))] [] := by
    intro m
    have h39 : mm_a0 s ≤ 39 := by unfold mm_a0; split <;> omega
    induction m using Nat.strongRecOn with
    | _ m ih =>
      intro k h hm hk hR hs
      refine aw_iload_n dX5_act_51 rfl ?_
      refine aw_bipush (v := nI 28) dX5_act_52 rfl ?_
      refine aw_icmp_geN (tgt := 83) dX5_act_54 (by decide) (by omega) (by omega) (fun c_54 => ?_) (fun c_54 => ?_)
      · refine aw_aload_n dX5_act_83 rfl ?_
        refine aw_dup dX5_act_84 rfl ?_
        refine aw_get dX5_act_85 fX5_356 rfl hR.1 (by rfl) ?_
        try simp only [mm_n_N, mm_n_A, mm_n_V, mm_n_Fp, mm_n_W, mm_n_Nm, mm_a_N, mm_a_A, mm_a_V, mm_a_Fp, mm_a_W, mm_a_Nm, mm_v_N, mm_v_A, mm_v_V, mm_fp_N, mm_fp_A, mm_fp_Fp, mm_w_N, mm_w_W, Nat.reduceEqDiff, reduceIte, if_true, if_false, mm_H_45, mm_H_46, mm_H_47, mm_H_50, mm_H_53, mm_H_54, mm_H_55, mm_H_56, mm_H_57, mm_H_58, mm_H_66, mm_H_67, mm_H_68]
        refine aw_iconst (v := nI 1) dX5_act_88 rfl ?_
        refine aw_iaddN dX5_act_89 ?_
        refine mm_putN (k := 48) hW hR hs dX5_act_90 (pX5_356 _) rfl rfl (mm_F_set48 _ _ _) (by decide) (fun h hR hs => ?_)
        refine aw_aload_n dX5_act_93 rfl ?_
        refine aw_iconst (v := nI 0) dX5_act_94 rfl ?_
        refine mm_putN (k := 49) hW hR hs dX5_act_95 (pX5_359 _) rfl rfl (mm_F_set49 _ _ _) (by decide) (fun h hR hs => ?_)
        refine aw_vreturn dX5_act_98 rfl ?_
        refine ⟨rfl, mm_eq hR ?_, hs⟩
        unfold mm_act mm_actW
        rw [mm_N_N, show k = 28 by omega]
      · refine aw_aload_n dX5_act_57 rfl ?_
        refine aw_get dX5_act_58 fX5_91 rfl hR.1 (by rfl) ?_
        refine aw_bipush (v := nI 28) dX5_act_61 rfl ?_
        refine aw_aload_n dX5_act_63 rfl ?_
        refine aw_get dX5_act_64 fX5_356 rfl hR.1 (by rfl) ?_
        try simp only [mm_n_N, mm_n_A, mm_n_V, mm_n_Fp, mm_n_W, mm_n_Nm, mm_a_N, mm_a_A, mm_a_V, mm_a_Fp, mm_a_W, mm_a_Nm, mm_v_N, mm_v_A, mm_v_V, mm_fp_N, mm_fp_A, mm_fp_Fp, mm_w_N, mm_w_W, Nat.reduceEqDiff, reduceIte, if_true, if_false, mm_H_45, mm_H_46, mm_H_47, mm_H_50, mm_H_53, mm_H_54, mm_H_55, mm_H_56, mm_H_57, mm_H_58, mm_H_66, mm_H_67, mm_H_68]
        refine aw_imulN dX5_act_67 ?_
        refine aw_iload_n dX5_act_68 rfl ?_
        refine aw_iaddN dX5_act_69 ?_
        refine aw_aload_n dX5_act_70 rfl ?_
        refine aw_get dX5_act_71 fX5_85 rfl hR.1 (by rfl) ?_
        refine aw_iload_n dX5_act_74 rfl ?_
        refine aw_ialdN dX5_act_75 (hR.2.1 45 28 rfl) (by omega) (by decide) ?_
        try simp only [mm_n_N, mm_n_A, mm_n_V, mm_n_Fp, mm_n_W, mm_n_Nm, mm_a_N, mm_a_A, mm_a_V, mm_a_Fp, mm_a_W, mm_a_Nm, mm_v_N, mm_v_A, mm_v_V, mm_fp_N, mm_fp_A, mm_fp_Fp, mm_w_N, mm_w_W, Nat.reduceEqDiff, reduceIte, if_true, if_false, mm_H_45, mm_H_46, mm_H_47, mm_H_50, mm_H_53, mm_H_54, mm_H_55, mm_H_56, mm_H_57, mm_H_58, mm_H_66, mm_H_67, mm_H_68]
        refine mm_iast (k := 47) rfl hW hR hs dX5_act_76 (by omega) (by decide) (fun h hR hs => ?_)
        refine aw_iincN (b := 1) dX5_act_77 rfl rfl (by decide) rfl rfl ?_
        refine aw_goto (tgt := 51) dX5_act_80 (by decide) ?_
        refine ih (28 - (k + 1)) (by omega) (k + 1) h rfl (by omega) (mm_eq hR ?_) hs
        show mm_setN (mm_setA (mm_setA s 47 _) 47 _) 48 _ = _
        rw [mm_A_A]
        congr 2
        funext j
        show aw_u _ _ _ j = _
        unfold aw_u
        by_cases e : j = 28 * mm_a0 s + k
        · rw [if_pos e, if_pos (by omega), show j - 28 * mm_a0 s = k by omega]
        · rw [if_neg e]
          show (if _ then _ else _) = _
          by_cases z : 28 * mm_a0 s ≤ j ∧ j < 28 * mm_a0 s + k
          · rw [if_pos z, if_pos (by omega)]
          · rw [if_neg z, if_neg (show ¬ (28 * mm_a0 s ≤ j ∧ j < 28 * mm_a0 s + (k + 1)) by omega)]
  have shift : mm_n s 48 = 40 → ∀ (m k : Nat) (h : aw_H), 1092 - k = m → k ≤ 1092 → mm_R G w h (mm_setA s 47 (fun j => if j < k then mm_a s 47 (28 + j) else mm_a s 47 j)) → mm_same w h0 h → AW G (aw_rm 0 0 0) yX5_act cX5_act 2 none (aw_N G (mm_Po G w h0 none (mm_act s)) 0 0) 0 0 h 11 [(0, .ref w.1), (1, .int (nI k))] [] := by
    intro h40 m
    induction m using Nat.strongRecOn with
    | _ m ih =>
      intro k h hm hk hR hs
      refine aw_iload_n dX5_act_11 rfl ?_
      refine aw_sipush (v := nI 1092) dX5_act_12 rfl ?_
      refine aw_icmp_geN (tgt := 39) dX5_act_15 (by decide) (by omega) (by omega) (fun c_15 => ?_) (fun c_15 => ?_)
      · refine aw_aload_n dX5_act_39 rfl ?_
        refine aw_dup dX5_act_40 rfl ?_
        refine aw_get dX5_act_41 fX5_356 rfl hR.1 (by rfl) ?_
        try simp only [mm_n_N, mm_n_A, mm_n_V, mm_n_Fp, mm_n_W, mm_n_Nm, mm_a_N, mm_a_A, mm_a_V, mm_a_Fp, mm_a_W, mm_a_Nm, mm_v_N, mm_v_A, mm_v_V, mm_fp_N, mm_fp_A, mm_fp_Fp, mm_w_N, mm_w_W, Nat.reduceEqDiff, reduceIte, if_true, if_false, mm_H_45, mm_H_46, mm_H_47, mm_H_50, mm_H_53, mm_H_54, mm_H_55, mm_H_56, mm_H_57, mm_H_58, mm_H_66, mm_H_67, mm_H_68]
        refine aw_iconst (v := nI 1) dX5_act_44 rfl ?_
        refine aw_isubN dX5_act_45 (by omega) ?_
        refine mm_putN (k := 48) hW hR hs dX5_act_46 (pX5_356 _) rfl rfl (mm_F_set48 _ _ _) (by decide) (fun h hR hs => ?_)
        refine aw_iconst (v := nI 0) dX5_act_49 rfl ?_
        refine aw_istore_n dX5_act_50 (by decide) rfl rfl ?_
        refine fill 28 0 h rfl (Nat.zero_le _) (mm_eq hR ?_) hs
        unfold mm_a0
        rw [if_pos h40, h40]
        congr 2
        funext j
        rw [if_neg (show ¬ (28 * 39 ≤ j ∧ j < 28 * 39 + 0) by omega)]
        by_cases z : j < k
        · rw [if_pos z, if_pos ⟨rfl, by omega⟩]
        · rw [if_neg z, if_neg (by omega)]
      · refine aw_aload_n dX5_act_18 rfl ?_
        refine aw_get dX5_act_19 fX5_91 rfl hR.1 (by rfl) ?_
        refine aw_iload_n dX5_act_22 rfl ?_
        refine aw_aload_n dX5_act_23 rfl ?_
        refine aw_get dX5_act_24 fX5_91 rfl hR.1 (by rfl) ?_
        refine aw_bipush (v := nI 28) dX5_act_27 rfl ?_
        refine aw_iload_n dX5_act_29 rfl ?_
        refine aw_iaddN dX5_act_30 ?_
        refine aw_ialdN dX5_act_31 (hR.2.1 47 1120 rfl) (by omega) (by decide) ?_
        try simp only [mm_n_N, mm_n_A, mm_n_V, mm_n_Fp, mm_n_W, mm_n_Nm, mm_a_N, mm_a_A, mm_a_V, mm_a_Fp, mm_a_W, mm_a_Nm, mm_v_N, mm_v_A, mm_v_V, mm_fp_N, mm_fp_A, mm_fp_Fp, mm_w_N, mm_w_W, Nat.reduceEqDiff, reduceIte, if_true, if_false, mm_H_45, mm_H_46, mm_H_47, mm_H_50, mm_H_53, mm_H_54, mm_H_55, mm_H_56, mm_H_57, mm_H_58, mm_H_66, mm_H_67, mm_H_68]
        refine mm_iast (k := 47) rfl hW hR hs dX5_act_32 (by omega) (by decide) (fun h hR hs => ?_)
        refine aw_iincN (b := 1) dX5_act_33 rfl rfl (by decide) rfl rfl ?_
        refine aw_goto (tgt := 11) dX5_act_36 (by decide) ?_
        refine ih (1092 - (k + 1)) (by omega) (k + 1) h rfl (by omega) (mm_eq (mm_AU hR) ?_) hs
        congr 1
        rw [if_neg (show ¬ 28 + k < k by omega)]
        exact aw_u_cp (f := fun j => mm_a s 47 (28 + j))
  refine aw_aload_n dX5_act_0 rfl ?_
  refine aw_get dX5_act_1 fX5_356 rfl hR.1 (by rfl) ?_
  refine aw_bipush (v := nI 40) dX5_act_4 rfl ?_
  refine aw_icmp_neN (tgt := 49) dX5_act_6 (by decide) (by omega) (by omega) (fun c_6 => ?_) (fun c_6 => ?_)
  · refine aw_iconst (v := nI 0) dX5_act_49 rfl ?_
    refine aw_istore_n dX5_act_50 (by decide) rfl rfl ?_
    refine fill 28 0 h0 rfl (Nat.zero_le _) (mm_eq hR ?_) hs
    have e : mm_a0 s = mm_n s 48 := if_neg c_6
    rw [e]
    refine ((congrArg (fun t => mm_setN t 48 (mm_n s 48)) (mm_A_id (fun j => ?_))).trans (mm_N_self s 48)).symm
    rw [if_neg (by omega), if_neg (by omega)]
  · refine aw_iconst (v := nI 0) dX5_act_9 rfl ?_
    refine aw_istore_n dX5_act_10 (by decide) rfl rfl ?_
    exact shift c_6 1092 0 h0 rfl (Nat.zero_le _) (mm_eq hR (by simp only [Nat.not_lt_zero, if_false]; exact (mm_A_self s 47).symm)) hs
set_option maxHeartbeats 4000000 in
theorem mm_exchange {s : mm_S} {i : Nat} (hi : i < 40) : mm_Met yX5_exchange cX5_exchange 4 none 0 [.int (nI ((28 * i)))] s none (mm_exch s i) := by
  refine mm_Met.of (by decide +kernel) (fun _ => Nat.le_of_ble_eq_true rfl) (fun G w h0 hW hR => ?_)
  have hs : mm_same w h0 h0 := mm_same.rf
  show AW G (aw_rm 0 0 0) yX5_exchange cX5_exchange 4 none (aw_N G (mm_Po G w h0 none (mm_exch s i)) 0 0) 0 0 h0 0 [(0, .ref w.1), (1, .int (nI ((28 * i))))] []
  have loop : ∀ (m k : Nat) (h : aw_H) (ls2 : List (Nat × Value)), (ls2 = [] ∨ ∃ q, ls2 = [(3, .int q)]) → 28 - k = m → k ≤ 28 → mm_R G w h (mm_setA (mm_setA s 47 (fun j => if 28 * i ≤ j ∧ j < 28 * i + k then mm_a s 45 (j - 28 * i) else mm_a s 47 j)) 45 (fun j => if j < k then mm_a s 47 (28 * i + j) else mm_a s 45 j)) → mm_same w h0 h → AW G (aw_rm 0 0 0) yX5_exchange cX5_exchange 4 none (aw_N G (mm_Po G w h0 none (mm_exch s i)) 0 0) 0 0 h 2 ((0, .ref w.1) :: (1, .int (nI (28 * i))) :: (2, .int (nI k)) :: ls2) [] := by
    intro m
    induction m using Nat.strongRecOn with
    | _ m ih =>
      intro k h ls2 hls hm hk hR hs
      have step : ∀ (h : aw_H) (q : Int32) (v : Nat), k < 28 → v = mm_a s 47 (28 * i + k) → mm_R G w h (mm_setA (mm_setA s 47 (aw_u (fun j => if 28 * i ≤ j ∧ j < 28 * i + k then mm_a s 45 (j - 28 * i) else mm_a s 47 j) (28 * i + k) (mm_a s 45 k))) 45 (aw_u (fun j => if j < k then mm_a s 47 (28 * i + j) else mm_a s 45 j) k v)) → mm_same w h0 h → AW G (aw_rm 0 0 0) yX5_exchange cX5_exchange 4 none (aw_N G (mm_Po G w h0 none (mm_exch s i)) 0 0) 0 0 h 38 [(0, .ref w.1), (1, .int (nI (28 * i))), (2, .int (nI k)), (3, .int q)] [] := by
        intro h q v hk2 hv hR hs
        refine aw_iincN (b := 1) dX5_exchange_38 rfl rfl (by decide) rfl rfl ?_
        refine aw_goto (tgt := 2) dX5_exchange_41 (by decide) ?_
        refine ih (28 - (k + 1)) (by omega) (k + 1) h _ (Or.inr ⟨q, rfl⟩) rfl (by omega) (mm_eq hR ?_) hs
        rw [hv, aw_u_cp (f := fun j => mm_a s 47 (28 * i + j))]
        congr 2
        funext j
        unfold aw_u
        dsimp only
        by_cases e : j = 28 * i + k
        · rw [if_pos e, if_pos (by omega), show j - 28 * i = k by omega]
        · rw [if_neg e]
          by_cases z : 28 * i ≤ j ∧ j < 28 * i + k
          · rw [if_pos z, if_pos (by omega)]
          · rw [if_neg z, if_neg (show ¬ (28 * i ≤ j ∧ j < 28 * i + (k + 1)) by omega)]
      rcases hls with rfl | ⟨q, rfl⟩
      ·
        refine aw_iload_n dX5_exchange_2 rfl ?_
        refine aw_bipush (v := nI 28) dX5_exchange_3 rfl ?_
        refine aw_icmp_geN (tgt := 44) dX5_exchange_5 (by decide) (by omega) (by omega) (fun c_5 => ?_) (fun c_5 => ?_)
        · refine aw_vreturn dX5_exchange_44 rfl ?_
          exact ⟨rfl, mm_eq hR (by unfold mm_exch; rw [show k = 28 by omega]), hs⟩
        · refine aw_aload_n dX5_exchange_8 rfl ?_
          refine aw_get dX5_exchange_9 fX5_91 rfl hR.1 (by rfl) ?_
          refine aw_iload_n dX5_exchange_12 rfl ?_
          refine aw_iload_n dX5_exchange_13 rfl ?_
          refine aw_iaddN dX5_exchange_14 ?_
          refine aw_ialdN dX5_exchange_15 (hR.2.1 47 1120 rfl) (by omega) (by decide) ?_
          try simp only [mm_n_N, mm_n_A, mm_n_V, mm_n_Fp, mm_n_W, mm_n_Nm, mm_a_N, mm_a_A, mm_a_V, mm_a_Fp, mm_a_W, mm_a_Nm, mm_v_N, mm_v_A, mm_v_V, mm_fp_N, mm_fp_A, mm_fp_Fp, mm_w_N, mm_w_W, Nat.reduceEqDiff, reduceIte, if_true, if_false, mm_H_45, mm_H_46, mm_H_47, mm_H_50, mm_H_53, mm_H_54, mm_H_55, mm_H_56, mm_H_57, mm_H_58, mm_H_66, mm_H_67, mm_H_68]
          rw [if_neg (show ¬ (28 * i ≤ 28 * i + k ∧ 28 * i + k < 28 * i + k) by omega)]
          refine aw_istore_n dX5_exchange_16 (by decide) rfl rfl ?_
          refine aw_aload_n dX5_exchange_17 rfl ?_
          refine aw_get dX5_exchange_18 fX5_91 rfl hR.1 (by rfl) ?_
          refine aw_iload_n dX5_exchange_21 rfl ?_
          refine aw_iload_n dX5_exchange_22 rfl ?_
          refine aw_iaddN dX5_exchange_23 ?_
          refine aw_aload_n dX5_exchange_24 rfl ?_
          refine aw_get dX5_exchange_25 fX5_85 rfl hR.1 (by rfl) ?_
          refine aw_iload_n dX5_exchange_28 rfl ?_
          refine aw_ialdN dX5_exchange_29 (hR.2.1 45 28 rfl) (by omega) (by decide) ?_
          try simp only [mm_n_N, mm_n_A, mm_n_V, mm_n_Fp, mm_n_W, mm_n_Nm, mm_a_N, mm_a_A, mm_a_V, mm_a_Fp, mm_a_W, mm_a_Nm, mm_v_N, mm_v_A, mm_v_V, mm_fp_N, mm_fp_A, mm_fp_Fp, mm_w_N, mm_w_W, Nat.reduceEqDiff, reduceIte, if_true, if_false, mm_H_45, mm_H_46, mm_H_47, mm_H_50, mm_H_53, mm_H_54, mm_H_55, mm_H_56, mm_H_57, mm_H_58, mm_H_66, mm_H_67, mm_H_68]
          rw [if_neg (show ¬ k < k by omega)]
          refine mm_iast (k := 47) rfl hW hR hs dX5_exchange_30 (by omega) (by decide) (fun h hR hs => ?_)
          refine aw_aload_n dX5_exchange_31 rfl ?_
          refine aw_get dX5_exchange_32 fX5_85 rfl hR.1 (by rfl) ?_
          refine aw_iload_n dX5_exchange_35 rfl ?_
          refine aw_iload_n dX5_exchange_36 rfl ?_
          refine mm_iast (k := 45) rfl hW hR hs dX5_exchange_37 (by omega) (by decide) (fun h hR hs => ?_)
          exact step h _ _ (by omega) rfl (mm_eq hR (by simp only [mm_n_N, mm_n_A, mm_n_V, mm_n_Fp, mm_n_W, mm_n_Nm, mm_a_N, mm_a_A, mm_a_V, mm_a_Fp, mm_a_W, mm_a_Nm, mm_v_N, mm_v_A, mm_v_V, mm_fp_N, mm_fp_A, mm_fp_Fp, mm_w_N, mm_w_W, Nat.reduceEqDiff, reduceIte, if_true, if_false, mm_H_45, mm_H_46, mm_H_47, mm_H_50, mm_H_53, mm_H_54, mm_H_55, mm_H_56, mm_H_57, mm_H_58, mm_H_66, mm_H_67, mm_H_68]; rw [mm_A_cm (show 45 ≠ 47 by decide), mm_A_A, mm_A_A])) hs
      ·
        refine aw_iload_n dX5_exchange_2 rfl ?_
        refine aw_bipush (v := nI 28) dX5_exchange_3 rfl ?_
        refine aw_icmp_geN (tgt := 44) dX5_exchange_5 (by decide) (by omega) (by omega) (fun c_5 => ?_) (fun c_5 => ?_)
        · refine aw_vreturn dX5_exchange_44 rfl ?_
          exact ⟨rfl, mm_eq hR (by unfold mm_exch; rw [show k = 28 by omega]), hs⟩
        · refine aw_aload_n dX5_exchange_8 rfl ?_
          refine aw_get dX5_exchange_9 fX5_91 rfl hR.1 (by rfl) ?_
          refine aw_iload_n dX5_exchange_12 rfl ?_
          refine aw_iload_n dX5_exchange_13 rfl ?_
          refine aw_iaddN dX5_exchange_14 ?_
          refine aw_ialdN dX5_exchange_15 (hR.2.1 47 1120 rfl) (by omega) (by decide) ?_
          try simp only [mm_n_N, mm_n_A, mm_n_V, mm_n_Fp, mm_n_W, mm_n_Nm, mm_a_N, mm_a_A, mm_a_V, mm_a_Fp, mm_a_W, mm_a_Nm, mm_v_N, mm_v_A, mm_v_V, mm_fp_N, mm_fp_A, mm_fp_Fp, mm_w_N, mm_w_W, Nat.reduceEqDiff, reduceIte, if_true, if_false, mm_H_45, mm_H_46, mm_H_47, mm_H_50, mm_H_53, mm_H_54, mm_H_55, mm_H_56, mm_H_57, mm_H_58, mm_H_66, mm_H_67, mm_H_68]
          rw [if_neg (show ¬ (28 * i ≤ 28 * i + k ∧ 28 * i + k < 28 * i + k) by omega)]
          refine aw_istore_n dX5_exchange_16 (by decide) rfl rfl ?_
          refine aw_aload_n dX5_exchange_17 rfl ?_
          refine aw_get dX5_exchange_18 fX5_91 rfl hR.1 (by rfl) ?_
          refine aw_iload_n dX5_exchange_21 rfl ?_
          refine aw_iload_n dX5_exchange_22 rfl ?_
          refine aw_iaddN dX5_exchange_23 ?_
          refine aw_aload_n dX5_exchange_24 rfl ?_
          refine aw_get dX5_exchange_25 fX5_85 rfl hR.1 (by rfl) ?_
          refine aw_iload_n dX5_exchange_28 rfl ?_
          refine aw_ialdN dX5_exchange_29 (hR.2.1 45 28 rfl) (by omega) (by decide) ?_
          try simp only [mm_n_N, mm_n_A, mm_n_V, mm_n_Fp, mm_n_W, mm_n_Nm, mm_a_N, mm_a_A, mm_a_V, mm_a_Fp, mm_a_W, mm_a_Nm, mm_v_N, mm_v_A, mm_v_V, mm_fp_N, mm_fp_A, mm_fp_Fp, mm_w_N, mm_w_W, Nat.reduceEqDiff, reduceIte, if_true, if_false, mm_H_45, mm_H_46, mm_H_47, mm_H_50, mm_H_53, mm_H_54, mm_H_55, mm_H_56, mm_H_57, mm_H_58, mm_H_66, mm_H_67, mm_H_68]
          rw [if_neg (show ¬ k < k by omega)]
          refine mm_iast (k := 47) rfl hW hR hs dX5_exchange_30 (by omega) (by decide) (fun h hR hs => ?_)
          refine aw_aload_n dX5_exchange_31 rfl ?_
          refine aw_get dX5_exchange_32 fX5_85 rfl hR.1 (by rfl) ?_
          refine aw_iload_n dX5_exchange_35 rfl ?_
          refine aw_iload_n dX5_exchange_36 rfl ?_
          refine mm_iast (k := 45) rfl hW hR hs dX5_exchange_37 (by omega) (by decide) (fun h hR hs => ?_)
          exact step h _ _ (by omega) rfl (mm_eq hR (by simp only [mm_n_N, mm_n_A, mm_n_V, mm_n_Fp, mm_n_W, mm_n_Nm, mm_a_N, mm_a_A, mm_a_V, mm_a_Fp, mm_a_W, mm_a_Nm, mm_v_N, mm_v_A, mm_v_V, mm_fp_N, mm_fp_A, mm_fp_Fp, mm_w_N, mm_w_W, Nat.reduceEqDiff, reduceIte, if_true, if_false, mm_H_45, mm_H_46, mm_H_47, mm_H_50, mm_H_53, mm_H_54, mm_H_55, mm_H_56, mm_H_57, mm_H_58, mm_H_66, mm_H_67, mm_H_68]; rw [mm_A_cm (show 45 ≠ 47 by decide), mm_A_A, mm_A_A])) hs
  refine aw_iconst (v := nI 0) dX5_exchange_0 rfl ?_
  refine aw_istore_n dX5_exchange_1 (by decide) rfl rfl ?_
  exact loop 28 0 h0 _ (Or.inl rfl) rfl (Nat.zero_le _) (mm_eq hR (((mm_A_id (fun j => by rw [if_neg (by omega)]; rfl)).trans (mm_A_id (fun j => by rw [if_neg (by omega)]))).symm)) hs

