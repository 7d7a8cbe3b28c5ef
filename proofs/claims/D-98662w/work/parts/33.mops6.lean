set_option maxRecDepth 100000
/-! the model: calls, the fifth lot: weeks ahead -/
set_option maxHeartbeats 4000000 in
theorem mo_live {s : mm_S} {a : Int32} (hH : sp_okH (mm_H s)) : mm_Op yX5_live cX5_live 4 (some .int) 1 [.int (a)] s (some (.int (op_live (mm_H s) a))) (s) := by
  refine mm_Op.of (by decide +kernel) (fun _ => Nat.le_of_ble_eq_true rfl) (fun G w h0 hW hR => ?_)
  have hs : mm_same w h0 h0 := mm_same.rf
  show AW G (aw_rm 1 0 0) yX5_live cX5_live 4 (some .int) (aw_N G (mm_PoC G w h0 (some (.int (op_live (mm_H s) a))) (s)) 0 0) 0 0 h0 0 [(0, .ref w.1), (1, .int (a))] []
  have hs1 : 1 ≤ mm_n s 41 := hH.1.1; have hs20 : mm_n s 41 ≤ 20 := hH.1.2; have hn : mm_n s 42 ≤ 8 := hH.2.1; have hlv : ∀ t, t < 8 → mm_a s 32 t ≤ 20 := fun t ht => (hH.2.2.1 t ht).1; have hsg : ∀ t, t < 8 → mm_a s 33 t ≤ 40 := fun t ht => (hH.2.2.1 t ht).2.1; have hhv : ∀ t, t < 8 → mm_a s 34 t ≤ 9 := fun t ht => (hH.2.2.1 t ht).2.2.1; have how : ∀ t, t < 8 → mm_a s 35 t ≤ 999 := fun t ht => (hH.2.2.1 t ht).2.2.2.1; have hfl : ∀ t, t < 8 → mm_a s 36 t ≤ 100 := fun t ht => (hH.2.2.1 t ht).2.2.2.2; have hF0 : sp_fok (mm_steps s 0) := hH.2.2.2.1; have hF1 : sp_fok (mm_steps s 1) := hH.2.2.2.2; have h42 : sp_hn (mm_H s) = mm_n s 42 := rfl; have h41 : sp_hs (mm_H s) = mm_n s 41 := rfl
  have loop : ∀ (a' : Nat), a' < 2147483648 → op_live (mm_H s) a = nI (sp_or (fun t => aw_t (sp_lv (mm_H s) t = a')) (mm_n s 42)) → ∀ (m k : Nat) (h : aw_H), mm_n s 42 - k = m → k ≤ mm_n s 42 → mm_R G w h s → mm_same w h0 h → AW G (aw_rm 1 0 0) yX5_live cX5_live 4 (some .int) (aw_N G (mm_PoC G w h0 (some (.int (op_live (mm_H s) a))) (s)) 0 0) 0 0 h 18 [(0, .ref w.1), (1, .int (nI a')), (2, .int (nI (sp_or (fun t => aw_t (sp_lv (mm_H s) t = a')) k))), (3, .int (nI k))] [] := by
    intro a' ha fin m
    induction m using Nat.strongRecOn with
    | _ m ih =>
      intro k h hm hk hR hs
      by_cases hk8 : k < 8
      · have q1 := hlv k hk8
        have e1 : ∀ v : Nat, (mm_a s 32 k = a' ∧ v = 1 ∨ ¬ mm_a s 32 k = a' ∧ v = 0) → v = aw_t (sp_lv (mm_H s) k = a') := by
          intro v hv
          rcases hv with ⟨z, rfl⟩ | ⟨z, rfl⟩
          · exact (aw_t1 z).symm
          · exact (aw_t0 z).symm
        refine aw_iload_n dX5_live_18 rfl ?_
        refine aw_aload_n dX5_live_19 rfl ?_
        refine aw_get dX5_live_20 fX5_350 rfl hR.1 (by rfl) ?_
        refine aw_icmp_geN (tgt := 55) dX5_live_23 (by decide) (by omega) (by omega) (fun c_23 => ?_) (fun c_23 => ?_)
        · refine aw_iload_n dX5_live_55 rfl ?_
          refine aw_ireturn dX5_live_56 rfl ?_
          exact ⟨by rw [fin, show k = mm_n s 42 by omega], _, mm_core.rf, hR, hs⟩
        · refine aw_iload_n dX5_live_26 rfl ?_
          refine aw_aload_n dX5_live_27 rfl ?_
          refine aw_get dX5_live_28 fX5_67 rfl hR.1 (by rfl) ?_
          refine aw_iload_n dX5_live_31 rfl ?_
          refine aw_ialdN dX5_live_32 (hR.2.1 32 8 rfl) (by omega) (by decide) ?_
          refine aw_iload_n dX5_live_33 rfl ?_
          refine aw_icmp_neN (tgt := 41) dX5_live_34 (by decide) (by omega) (by omega) (fun c_34 => ?_) (fun c_34 => ?_)
          · refine aw_iconst (v := nI 0) dX5_live_41 rfl ?_
            refine aw_callP (r := _) dX5_live_42 sX5_304 rfl (mp_truth (by decide)) rfl rfl ⟨Nat.le_of_ble_eq_true rfl, Nat.le_of_ble_eq_true rfl⟩ (Nat.le_of_ble_eq_true rfl) ?_
            refine aw_topi (z := nI (aw_t (sp_lv (mm_H s) k = a'))) (congrArg nI (e1 _ (by omega))) ?_
            refine aw_iload_n dX5_live_45 rfl ?_
            refine aw_ishlN dX5_live_46 (by first | omega | exact aw_sh1 aw_t_lt hk8) (by first | omega | exact aw_sh1 aw_t_lt hk8) ?_
            refine aw_iorN dX5_live_47 ?_
            refine aw_istore_n dX5_live_48 (by decide) rfl rfl ?_
            refine aw_iincN (b := 1) dX5_live_49 rfl rfl (by decide) rfl rfl ?_
            refine aw_goto (tgt := 18) dX5_live_52 (by decide) ?_
            exact ih (mm_n s 42 - (k + 1)) (by omega) (k + 1) h rfl (by omega) hR hs
          · refine aw_iconst (v := nI 1) dX5_live_37 rfl ?_
            refine aw_goto (tgt := 42) dX5_live_38 (by decide) ?_
            refine aw_callP (r := _) dX5_live_42 sX5_304 rfl (mp_truth (by decide)) rfl rfl ⟨Nat.le_of_ble_eq_true rfl, Nat.le_of_ble_eq_true rfl⟩ (Nat.le_of_ble_eq_true rfl) ?_
            refine aw_topi (z := nI (aw_t (sp_lv (mm_H s) k = a'))) (congrArg nI (e1 _ (by omega))) ?_
            refine aw_iload_n dX5_live_45 rfl ?_
            refine aw_ishlN dX5_live_46 (by first | omega | exact aw_sh1 aw_t_lt hk8) (by first | omega | exact aw_sh1 aw_t_lt hk8) ?_
            refine aw_iorN dX5_live_47 ?_
            refine aw_istore_n dX5_live_48 (by decide) rfl rfl ?_
            refine aw_iincN (b := 1) dX5_live_49 rfl rfl (by decide) rfl rfl ?_
            refine aw_goto (tgt := 18) dX5_live_52 (by decide) ?_
            exact ih (mm_n s 42 - (k + 1)) (by omega) (k + 1) h rfl (by omega) hR hs
      ·
        refine aw_iload_n dX5_live_18 rfl ?_
        refine aw_aload_n dX5_live_19 rfl ?_
        refine aw_get dX5_live_20 fX5_350 rfl hR.1 (by rfl) ?_
        refine aw_icmp_geN (tgt := 55) dX5_live_23 (by decide) (by omega) (by omega) (fun c_23 => ?_) (fun c_23 => by exfalso; omega)
        refine aw_iload_n dX5_live_55 rfl ?_
        refine aw_ireturn dX5_live_56 rfl ?_
        exact ⟨by rw [fin, show k = mm_n s 42 by omega], _, mm_core.rf, hR, hs⟩
  have e41 : (nI (mm_n s 41)).toInt = mm_n s 41 := aw_ti (by omega)
  have e0 : (nI 0).toInt = 0 := rfl
  refine aw_iload_n dX5_live_0 rfl ?_
  refine aw_iconst (v := nI 0) dX5_live_1 rfl ?_
  refine aw_aload_n dX5_live_2 rfl ?_
  refine aw_get dX5_live_3 fX5_82 rfl hR.1 (by rfl) ?_
  refine aw_callP (r := _) dX5_live_6 sX5_368 rfl (mp_isIn) rfl rfl ⟨Nat.le_of_ble_eq_true rfl, Nat.le_of_ble_eq_true rfl⟩ (Nat.le_of_ble_eq_true rfl) ?_
  refine aw_if_neB (tgt := 14) dX5_live_9 (by decide) (fun c_9 => ?_) (fun c_9 => ?_)
  · refine aw_iconst (v := nI 0) dX5_live_14 rfl ?_
    refine aw_istore_n dX5_live_15 (by decide) rfl rfl ?_
    refine aw_iconst (v := nI 0) dX5_live_16 rfl ?_
    refine aw_istore_n dX5_live_17 (by decide) rfl rfl ?_
    obtain ⟨a', ha, ea, a1, a2⟩ := aw_ofN (x := a) (by omega)
    exact AW_ls (by rw [ea]; rfl) (loop a' ha (by rw [op_live, aw_if1 (by rw [h41]; omega), a2, h42]) (mm_n s 42) 0 h0 rfl (Nat.zero_le _) hR hs)
  · refine aw_iconst (v := -1) dX5_live_12 rfl ?_
    refine aw_ireturn dX5_live_13 rfl ?_
    exact ⟨by rw [op_live, aw_if0 (fun z => c_9 (by rw [h41] at z; omega))], _, mm_core.rf, hR, hs⟩
set_option maxHeartbeats 4000000 in
theorem mm_goFar {s : mm_S} {n N : Nat} (hH : sp_okH (mm_H s)) (hA : sp_okA N (mm_a s 45)) (hN : N ≤ 10000000) (hn60 : n ≤ 60) : mm_Met yX5_goFar cX5_goFar 3 none 5 [.int (nI (n))] s none (mm_setA s 46 (sp_weeks (mm_H s) n (mm_a s 45))) := by
  refine mm_Met.of (by decide +kernel) (fun _ => Nat.le_of_ble_eq_true rfl) (fun G w h0 hW hR => ?_)
  have hs : mm_same w h0 h0 := mm_same.rf
  show AW G (aw_rm 5 0 0) yX5_goFar cX5_goFar 3 none (aw_N G (mm_Po G w h0 none (mm_setA s 46 (sp_weeks (mm_H s) n (mm_a s 45)))) 0 0) 0 0 h0 0 [(0, .ref w.1), (1, .int (nI (n)))] []
  have hs1 : 1 ≤ mm_n s 41 := hH.1.1; have hs20 : mm_n s 41 ≤ 20 := hH.1.2; have hn : mm_n s 42 ≤ 8 := hH.2.1; have hlv : ∀ t, t < 8 → mm_a s 32 t ≤ 20 := fun t ht => (hH.2.2.1 t ht).1; have hsg : ∀ t, t < 8 → mm_a s 33 t ≤ 40 := fun t ht => (hH.2.2.1 t ht).2.1; have hhv : ∀ t, t < 8 → mm_a s 34 t ≤ 9 := fun t ht => (hH.2.2.1 t ht).2.2.1; have how : ∀ t, t < 8 → mm_a s 35 t ≤ 999 := fun t ht => (hH.2.2.1 t ht).2.2.2.1; have hfl : ∀ t, t < 8 → mm_a s 36 t ≤ 100 := fun t ht => (hH.2.2.1 t ht).2.2.2.2; have hF0 : sp_fok (mm_steps s 0) := hH.2.2.2.1; have hF1 : sp_fok (mm_steps s 1) := hH.2.2.2.2; have h42 : sp_hn (mm_H s) = mm_n s 42 := rfl; have h41 : sp_hs (mm_H s) = mm_n s 41 := rfl
  have loop : ∀ (m k : Nat) (h : aw_H), n - k = m → k ≤ n → mm_R G w h (mm_setA s 46 (sp_weeks (mm_H s) k (mm_a s 45))) → mm_same w h0 h → AW G (aw_rm 5 0 0) yX5_goFar cX5_goFar 3 none (aw_N G (mm_Po G w h0 none (mm_setA s 46 (sp_weeks (mm_H s) n (mm_a s 45)))) 0 0) 0 0 h 6 [(0, .ref w.1), (1, .int (nI n)), (2, .int (nI k))] [] := by
    intro m
    induction m using Nat.strongRecOn with
    | _ m ih =>
      intro k h hm hk hR hs
      have hw := mm_wkh hH (sp_weeks_ok (n := k) hH hA) (by omega)
      refine aw_iload_n dX5_goFar_6 rfl ?_
      refine aw_iload_n dX5_goFar_7 rfl ?_
      refine aw_icmp_geN (tgt := 21) dX5_goFar_8 (by decide) (by omega) (by omega) (fun c_8 => ?_) (fun c_8 => ?_)
      · refine aw_vreturn dX5_goFar_21 rfl ?_
        exact ⟨rfl, by rw [show n = k by omega]; exact hR, hs⟩
      · refine aw_aload_n dX5_goFar_11 rfl ?_
        refine mm_call dX5_goFar_12 sX5_417 rfl hW hR hs (mm_goWeek (s := mm_setA s 46 (sp_weeks (mm_H s) k (mm_a s 45))) hn (by show mm_n s 41 < _; omega) hF1 hw.1 hw.2.1 hw.2.2) rfl rfl ⟨Nat.le_of_ble_eq_true rfl, Nat.le_of_ble_eq_true rfl⟩ (Nat.le_of_ble_eq_true rfl) (fun h hR hs => ?_)
        refine aw_iincN (b := 1) dX5_goFar_15 rfl rfl (by decide) rfl rfl ?_
        refine aw_goto (tgt := 6) dX5_goFar_18 (by decide) ?_
        exact ih (n - (k + 1)) (by omega) (k + 1) h rfl (by omega) (mm_eq hR (mm_A_A _ _ _ _)) hs
  refine aw_aload_n dX5_goFar_0 rfl ?_
  refine mm_call dX5_goFar_1 sX5_394 rfl hW hR hs (mm_load) rfl rfl ⟨Nat.le_of_ble_eq_true rfl, Nat.le_of_ble_eq_true rfl⟩ (Nat.le_of_ble_eq_true rfl) (fun h hR hs => ?_)
  refine aw_iconst (v := nI 0) dX5_goFar_4 rfl ?_
  refine aw_istore_n dX5_goFar_5 (by decide) rfl rfl ?_
  exact loop n 0 h rfl (Nat.zero_le _) hR hs
set_option maxHeartbeats 4000000 in
theorem mo_rest {s : mm_S} {N : Nat} (hH : sp_okH (mm_H s)) (hA : sp_okA N (mm_a s 45)) (hN : N ≤ 10000000) : mm_Op yX5_rest cX5_rest 3 (some .int) 5 [] s (some (.int (op_rest (mm_H s) (mm_a s 45)))) (s) := by
  refine mm_Op.of (by decide +kernel) (fun _ => Nat.le_of_ble_eq_true rfl) (fun G w h0 hW hR => ?_)
  have hs : mm_same w h0 h0 := mm_same.rf
  show AW G (aw_rm 5 0 0) yX5_rest cX5_rest 3 (some .int) (aw_N G (mm_PoC G w h0 (some (.int (op_rest (mm_H s) (mm_a s 45)))) (s)) 0 0) 0 0 h0 0 [(0, .ref w.1)] []
  have hs1 : 1 ≤ mm_n s 41 := hH.1.1; have hs20 : mm_n s 41 ≤ 20 := hH.1.2; have hn : mm_n s 42 ≤ 8 := hH.2.1; have hlv : ∀ t, t < 8 → mm_a s 32 t ≤ 20 := fun t ht => (hH.2.2.1 t ht).1; have hsg : ∀ t, t < 8 → mm_a s 33 t ≤ 40 := fun t ht => (hH.2.2.1 t ht).2.1; have hhv : ∀ t, t < 8 → mm_a s 34 t ≤ 9 := fun t ht => (hH.2.2.1 t ht).2.2.1; have how : ∀ t, t < 8 → mm_a s 35 t ≤ 999 := fun t ht => (hH.2.2.1 t ht).2.2.2.1; have hfl : ∀ t, t < 8 → mm_a s 36 t ≤ 100 := fun t ht => (hH.2.2.1 t ht).2.2.2.2; have hF0 : sp_fok (mm_steps s 0) := hH.2.2.2.1; have hF1 : sp_fok (mm_steps s 1) := hH.2.2.2.2; have h42 : sp_hn (mm_H s) = mm_n s 42 := rfl; have h41 : sp_hs (mm_H s) = mm_n s 41 := rfl
  have loop : ∀ (m k : Nat) (A : Nat → Nat) (h : aw_H) (lsx : List (Nat × Value)), (lsx = [] ∨ ∃ z, lsx = [(2, .int z)]) → 61 - k = m → k ≤ 61 → sp_okA (N + 1000 * k) A → op_rest (mm_H s) (mm_a s 45) = sp_cv (sp_rst (mm_H s) m k A) → mm_R G w h (mm_setA s 46 A) → mm_same w h0 h → AW G (aw_rm 5 0 0) yX5_rest cX5_rest 3 (some .int) (aw_N G (mm_PoC G w h0 (some (.int (op_rest (mm_H s) (mm_a s 45)))) s) 0 0) 0 0 h 6 ((0, .ref w.1) :: (1, .int (nI k)) :: lsx) [] := by
    intro m
    induction m using Nat.strongRecOn with
    | _ m ih =>
      intro k A h lsx hls hm hk hB fin hR hs
      have hw := mm_wkh hH hB (by omega)
      have hB2 := sp_week_ok hH hB
      have l1 := hB.2.2.1
      have l2 := hB2.2.2.1
      cases m with
      | zero =>
        rcases hls with rfl | ⟨z, rfl⟩
        ·
          refine aw_iload_n dX5_rest_6 rfl ?_
          refine aw_bipush (v := nI 60) dX5_rest_7 rfl ?_
          refine aw_icmp_gtN (tgt := 43) dX5_rest_9 (by decide) (by omega) (by omega) (fun c_9 => ?_) (fun c_9 => by exfalso; omega)
          refine aw_iconst (v := -1) dX5_rest_43 rfl ?_
          refine aw_ireturn dX5_rest_44 rfl ?_
          exact ⟨by rw [fin]; rfl, _, mm_core.A rfl mm_core.rf, hR, hs⟩
        ·
          refine aw_iload_n dX5_rest_6 rfl ?_
          refine aw_bipush (v := nI 60) dX5_rest_7 rfl ?_
          refine aw_icmp_gtN (tgt := 43) dX5_rest_9 (by decide) (by omega) (by omega) (fun c_9 => ?_) (fun c_9 => by exfalso; omega)
          refine aw_iconst (v := -1) dX5_rest_43 rfl ?_
          refine aw_ireturn dX5_rest_44 rfl ?_
          exact ⟨by rw [fin]; rfl, _, mm_core.A rfl mm_core.rf, hR, hs⟩
      | succ r =>
        have fin2 : op_rest (mm_H s) (mm_a s 45) = sp_cv (if sp_week (mm_H s) A 25 = A 25 then k + 1 else sp_rst (mm_H s) r (k + 1) (sp_week (mm_H s) A)) := fin
        rcases hls with rfl | ⟨z, rfl⟩
        ·
          refine aw_iload_n dX5_rest_6 rfl ?_
          refine aw_bipush (v := nI 60) dX5_rest_7 rfl ?_
          refine aw_icmp_gtN (tgt := 43) dX5_rest_9 (by decide) (by omega) (by omega) (fun c_9 => by exfalso; omega) (fun c_9 => ?_)
          refine aw_aload_n dX5_rest_12 rfl ?_
          refine aw_get dX5_rest_13 fX5_88 rfl hR.1 (by rfl) ?_
          refine aw_bipush (v := nI 25) dX5_rest_16 rfl ?_
          refine aw_ialdN dX5_rest_18 (hR.2.1 46 28 rfl) (by omega) (by decide) ?_
          try simp only [mm_n_N, mm_n_A, mm_n_V, mm_n_Fp, mm_n_W, mm_n_Nm, mm_a_N, mm_a_A, mm_a_V, mm_a_Fp, mm_a_W, mm_a_Nm, mm_v_N, mm_v_A, mm_v_V, mm_fp_N, mm_fp_A, mm_fp_Fp, mm_w_N, mm_w_W, Nat.reduceEqDiff, reduceIte, if_true, if_false, mm_H_45, mm_H_46, mm_H_47, mm_H_50, mm_H_53, mm_H_54, mm_H_55, mm_H_56, mm_H_57, mm_H_58, mm_H_66, mm_H_67, mm_H_68]
          refine aw_istore_n dX5_rest_19 (by decide) rfl rfl ?_
          refine aw_aload_n dX5_rest_20 rfl ?_
          refine mm_call dX5_rest_21 sX5_417 rfl hW hR hs (mm_goWeek (s := mm_setA s 46 A) hn (by show mm_n s 41 < _; omega) hF1 hw.1 hw.2.1 hw.2.2) rfl rfl ⟨Nat.le_of_ble_eq_true rfl, Nat.le_of_ble_eq_true rfl⟩ (Nat.le_of_ble_eq_true rfl) (fun h hR hs => ?_)
          refine aw_aload_n dX5_rest_24 rfl ?_
          refine aw_get dX5_rest_25 fX5_88 rfl hR.1 (by rfl) ?_
          refine aw_bipush (v := nI 25) dX5_rest_28 rfl ?_
          refine aw_ialdN dX5_rest_30 (hR.2.1 46 28 rfl) (by omega) (by decide) ?_
          try simp only [mm_n_N, mm_n_A, mm_n_V, mm_n_Fp, mm_n_W, mm_n_Nm, mm_a_N, mm_a_A, mm_a_V, mm_a_Fp, mm_a_W, mm_a_Nm, mm_v_N, mm_v_A, mm_v_V, mm_fp_N, mm_fp_A, mm_fp_Fp, mm_w_N, mm_w_W, Nat.reduceEqDiff, reduceIte, if_true, if_false, mm_H_45, mm_H_46, mm_H_47, mm_H_50, mm_H_53, mm_H_54, mm_H_55, mm_H_56, mm_H_57, mm_H_58, mm_H_66, mm_H_67, mm_H_68]
          refine aw_iload_n dX5_rest_31 rfl ?_
          refine aw_icmp_neN (tgt := 37) dX5_rest_32 (by decide) (by omega) (by omega) (fun c_32 => ?_) (fun c_32 => ?_)
          · refine aw_iincN (b := 1) dX5_rest_37 rfl rfl (by decide) rfl rfl ?_
            refine aw_goto (tgt := 6) dX5_rest_40 (by decide) ?_
            exact ih r (by omega) (k + 1) (sp_week (mm_H s) A) h _ (Or.inr ⟨_, rfl⟩) (by omega) (by omega) (hB2.mono (by omega)) (by rw [fin2, if_neg c_32]) (mm_eq hR (mm_A_A _ _ _ _)) hs
          · refine aw_iload_n dX5_rest_35 rfl ?_
            refine aw_ireturn dX5_rest_36 rfl ?_
            exact ⟨by rw [fin2, if_pos c_32, sp_cv_s], _, mm_core.A rfl (mm_core.A rfl mm_core.rf), hR, hs⟩
        ·
          refine aw_iload_n dX5_rest_6 rfl ?_
          refine aw_bipush (v := nI 60) dX5_rest_7 rfl ?_
          refine aw_icmp_gtN (tgt := 43) dX5_rest_9 (by decide) (by omega) (by omega) (fun c_9 => by exfalso; omega) (fun c_9 => ?_)
          refine aw_aload_n dX5_rest_12 rfl ?_
          refine aw_get dX5_rest_13 fX5_88 rfl hR.1 (by rfl) ?_
          refine aw_bipush (v := nI 25) dX5_rest_16 rfl ?_
          refine aw_ialdN dX5_rest_18 (hR.2.1 46 28 rfl) (by omega) (by decide) ?_
          try simp only [mm_n_N, mm_n_A, mm_n_V, mm_n_Fp, mm_n_W, mm_n_Nm, mm_a_N, mm_a_A, mm_a_V, mm_a_Fp, mm_a_W, mm_a_Nm, mm_v_N, mm_v_A, mm_v_V, mm_fp_N, mm_fp_A, mm_fp_Fp, mm_w_N, mm_w_W, Nat.reduceEqDiff, reduceIte, if_true, if_false, mm_H_45, mm_H_46, mm_H_47, mm_H_50, mm_H_53, mm_H_54, mm_H_55, mm_H_56, mm_H_57, mm_H_58, mm_H_66, mm_H_67, mm_H_68]
          refine aw_istore_n dX5_rest_19 (by decide) rfl rfl ?_
          refine aw_aload_n dX5_rest_20 rfl ?_
          refine mm_call dX5_rest_21 sX5_417 rfl hW hR hs (mm_goWeek (s := mm_setA s 46 A) hn (by show mm_n s 41 < _; omega) hF1 hw.1 hw.2.1 hw.2.2) rfl rfl ⟨Nat.le_of_ble_eq_true rfl, Nat.le_of_ble_eq_true rfl⟩ (Nat.le_of_ble_eq_true rfl) (fun h hR hs => ?_)
          refine aw_aload_n dX5_rest_24 rfl ?_
          refine aw_get dX5_rest_25 fX5_88 rfl hR.1 (by rfl) ?_
          refine aw_bipush (v := nI 25) dX5_rest_28 rfl ?_
          refine aw_ialdN dX5_rest_30 (hR.2.1 46 28 rfl) (by omega) (by decide) ?_
          try simp only [mm_n_N, mm_n_A, mm_n_V, mm_n_Fp, mm_n_W, mm_n_Nm, mm_a_N, mm_a_A, mm_a_V, mm_a_Fp, mm_a_W, mm_a_Nm, mm_v_N, mm_v_A, mm_v_V, mm_fp_N, mm_fp_A, mm_fp_Fp, mm_w_N, mm_w_W, Nat.reduceEqDiff, reduceIte, if_true, if_false, mm_H_45, mm_H_46, mm_H_47, mm_H_50, mm_H_53, mm_H_54, mm_H_55, mm_H_56, mm_H_57, mm_H_58, mm_H_66, mm_H_67, mm_H_68]
          refine aw_iload_n dX5_rest_31 rfl ?_
          refine aw_icmp_neN (tgt := 37) dX5_rest_32 (by decide) (by omega) (by omega) (fun c_32 => ?_) (fun c_32 => ?_)
          · refine aw_iincN (b := 1) dX5_rest_37 rfl rfl (by decide) rfl rfl ?_
            refine aw_goto (tgt := 6) dX5_rest_40 (by decide) ?_
            exact ih r (by omega) (k + 1) (sp_week (mm_H s) A) h _ (Or.inr ⟨_, rfl⟩) (by omega) (by omega) (hB2.mono (by omega)) (by rw [fin2, if_neg c_32]) (mm_eq hR (mm_A_A _ _ _ _)) hs
          · refine aw_iload_n dX5_rest_35 rfl ?_
            refine aw_ireturn dX5_rest_36 rfl ?_
            exact ⟨by rw [fin2, if_pos c_32, sp_cv_s], _, mm_core.A rfl (mm_core.A rfl mm_core.rf), hR, hs⟩
  refine aw_aload_n dX5_rest_0 rfl ?_
  refine mm_call dX5_rest_1 sX5_394 rfl hW hR hs (mm_load) rfl rfl ⟨Nat.le_of_ble_eq_true rfl, Nat.le_of_ble_eq_true rfl⟩ (Nat.le_of_ble_eq_true rfl) (fun h hR hs => ?_)
  refine aw_iconst (v := nI 0) dX5_rest_4 rfl ?_
  refine aw_istore_n dX5_rest_5 (by decide) rfl rfl ?_
  exact loop 61 0 (mm_a s 45) h [] (Or.inl rfl) rfl (by omega) (hA.mono (by omega)) rfl hR hs
set_option maxHeartbeats 4000000 in
theorem mo_will {s : mm_S} {n : Int32} {N : Nat} (hH : sp_okH (mm_H s)) (hA : sp_okA N (mm_a s 45)) (hN : N ≤ 10000000) : mm_Op yX5_will cX5_will 2 (some .int) 6 [.int (n)] s (some (.int (op_will (mm_H s) (mm_a s 45) n))) (s) := by
  refine mm_Op.of (by decide +kernel) (fun _ => Nat.le_of_ble_eq_true rfl) (fun G w h0 hW hR => ?_)
  have hs : mm_same w h0 h0 := mm_same.rf
  show AW G (aw_rm 6 0 0) yX5_will cX5_will 2 (some .int) (aw_N G (mm_PoC G w h0 (some (.int (op_will (mm_H s) (mm_a s 45) n))) (s)) 0 0) 0 0 h0 0 [(0, .ref w.1), (1, .int (n))] []
  have hs1 : 1 ≤ mm_n s 41 := hH.1.1; have hs20 : mm_n s 41 ≤ 20 := hH.1.2; have hn : mm_n s 42 ≤ 8 := hH.2.1; have hlv : ∀ t, t < 8 → mm_a s 32 t ≤ 20 := fun t ht => (hH.2.2.1 t ht).1; have hsg : ∀ t, t < 8 → mm_a s 33 t ≤ 40 := fun t ht => (hH.2.2.1 t ht).2.1; have hhv : ∀ t, t < 8 → mm_a s 34 t ≤ 9 := fun t ht => (hH.2.2.1 t ht).2.2.1; have how : ∀ t, t < 8 → mm_a s 35 t ≤ 999 := fun t ht => (hH.2.2.1 t ht).2.2.2.1; have hfl : ∀ t, t < 8 → mm_a s 36 t ≤ 100 := fun t ht => (hH.2.2.1 t ht).2.2.2.2; have hF0 : sp_fok (mm_steps s 0) := hH.2.2.2.1; have hF1 : sp_fok (mm_steps s 1) := hH.2.2.2.2; have h42 : sp_hn (mm_H s) = mm_n s 42 := rfl; have h41 : sp_hs (mm_H s) = mm_n s 41 := rfl
  refine aw_iload_n dX5_will_0 rfl ?_
  refine aw_iconst (v := nI 0) dX5_will_1 rfl ?_
  refine aw_bipush (v := nI 60) dX5_will_2 rfl ?_
  refine aw_callP (r := _) dX5_will_4 sX5_368 rfl (mp_isIn) rfl rfl ⟨Nat.le_of_ble_eq_true rfl, Nat.le_of_ble_eq_true rfl⟩ (Nat.le_of_ble_eq_true rfl) ?_
  refine aw_if_neB (tgt := 12) dX5_will_7 (by decide) (fun c_7 => ?_) (fun c_7 => ?_)
  · have c_7 : 0 ≤ n.toInt ∧ n.toInt ≤ 60 := c_7
    obtain ⟨n', hn', en, n1, n2⟩ := aw_ofN (x := n) c_7.1
    refine AW_ls (show _ = [(0, .ref w.1), (1, .int (nI n'))] by rw [← en]) ?_
    refine aw_aload_n dX5_will_12 rfl ?_
    refine aw_iload_n dX5_will_13 rfl ?_
    refine mm_call dX5_will_14 sX5_476 rfl hW hR hs (mm_goFar hH hA hN (by omega)) rfl rfl ⟨Nat.le_of_ble_eq_true rfl, Nat.le_of_ble_eq_true rfl⟩ (Nat.le_of_ble_eq_true rfl) (fun h hR hs => ?_)
    refine aw_aload_n dX5_will_17 rfl ?_
    refine aw_get dX5_will_18 fX5_88 rfl hR.1 (by rfl) ?_
    refine aw_bipush (v := nI 25) dX5_will_21 rfl ?_
    refine aw_ialdN dX5_will_23 (hR.2.1 46 28 rfl) (by omega) (by decide) ?_
    try simp only [mm_n_N, mm_n_A, mm_n_V, mm_n_Fp, mm_n_W, mm_n_Nm, mm_a_N, mm_a_A, mm_a_V, mm_a_Fp, mm_a_W, mm_a_Nm, mm_v_N, mm_v_A, mm_v_V, mm_fp_N, mm_fp_A, mm_fp_Fp, mm_w_N, mm_w_W, Nat.reduceEqDiff, reduceIte, if_true, if_false, mm_H_45, mm_H_46, mm_H_47, mm_H_50, mm_H_53, mm_H_54, mm_H_55, mm_H_56, mm_H_57, mm_H_58, mm_H_66, mm_H_67, mm_H_68]
    refine aw_ireturn dX5_will_24 rfl ?_
    exact ⟨by rw [op_will, aw_if1 c_7, n2], _, mm_core.A rfl mm_core.rf, hR, hs⟩
  · refine aw_iconst (v := -1) dX5_will_10 rfl ?_
    refine aw_ireturn dX5_will_11 rfl ?_
    exact ⟨by rw [op_will, aw_if0 (show ¬ (0 ≤ n.toInt ∧ n.toInt ≤ 60) from c_7)], _, mm_core.rf, hR, hs⟩
set_option maxHeartbeats 4000000 in
theorem mo_pull {s : mm_S} {N : Nat} (hH : sp_okH (mm_H s)) (hA : sp_okA N (mm_a s 45)) (hN : N ≤ 10000000) : mm_Op yX5_pull cX5_pull 1 (some .int) 4 [] s (some (.int (op_pull (mm_H s) (mm_a s 45)))) (s) := by
  refine mm_Op.of (by decide +kernel) (fun _ => Nat.le_of_ble_eq_true rfl) (fun G w h0 hW hR => ?_)
  have hs : mm_same w h0 h0 := mm_same.rf
  show AW G (aw_rm 4 0 0) yX5_pull cX5_pull 1 (some .int) (aw_N G (mm_PoC G w h0 (some (.int (op_pull (mm_H s) (mm_a s 45)))) (s)) 0 0) 0 0 h0 0 [(0, .ref w.1)] []
  have hs1 : 1 ≤ mm_n s 41 := hH.1.1; have hs20 : mm_n s 41 ≤ 20 := hH.1.2; have hn : mm_n s 42 ≤ 8 := hH.2.1; have hlv : ∀ t, t < 8 → mm_a s 32 t ≤ 20 := fun t ht => (hH.2.2.1 t ht).1; have hsg : ∀ t, t < 8 → mm_a s 33 t ≤ 40 := fun t ht => (hH.2.2.1 t ht).2.1; have hhv : ∀ t, t < 8 → mm_a s 34 t ≤ 9 := fun t ht => (hH.2.2.1 t ht).2.2.1; have how : ∀ t, t < 8 → mm_a s 35 t ≤ 999 := fun t ht => (hH.2.2.1 t ht).2.2.2.1; have hfl : ∀ t, t < 8 → mm_a s 36 t ≤ 100 := fun t ht => (hH.2.2.1 t ht).2.2.2.2; have hF0 : sp_fok (mm_steps s 0) := hH.2.2.2.1; have hF1 : sp_fok (mm_steps s 1) := hH.2.2.2.2; have h42 : sp_hn (mm_H s) = mm_n s 42 := rfl; have h41 : sp_hs (mm_H s) = mm_n s 41 := rfl
  refine aw_aload_n dX5_pull_0 rfl ?_
  refine mm_call dX5_pull_1 sX5_394 rfl hW hR hs (mm_load) rfl rfl ⟨Nat.le_of_ble_eq_true rfl, Nat.le_of_ble_eq_true rfl⟩ (Nat.le_of_ble_eq_true rfl) (fun h hR hs => ?_)
  refine aw_aload_n dX5_pull_4 rfl ?_
  refine mm_call dX5_pull_5 sX5_391 rfl hW hR hs (mm_pullHere (s := mm_setA s 46 (mm_a s 45)) hn hF1 (by show mm_a s 45 24 < _; have := hA.2.1; omega)) rfl rfl ⟨Nat.le_of_ble_eq_true rfl, Nat.le_of_ble_eq_true rfl⟩ (Nat.le_of_ble_eq_true rfl) (fun h hR hs => ?_)
  try simp only [mm_n_N, mm_n_A, mm_n_V, mm_n_Fp, mm_n_W, mm_n_Nm, mm_a_N, mm_a_A, mm_a_V, mm_a_Fp, mm_a_W, mm_a_Nm, mm_v_N, mm_v_A, mm_v_V, mm_fp_N, mm_fp_A, mm_fp_Fp, mm_w_N, mm_w_W, Nat.reduceEqDiff, reduceIte, if_true, if_false, mm_H_45, mm_H_46, mm_H_47, mm_H_50, mm_H_53, mm_H_54, mm_H_55, mm_H_56, mm_H_57, mm_H_58, mm_H_66, mm_H_67, mm_H_68]
  refine aw_ireturn dX5_pull_8 rfl ?_
  exact ⟨rfl, _, by first | exact mm_core.rf | exact mm_core.A rfl mm_core.rf | exact mm_core.A rfl (mm_core.A rfl mm_core.rf), hR, hs⟩
set_option maxHeartbeats 4000000 in
theorem mo_lever {s : mm_S} {N : Nat} (hH : sp_okH (mm_H s)) (hA : sp_okA N (mm_a s 45)) (hN : N ≤ 10000000) : mm_Op yX5_lever cX5_lever 2 (some .int) 5 [] s (some (.int (op_lever (mm_H s) (mm_a s 45)))) (s) := by
  refine mm_Op.of (by decide +kernel) (fun _ => Nat.le_of_ble_eq_true rfl) (fun G w h0 hW hR => ?_)
  have hs : mm_same w h0 h0 := mm_same.rf
  show AW G (aw_rm 5 0 0) yX5_lever cX5_lever 2 (some .int) (aw_N G (mm_PoC G w h0 (some (.int (op_lever (mm_H s) (mm_a s 45)))) (s)) 0 0) 0 0 h0 0 [(0, .ref w.1)] []
  have hs1 : 1 ≤ mm_n s 41 := hH.1.1; have hs20 : mm_n s 41 ≤ 20 := hH.1.2; have hn : mm_n s 42 ≤ 8 := hH.2.1; have hlv : ∀ t, t < 8 → mm_a s 32 t ≤ 20 := fun t ht => (hH.2.2.1 t ht).1; have hsg : ∀ t, t < 8 → mm_a s 33 t ≤ 40 := fun t ht => (hH.2.2.1 t ht).2.1; have hhv : ∀ t, t < 8 → mm_a s 34 t ≤ 9 := fun t ht => (hH.2.2.1 t ht).2.2.1; have how : ∀ t, t < 8 → mm_a s 35 t ≤ 999 := fun t ht => (hH.2.2.1 t ht).2.2.2.1; have hfl : ∀ t, t < 8 → mm_a s 36 t ≤ 100 := fun t ht => (hH.2.2.1 t ht).2.2.2.2; have hF0 : sp_fok (mm_steps s 0) := hH.2.2.2.1; have hF1 : sp_fok (mm_steps s 1) := hH.2.2.2.2; have h42 : sp_hn (mm_H s) = mm_n s 42 := rfl; have h41 : sp_hs (mm_H s) = mm_n s 41 := rfl
  have l1 := hA.2.2.1
  have loop : ∀ (m k : Nat) (h : aw_H) (s2 : mm_S), 100 - k = m → k ≤ 100 → (∀ j, j < k → sp_lev (mm_H s) (mm_a s 45) j = false) → (s2 = s ∨ ∃ A, s2 = mm_setA s 46 A) → mm_R G w h s2 → mm_same w h0 h → AW G (aw_rm 5 0 0) yX5_lever cX5_lever 2 (some .int) (aw_N G (mm_PoC G w h0 (some (.int (op_lever (mm_H s) (mm_a s 45)))) (s)) 0 0) 0 0 h 2 [(0, .ref w.1), (1, .int (nI k))] [] := by
    intro m
    induction m using Nat.strongRecOn with
    | _ m ih =>
      intro k h s2 hm hk hno h2 hR hs
      by_cases hk9 : k < 100
      · have hB := sp_u24_ok (M := N + 100) (c := mm_a s 45 24 + k) hA (by omega) (by have := hA.2.1; omega)
        have hw := mm_wkh hH hB (by omega)
        have l2 := (sp_week_ok hH hB).2.2.1
        have eL : sp_week (mm_H s) (aw_u (mm_a s 45) 24 (mm_a s 45 24 + k)) 25 = sp_lift (mm_H s) (aw_u (mm_a s 45) 24 (mm_a s 45 24 + k)) := rfl
        have s2load : mm_setA s2 46 (mm_a s2 45) = mm_setA s 46 (mm_a s 45) := by
          rcases h2 with rfl | ⟨A, rfl⟩
          · rfl
          · exact mm_A_A _ _ _ _
        refine aw_iload_n dX5_lever_2 rfl ?_
        refine aw_bipush (v := nI 99) dX5_lever_3 rfl ?_
        refine aw_icmp_gtN (tgt := 52) dX5_lever_5 (by decide) (by omega) (by omega) (fun c_5 => by exfalso; omega) (fun c_5 => ?_)
        refine aw_aload_n dX5_lever_8 rfl ?_
        refine mm_call dX5_lever_9 sX5_394 rfl hW hR hs (mm_load) rfl rfl ⟨Nat.le_of_ble_eq_true rfl, Nat.le_of_ble_eq_true rfl⟩ (Nat.le_of_ble_eq_true rfl) (fun h hR hs => ?_)
        rw [s2load] at hR
        refine aw_aload_n dX5_lever_12 rfl ?_
        refine aw_get dX5_lever_13 fX5_88 rfl hR.1 (by rfl) ?_
        refine aw_bipush (v := nI 24) dX5_lever_16 rfl ?_
        refine aw_dup2 dX5_lever_18 rfl rfl ?_
        refine aw_ialdN dX5_lever_19 (hR.2.1 46 28 rfl) (by omega) (by decide) ?_
        try simp only [mm_n_N, mm_n_A, mm_n_V, mm_n_Fp, mm_n_W, mm_n_Nm, mm_a_N, mm_a_A, mm_a_V, mm_a_Fp, mm_a_W, mm_a_Nm, mm_v_N, mm_v_A, mm_v_V, mm_fp_N, mm_fp_A, mm_fp_Fp, mm_w_N, mm_w_W, Nat.reduceEqDiff, reduceIte, if_true, if_false, mm_H_45, mm_H_46, mm_H_47, mm_H_50, mm_H_53, mm_H_54, mm_H_55, mm_H_56, mm_H_57, mm_H_58, mm_H_66, mm_H_67, mm_H_68]
        refine aw_iload_n dX5_lever_20 rfl ?_
        refine aw_iaddN dX5_lever_21 ?_
        refine mm_iast (k := 46) rfl hW hR hs dX5_lever_22 (by omega) (by decide) (fun h hR hs => ?_)
        have hR := mm_AU hR
        refine aw_aload_n dX5_lever_23 rfl ?_
        refine mm_call dX5_lever_24 sX5_417 rfl hW hR hs (mm_goWeek (s := mm_setA s 46 (aw_u (mm_a s 45) 24 (mm_a s 45 24 + k))) hn (by show mm_n s 41 < _; omega) hF1 hw.1 hw.2.1 hw.2.2) rfl rfl ⟨Nat.le_of_ble_eq_true rfl, Nat.le_of_ble_eq_true rfl⟩ (Nat.le_of_ble_eq_true rfl) (fun h hR hs => ?_)
        refine aw_aload_n dX5_lever_27 rfl ?_
        refine aw_get dX5_lever_28 fX5_88 rfl hR.1 (by rfl) ?_
        refine aw_bipush (v := nI 25) dX5_lever_31 rfl ?_
        refine aw_ialdN dX5_lever_33 (hR.2.1 46 28 rfl) (by omega) (by decide) ?_
        try simp only [mm_n_N, mm_n_A, mm_n_V, mm_n_Fp, mm_n_W, mm_n_Nm, mm_a_N, mm_a_A, mm_a_V, mm_a_Fp, mm_a_W, mm_a_Nm, mm_v_N, mm_v_A, mm_v_V, mm_fp_N, mm_fp_A, mm_fp_Fp, mm_w_N, mm_w_W, Nat.reduceEqDiff, reduceIte, if_true, if_false, mm_H_45, mm_H_46, mm_H_47, mm_H_50, mm_H_53, mm_H_54, mm_H_55, mm_H_56, mm_H_57, mm_H_58, mm_H_66, mm_H_67, mm_H_68]
        refine aw_aload_n dX5_lever_34 rfl ?_
        refine aw_get dX5_lever_35 fX5_85 rfl hR.1 (by rfl) ?_
        refine aw_bipush (v := nI 25) dX5_lever_38 rfl ?_
        refine aw_ialdN dX5_lever_40 (hR.2.1 45 28 rfl) (by omega) (by decide) ?_
        try simp only [mm_n_N, mm_n_A, mm_n_V, mm_n_Fp, mm_n_W, mm_n_Nm, mm_a_N, mm_a_A, mm_a_V, mm_a_Fp, mm_a_W, mm_a_Nm, mm_v_N, mm_v_A, mm_v_V, mm_fp_N, mm_fp_A, mm_fp_Fp, mm_w_N, mm_w_W, Nat.reduceEqDiff, reduceIte, if_true, if_false, mm_H_45, mm_H_46, mm_H_47, mm_H_50, mm_H_53, mm_H_54, mm_H_55, mm_H_56, mm_H_57, mm_H_58, mm_H_66, mm_H_67, mm_H_68]
        refine aw_icmp_leN (tgt := 46) dX5_lever_41 (by decide) (by omega) (by omega) (fun c_41 => ?_) (fun c_41 => ?_)
        · refine aw_iincN (b := 1) dX5_lever_46 rfl rfl (by decide) rfl rfl ?_
          refine aw_goto (tgt := 2) dX5_lever_49 (by decide) ?_
          refine ih (100 - (k + 1)) (by omega) (k + 1) h _ rfl (by omega) (fun j hj => ?_) (Or.inr ⟨_, mm_A_A _ _ _ _⟩) hR hs
          by_cases e : j = k
          · subst e
            exact decide_eq_false (by omega)
          · exact hno j (by omega)
        · refine aw_iload_n dX5_lever_44 rfl ?_
          refine aw_ireturn dX5_lever_45 rfl ?_
          exact ⟨by rw [op_lever, sp_fst_yes hk9 hno (decide_eq_true (by omega)), sp_cv_s], _, mm_core.A rfl (mm_core.A rfl mm_core.rf), hR, hs⟩
      · have h2c : mm_core s s2 := by
          rcases h2 with rfl | ⟨A, rfl⟩
          · exact mm_core.rf
          · exact mm_core.A rfl mm_core.rf
        refine aw_iload_n dX5_lever_2 rfl ?_
        refine aw_bipush (v := nI 99) dX5_lever_3 rfl ?_
        refine aw_icmp_gtN (tgt := 52) dX5_lever_5 (by decide) (by omega) (by omega) (fun c_5 => ?_) (fun c_5 => by exfalso; omega)
        refine aw_iconst (v := -1) dX5_lever_52 rfl ?_
        refine aw_ireturn dX5_lever_53 rfl ?_
        exact ⟨by rw [op_lever, sp_fst_no (fun j hj => hno j (by omega))]; rfl, _, h2c, hR, hs⟩
  refine aw_iconst (v := nI 0) dX5_lever_0 rfl ?_
  refine aw_istore_n dX5_lever_1 (by decide) rfl rfl ?_
  exact loop 100 0 h0 s rfl (Nat.zero_le _) (fun j hj => by omega) (Or.inl rfl) hR hs
theorem sp_hov_ok {H : sp_H} {A : Nat → Nat} {N c : Nat} (hH : sp_okH H) (hA : sp_okA N A) (hc : c ≤ 999) : ∀ n, sp_okA (N + 2000 * n) (sp_hov H c n A) := by
  intro n
  induction n with
  | zero => exact hA
  | succ n ih =>
    have h1 := sp_u24_ok (M := N + 2000 * n + 1000) (c := c) ih (by omega) (by omega)
    exact (sp_week_ok hH h1).mono (by omega)
set_option maxHeartbeats 4000000 in
theorem mo_hover {s : mm_S} {c : Int32} {N : Nat} (hH : sp_okH (mm_H s)) (hA : sp_okA N (mm_a s 45)) (hN : N ≤ 10000000) : mm_Op yX5_hover cX5_hover 3 (some .int) 5 [.int (c)] s (some (.int (op_hover (mm_H s) (mm_a s 45) c))) (s) := by
  refine mm_Op.of (by decide +kernel) (fun _ => Nat.le_of_ble_eq_true rfl) (fun G w h0 hW hR => ?_)
  have hs : mm_same w h0 h0 := mm_same.rf
  show AW G (aw_rm 5 0 0) yX5_hover cX5_hover 3 (some .int) (aw_N G (mm_PoC G w h0 (some (.int (op_hover (mm_H s) (mm_a s 45) c))) (s)) 0 0) 0 0 h0 0 [(0, .ref w.1), (1, .int (c))] []
  have hs1 : 1 ≤ mm_n s 41 := hH.1.1; have hs20 : mm_n s 41 ≤ 20 := hH.1.2; have hn : mm_n s 42 ≤ 8 := hH.2.1; have hlv : ∀ t, t < 8 → mm_a s 32 t ≤ 20 := fun t ht => (hH.2.2.1 t ht).1; have hsg : ∀ t, t < 8 → mm_a s 33 t ≤ 40 := fun t ht => (hH.2.2.1 t ht).2.1; have hhv : ∀ t, t < 8 → mm_a s 34 t ≤ 9 := fun t ht => (hH.2.2.1 t ht).2.2.1; have how : ∀ t, t < 8 → mm_a s 35 t ≤ 999 := fun t ht => (hH.2.2.1 t ht).2.2.2.1; have hfl : ∀ t, t < 8 → mm_a s 36 t ≤ 100 := fun t ht => (hH.2.2.1 t ht).2.2.2.2; have hF0 : sp_fok (mm_steps s 0) := hH.2.2.2.1; have hF1 : sp_fok (mm_steps s 1) := hH.2.2.2.2; have h42 : sp_hn (mm_H s) = mm_n s 42 := rfl; have h41 : sp_hs (mm_H s) = mm_n s 41 := rfl
  have loop : ∀ (c' : Nat), c' ≤ 999 → op_hover (mm_H s) (mm_a s 45) c = nI (sp_hov (mm_H s) c' 60 (mm_a s 45) 25) → ∀ (m k : Nat) (h : aw_H), 60 - k = m → k ≤ 60 → mm_R G w h (mm_setA s 46 (sp_hov (mm_H s) c' k (mm_a s 45))) → mm_same w h0 h → AW G (aw_rm 5 0 0) yX5_hover cX5_hover 3 (some .int) (aw_N G (mm_PoC G w h0 (some (.int (op_hover (mm_H s) (mm_a s 45) c))) (s)) 0 0) 0 0 h 19 [(0, .ref w.1), (1, .int (nI c')), (2, .int (nI k))] [] := by
    intro c' hc fin m
    induction m using Nat.strongRecOn with
    | _ m ih =>
      intro k h hm hk hR hs
      have hB := sp_u24_ok (M := N + 2000 * k + 1000) (c := c') (sp_hov_ok (n := k) hH hA hc) (by omega) (by omega)
      have hw := mm_wkh hH hB (by omega)
      refine aw_iload_n dX5_hover_19 rfl ?_
      refine aw_bipush (v := nI 60) dX5_hover_20 rfl ?_
      refine aw_icmp_geN (tgt := 43) dX5_hover_22 (by decide) (by omega) (by omega) (fun c_22 => ?_) (fun c_22 => ?_)
      · refine aw_aload_n dX5_hover_43 rfl ?_
        refine aw_get dX5_hover_44 fX5_88 rfl hR.1 (by rfl) ?_
        refine aw_bipush (v := nI 25) dX5_hover_47 rfl ?_
        refine aw_ialdN dX5_hover_49 (hR.2.1 46 28 rfl) (by omega) (by decide) ?_
        try simp only [mm_n_N, mm_n_A, mm_n_V, mm_n_Fp, mm_n_W, mm_n_Nm, mm_a_N, mm_a_A, mm_a_V, mm_a_Fp, mm_a_W, mm_a_Nm, mm_v_N, mm_v_A, mm_v_V, mm_fp_N, mm_fp_A, mm_fp_Fp, mm_w_N, mm_w_W, Nat.reduceEqDiff, reduceIte, if_true, if_false, mm_H_45, mm_H_46, mm_H_47, mm_H_50, mm_H_53, mm_H_54, mm_H_55, mm_H_56, mm_H_57, mm_H_58, mm_H_66, mm_H_67, mm_H_68]
        refine aw_ireturn dX5_hover_50 rfl ?_
        exact ⟨by rw [fin, show k = 60 by omega], _, mm_core.A rfl mm_core.rf, hR, hs⟩
      · refine aw_aload_n dX5_hover_25 rfl ?_
        refine aw_get dX5_hover_26 fX5_88 rfl hR.1 (by rfl) ?_
        refine aw_bipush (v := nI 24) dX5_hover_29 rfl ?_
        refine aw_iload_n dX5_hover_31 rfl ?_
        refine mm_iast (k := 46) rfl hW hR hs dX5_hover_32 (by omega) (by decide) (fun h hR hs => ?_)
        have hR := mm_AU hR
        refine aw_aload_n dX5_hover_33 rfl ?_
        refine mm_call dX5_hover_34 sX5_417 rfl hW hR hs (mm_goWeek (s := mm_setA s 46 (aw_u (sp_hov (mm_H s) c' k (mm_a s 45)) 24 c')) hn (by show mm_n s 41 < _; omega) hF1 hw.1 hw.2.1 hw.2.2) rfl rfl ⟨Nat.le_of_ble_eq_true rfl, Nat.le_of_ble_eq_true rfl⟩ (Nat.le_of_ble_eq_true rfl) (fun h hR hs => ?_)
        refine aw_iincN (b := 1) dX5_hover_37 rfl rfl (by decide) rfl rfl ?_
        refine aw_goto (tgt := 19) dX5_hover_40 (by decide) ?_
        exact ih (60 - (k + 1)) (by omega) (k + 1) h rfl (by omega) (mm_eq hR (mm_A_A _ _ _ _)) hs
  refine aw_iload_n dX5_hover_0 rfl ?_
  refine aw_iconst (v := nI 0) dX5_hover_1 rfl ?_
  refine aw_sipush (v := nI 999) dX5_hover_2 rfl ?_
  refine aw_callP (r := _) dX5_hover_5 sX5_368 rfl (mp_isIn) rfl rfl ⟨Nat.le_of_ble_eq_true rfl, Nat.le_of_ble_eq_true rfl⟩ (Nat.le_of_ble_eq_true rfl) ?_
  refine aw_if_neB (tgt := 13) dX5_hover_8 (by decide) (fun c_8 => ?_) (fun c_8 => ?_)
  · have c_8 : 0 ≤ c.toInt ∧ c.toInt ≤ 999 := c_8
    obtain ⟨c', hc', ec, c1, c2⟩ := aw_ofN (x := c) c_8.1
    refine AW_ls (show _ = [(0, .ref w.1), (1, .int (nI c'))] by rw [← ec]) ?_
    refine aw_aload_n dX5_hover_13 rfl ?_
    refine mm_call dX5_hover_14 sX5_394 rfl hW hR hs (mm_load) rfl rfl ⟨Nat.le_of_ble_eq_true rfl, Nat.le_of_ble_eq_true rfl⟩ (Nat.le_of_ble_eq_true rfl) (fun h hR hs => ?_)
    refine aw_iconst (v := nI 0) dX5_hover_17 rfl ?_
    refine aw_istore_n dX5_hover_18 (by decide) rfl rfl ?_
    exact loop c' (by omega) (by rw [op_hover, aw_if1 c_8, c2]) 60 0 h rfl (by omega) hR hs
  · refine aw_iconst (v := -1) dX5_hover_11 rfl ?_
    refine aw_ireturn dX5_hover_12 rfl ?_
    exact ⟨by rw [op_hover, aw_if0 (show ¬ (0 ≤ c.toInt ∧ c.toInt ≤ 999) from c_8)], _, mm_core.rf, hR, hs⟩
set_option maxHeartbeats 4000000 in
theorem mo_ruin {s : mm_S} {n : Int32} {N : Nat} (hH : sp_okH (mm_H s)) (hA : sp_okA N (mm_a s 45)) (hN : N ≤ 10000000) : mm_Op yX5_ruin cX5_ruin 4 (some .int) 6 [.int (n)] s (some (.int (op_ruin (mm_H s) (mm_a s 45) n))) (s) := by
  refine mm_Op.of (by decide +kernel) (fun _ => Nat.le_of_ble_eq_true rfl) (fun G w h0 hW hR => ?_)
  have hs : mm_same w h0 h0 := mm_same.rf
  show AW G (aw_rm 6 0 0) yX5_ruin cX5_ruin 4 (some .int) (aw_N G (mm_PoC G w h0 (some (.int (op_ruin (mm_H s) (mm_a s 45) n))) (s)) 0 0) 0 0 h0 0 [(0, .ref w.1), (1, .int (n))] []
  have hs1 : 1 ≤ mm_n s 41 := hH.1.1; have hs20 : mm_n s 41 ≤ 20 := hH.1.2; have hn : mm_n s 42 ≤ 8 := hH.2.1; have hlv : ∀ t, t < 8 → mm_a s 32 t ≤ 20 := fun t ht => (hH.2.2.1 t ht).1; have hsg : ∀ t, t < 8 → mm_a s 33 t ≤ 40 := fun t ht => (hH.2.2.1 t ht).2.1; have hhv : ∀ t, t < 8 → mm_a s 34 t ≤ 9 := fun t ht => (hH.2.2.1 t ht).2.2.1; have how : ∀ t, t < 8 → mm_a s 35 t ≤ 999 := fun t ht => (hH.2.2.1 t ht).2.2.2.1; have hfl : ∀ t, t < 8 → mm_a s 36 t ≤ 100 := fun t ht => (hH.2.2.1 t ht).2.2.2.2; have hF0 : sp_fok (mm_steps s 0) := hH.2.2.2.1; have hF1 : sp_fok (mm_steps s 1) := hH.2.2.2.2; have h42 : sp_hn (mm_H s) = mm_n s 42 := rfl; have h41 : sp_hs (mm_H s) = mm_n s 41 := rfl
  have loop : ∀ (A : Nat → Nat), op_ruin (mm_H s) (mm_a s 45) n = nI (sp_sum (fun t => A (16 + t)) (mm_n s 42)) → ∀ (m k : Nat) (h : aw_H), mm_n s 42 - k = m → k ≤ mm_n s 42 → mm_R G w h (mm_setA s 46 A) → mm_same w h0 h → ∀ (q : Int32), AW G (aw_rm 6 0 0) yX5_ruin cX5_ruin 4 (some .int) (aw_N G (mm_PoC G w h0 (some (.int (op_ruin (mm_H s) (mm_a s 45) n))) (s)) 0 0) 0 0 h 21 [(0, .ref w.1), (1, .int q), (2, .int (nI (sp_sum (fun t => A (16 + t)) k))), (3, .int (nI k))] [] := by
    intro A fin m
    induction m using Nat.strongRecOn with
    | _ m ih =>
      intro k h hm hk hR hs q
      refine aw_iload_n dX5_ruin_21 rfl ?_
      refine aw_aload_n dX5_ruin_22 rfl ?_
      refine aw_get dX5_ruin_23 fX5_350 rfl hR.1 (by rfl) ?_
      try simp only [mm_n_N, mm_n_A, mm_n_V, mm_n_Fp, mm_n_W, mm_n_Nm, mm_a_N, mm_a_A, mm_a_V, mm_a_Fp, mm_a_W, mm_a_Nm, mm_v_N, mm_v_A, mm_v_V, mm_fp_N, mm_fp_A, mm_fp_Fp, mm_w_N, mm_w_W, Nat.reduceEqDiff, reduceIte, if_true, if_false, mm_H_45, mm_H_46, mm_H_47, mm_H_50, mm_H_53, mm_H_54, mm_H_55, mm_H_56, mm_H_57, mm_H_58, mm_H_66, mm_H_67, mm_H_68]
      refine aw_icmp_geN (tgt := 47) dX5_ruin_26 (by decide) (by omega) (by omega) (fun c_26 => ?_) (fun c_26 => ?_)
      · refine aw_iload_n dX5_ruin_47 rfl ?_
        refine aw_ireturn dX5_ruin_48 rfl ?_
        exact ⟨by rw [fin, show k = mm_n s 42 by omega], _, mm_core.A rfl mm_core.rf, hR, hs⟩
      · refine aw_iload_n dX5_ruin_29 rfl ?_
        refine aw_aload_n dX5_ruin_30 rfl ?_
        refine aw_get dX5_ruin_31 fX5_88 rfl hR.1 (by rfl) ?_
        refine aw_bipush (v := nI 16) dX5_ruin_34 rfl ?_
        refine aw_iload_n dX5_ruin_36 rfl ?_
        refine aw_iaddN dX5_ruin_37 ?_
        refine aw_ialdN dX5_ruin_38 (hR.2.1 46 28 rfl) (by omega) (by decide) ?_
        try simp only [mm_n_N, mm_n_A, mm_n_V, mm_n_Fp, mm_n_W, mm_n_Nm, mm_a_N, mm_a_A, mm_a_V, mm_a_Fp, mm_a_W, mm_a_Nm, mm_v_N, mm_v_A, mm_v_V, mm_fp_N, mm_fp_A, mm_fp_Fp, mm_w_N, mm_w_W, Nat.reduceEqDiff, reduceIte, if_true, if_false, mm_H_45, mm_H_46, mm_H_47, mm_H_50, mm_H_53, mm_H_54, mm_H_55, mm_H_56, mm_H_57, mm_H_58, mm_H_66, mm_H_67, mm_H_68]
        refine aw_iaddN dX5_ruin_39 ?_
        refine aw_istore_n dX5_ruin_40 (by decide) rfl rfl ?_
        refine aw_iincN (b := 1) dX5_ruin_41 rfl rfl (by decide) rfl rfl ?_
        refine aw_goto (tgt := 21) dX5_ruin_44 (by decide) ?_
        exact ih (mm_n s 42 - (k + 1)) (by omega) (k + 1) h rfl (by omega) hR hs q
  refine aw_iload_n dX5_ruin_0 rfl ?_
  refine aw_iconst (v := nI 0) dX5_ruin_1 rfl ?_
  refine aw_bipush (v := nI 60) dX5_ruin_2 rfl ?_
  refine aw_callP (r := _) dX5_ruin_4 sX5_368 rfl (mp_isIn) rfl rfl ⟨Nat.le_of_ble_eq_true rfl, Nat.le_of_ble_eq_true rfl⟩ (Nat.le_of_ble_eq_true rfl) ?_
  refine aw_if_neB (tgt := 12) dX5_ruin_7 (by decide) (fun c_7 => ?_) (fun c_7 => ?_)
  · have c_7 : 0 ≤ n.toInt ∧ n.toInt ≤ 60 := c_7
    obtain ⟨n', hn', en, n1, n2⟩ := aw_ofN (x := n) c_7.1
    refine AW_ls (show _ = [(0, .ref w.1), (1, .int (nI n'))] by rw [← en]) ?_
    refine aw_aload_n dX5_ruin_12 rfl ?_
    refine aw_iload_n dX5_ruin_13 rfl ?_
    refine mm_call dX5_ruin_14 sX5_476 rfl hW hR hs (mm_goFar hH hA hN (by omega)) rfl rfl ⟨Nat.le_of_ble_eq_true rfl, Nat.le_of_ble_eq_true rfl⟩ (Nat.le_of_ble_eq_true rfl) (fun h hR hs => ?_)
    refine aw_iconst (v := nI 0) dX5_ruin_17 rfl ?_
    refine aw_istore_n dX5_ruin_18 (by decide) rfl rfl ?_
    refine aw_iconst (v := nI 0) dX5_ruin_19 rfl ?_
    refine aw_istore_n dX5_ruin_20 (by decide) rfl rfl ?_
    exact loop _ (by rw [op_ruin, aw_if1 c_7, n2, h42]) (mm_n s 42) 0 h rfl (Nat.zero_le _) hR hs _
  · refine aw_iconst (v := -1) dX5_ruin_10 rfl ?_
    refine aw_ireturn dX5_ruin_11 rfl ?_
    exact ⟨by rw [op_ruin, aw_if0 (show ¬ (0 ≤ n.toInt ∧ n.toInt ≤ 60) from c_7)], _, mm_core.rf, hR, hs⟩

