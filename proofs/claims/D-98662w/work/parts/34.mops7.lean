set_option maxRecDepth 100000
/-! the model: calls, the sixth lot -/
theorem sp_si_ok {H : sp_H} {t a : Nat} (ht : t < 8) (ha : a ≤ 20) : ∀ (f N : Nat) (A : Nat → Nat), sp_okA N A → sp_okA (N + 20 * f) (sp_si H t a f A) := by
  intro f
  induction f with
  | zero => intro N A hA; exact hA
  | succ f ih =>
    intro N A hA
    unfold sp_si
    split
    · exact (ih _ _ (sp_climb_ok ht ha hA)).mono (by omega)
    · exact hA.mono (by omega)
set_option maxHeartbeats 4000000 in
theorem mo_settle {s : mm_S} {t a : Int32} {N : Nat} (hH : sp_okH (mm_H s)) (hA : sp_okA N (mm_a s 45)) (hN : N ≤ 10000000) : mm_Op yX5_settle cX5_settle 4 (some .int) 5 [.int (t), .int (a)] s (some (.int (op_settle (mm_H s) (mm_a s 45) t a))) (s) := by
  refine mm_Op.of (by decide +kernel) (fun _ => Nat.le_of_ble_eq_true rfl) (fun G w h0 hW hR => ?_)
  have hs : mm_same w h0 h0 := mm_same.rf
  show AW G (aw_rm 5 0 0) yX5_settle cX5_settle 4 (some .int) (aw_N G (mm_PoC G w h0 (some (.int (op_settle (mm_H s) (mm_a s 45) t a))) (s)) 0 0) 0 0 h0 0 [(0, .ref w.1), (1, .int (t)), (2, .int (a))] []
  have hs1 : 1 ≤ mm_n s 41 := hH.1.1; have hs20 : mm_n s 41 ≤ 20 := hH.1.2; have hn : mm_n s 42 ≤ 8 := hH.2.1; have hlv : ∀ t, t < 8 → mm_a s 32 t ≤ 20 := fun t ht => (hH.2.2.1 t ht).1; have hsg : ∀ t, t < 8 → mm_a s 33 t ≤ 40 := fun t ht => (hH.2.2.1 t ht).2.1; have hhv : ∀ t, t < 8 → mm_a s 34 t ≤ 9 := fun t ht => (hH.2.2.1 t ht).2.2.1; have how : ∀ t, t < 8 → mm_a s 35 t ≤ 999 := fun t ht => (hH.2.2.1 t ht).2.2.2.1; have hfl : ∀ t, t < 8 → mm_a s 36 t ≤ 100 := fun t ht => (hH.2.2.1 t ht).2.2.2.2; have hF0 : sp_fok (mm_steps s 0) := hH.2.2.2.1; have hF1 : sp_fok (mm_steps s 1) := hH.2.2.2.2; have h42 : sp_hn (mm_H s) = mm_n s 42 := rfl; have h41 : sp_hs (mm_H s) = mm_n s 41 := rfl
  have no : ¬ (sp_isT (mm_H s) t ∧ 1 ≤ a.toInt ∧ a.toInt ≤ (sp_hs (mm_H s) : Int)) → op_settle (mm_H s) (mm_a s 45) t a = -1 := fun z => by rw [op_settle, aw_if0 z]
  have inner : ∀ (t' a' k : Nat), t' < 8 → 1 ≤ a' → a' ≤ 20 → ∀ (M : Nat), M ≤ 20000000 → ∀ (f : Nat) (A : Nat → Nat) (h : aw_H), f ≤ 41 → A t' < f → sp_okA (M + 20 * (41 - f)) A → (∀ (h : aw_H), mm_R G w h (mm_setA s 46 (sp_si (mm_H s) t' a' f A)) → mm_same w h0 h → AW G (aw_rm 5 0 0) yX5_settle cX5_settle 4 (some .int) (aw_N G (mm_PoC G w h0 (some (.int (op_settle (mm_H s) (mm_a s 45) t a))) (s)) 0 0) 0 0 h 69 [(0, .ref w.1), (1, .int (nI t')), (2, .int (nI a')), (3, .int (nI k))] []) → mm_R G w h (mm_setA s 46 A) → mm_same w h0 h → AW G (aw_rm 5 0 0) yX5_settle cX5_settle 4 (some .int) (aw_N G (mm_PoC G w h0 (some (.int (op_settle (mm_H s) (mm_a s 45) t a))) (s)) 0 0) 0 0 h 34 [(0, .ref w.1), (1, .int (nI t')), (2, .int (nI a')), (3, .int (nI k))] [] := by
    intro t' a' k ht ha1 ha2 M hM f
    induction f with
    | zero => intro A h hf hb; omega
    | succ f ih =>
      intro A h hf hb hB hgo hR hs
      obtain ⟨g1, g2, g3⟩ := sp_due_lt hH hB (by omega) ht
      have hp := (hB.1 t' ht).2.1
      have hb9 := (hB.1 t' ht).1
      have e1 : sp_brc (mm_H s) 0 = 1 := rfl
      by_cases z : 0 < sp_lack (mm_H s) A t' ∧ a' ≤ A t'
      · have esi : sp_si (mm_H s) t' a' (f + 1) A = sp_si (mm_H s) t' a' f (sp_climb (mm_H s) A t' a' 0 (sp_cnt (mm_H s) A a' 0 0)) := by
          show (if _ then _ else _) = _
          rw [if_pos z]
        have hcl := sp_climb_ok (c := 0) (n := sp_cnt (mm_H s) A a' 0 0) (H := mm_H s) ht ha2 hB
        have ect : sp_climb (mm_H s) A t' a' 0 (sp_cnt (mm_H s) A a' 0 0) t' = A t' - a' := by
          show (if t' = t' then A t' - a' * sp_brc (mm_H s) 0 else _) = _
          rw [if_pos rfl, e1, Nat.mul_one]
        have hcn := @sp_cnt_le (mm_H s) A a' 0 0
        refine aw_aload_n dX5_settle_34 rfl ?_
        refine aw_iload_n dX5_settle_35 rfl ?_
        refine mm_call dX5_settle_36 sX5_397 rfl hW hR hs (mm_lackOf (s := mm_setA s 46 A) ht g1 g2) rfl rfl ⟨Nat.le_of_ble_eq_true rfl, Nat.le_of_ble_eq_true rfl⟩ (Nat.le_of_ble_eq_true rfl) (fun h hR hs => ?_)
        try simp only [mm_n_N, mm_n_A, mm_n_V, mm_n_Fp, mm_n_W, mm_n_Nm, mm_a_N, mm_a_A, mm_a_V, mm_a_Fp, mm_a_W, mm_a_Nm, mm_v_N, mm_v_A, mm_v_V, mm_fp_N, mm_fp_A, mm_fp_Fp, mm_w_N, mm_w_W, Nat.reduceEqDiff, reduceIte, if_true, if_false, mm_H_45, mm_H_46, mm_H_47, mm_H_50, mm_H_53, mm_H_54, mm_H_55, mm_H_56, mm_H_57, mm_H_58, mm_H_66, mm_H_67, mm_H_68]
        refine aw_if_leN (tgt := 69) dX5_settle_39 (by decide) (by omega) (fun c_39 => by exfalso; omega) (fun c_39 => ?_)
        refine aw_aload_n dX5_settle_42 rfl ?_
        refine aw_get dX5_settle_43 fX5_88 rfl hR.1 (by rfl) ?_
        refine aw_iload_n dX5_settle_46 rfl ?_
        refine aw_ialdN dX5_settle_47 (hR.2.1 46 28 rfl) (by omega) (by decide) ?_
        try simp only [mm_n_N, mm_n_A, mm_n_V, mm_n_Fp, mm_n_W, mm_n_Nm, mm_a_N, mm_a_A, mm_a_V, mm_a_Fp, mm_a_W, mm_a_Nm, mm_v_N, mm_v_A, mm_v_V, mm_fp_N, mm_fp_A, mm_fp_Fp, mm_w_N, mm_w_W, Nat.reduceEqDiff, reduceIte, if_true, if_false, mm_H_45, mm_H_46, mm_H_47, mm_H_50, mm_H_53, mm_H_54, mm_H_55, mm_H_56, mm_H_57, mm_H_58, mm_H_66, mm_H_67, mm_H_68]
        refine aw_iload_n dX5_settle_48 rfl ?_
        refine aw_icmp_ltN (tgt := 69) dX5_settle_49 (by decide) (by omega) (by omega) (fun c_49 => by exfalso; omega) (fun c_49 => ?_)
        refine aw_aload_n dX5_settle_52 rfl ?_
        refine aw_iload_n dX5_settle_53 rfl ?_
        refine aw_iload_n dX5_settle_54 rfl ?_
        refine aw_iconst (v := -1) dX5_settle_55 rfl ?_
        refine aw_aload_n dX5_settle_56 rfl ?_
        refine aw_iload_n dX5_settle_57 rfl ?_
        refine aw_iconst (v := -1) dX5_settle_58 rfl ?_
        refine aw_iconst (v := nI 0) dX5_settle_59 rfl ?_
        refine mm_call dX5_settle_60 sX5_404 rfl hW hR hs (mm_countOf (s := mm_setA s 46 A) (c := 0) (by omega) hF0) rfl rfl ⟨Nat.le_of_ble_eq_true rfl, Nat.le_of_ble_eq_true rfl⟩ (Nat.le_of_ble_eq_true rfl) (fun h hR hs => ?_)
        try simp only [mm_n_N, mm_n_A, mm_n_V, mm_n_Fp, mm_n_W, mm_n_Nm, mm_a_N, mm_a_A, mm_a_V, mm_a_Fp, mm_a_W, mm_a_Nm, mm_v_N, mm_v_A, mm_v_V, mm_fp_N, mm_fp_A, mm_fp_Fp, mm_w_N, mm_w_W, Nat.reduceEqDiff, reduceIte, if_true, if_false, mm_H_45, mm_H_46, mm_H_47, mm_H_50, mm_H_53, mm_H_54, mm_H_55, mm_H_56, mm_H_57, mm_H_58, mm_H_66, mm_H_67, mm_H_68]
        refine mm_call dX5_settle_63 sX5_410 rfl hW hR hs (mm_goClimb (s := mm_setA s 46 A) (c := 0) ht (by omega) hhv (by show a' * sp_brc (mm_H s) 0 ≤ A t'; rw [e1]; omega) (by show A (8 + t') + sp_cnt (mm_H s) A a' (sp_hvc (mm_H s) 0) 0 < _; have : sp_hvc (mm_H s) 0 = 0 := rfl; rw [this]; omega)) rfl rfl ⟨Nat.le_of_ble_eq_true rfl, Nat.le_of_ble_eq_true rfl⟩ (Nat.le_of_ble_eq_true rfl) (fun h hR hs => ?_)
        refine aw_goto (tgt := 34) dX5_settle_66 (by decide) ?_
        refine ih _ h (by omega) (by rw [ect]; omega) (hcl.mono (by omega)) ?_ (mm_eq hR (mm_A_A _ _ _ _)) hs
        rw [← esi]
        exact hgo
      · have esi : sp_si (mm_H s) t' a' (f + 1) A = A := by
          show (if _ then _ else _) = _
          rw [if_neg z]
        rw [esi] at hgo
        refine aw_aload_n dX5_settle_34 rfl ?_
        refine aw_iload_n dX5_settle_35 rfl ?_
        refine mm_call dX5_settle_36 sX5_397 rfl hW hR hs (mm_lackOf (s := mm_setA s 46 A) ht g1 g2) rfl rfl ⟨Nat.le_of_ble_eq_true rfl, Nat.le_of_ble_eq_true rfl⟩ (Nat.le_of_ble_eq_true rfl) (fun h hR hs => ?_)
        try simp only [mm_n_N, mm_n_A, mm_n_V, mm_n_Fp, mm_n_W, mm_n_Nm, mm_a_N, mm_a_A, mm_a_V, mm_a_Fp, mm_a_W, mm_a_Nm, mm_v_N, mm_v_A, mm_v_V, mm_fp_N, mm_fp_A, mm_fp_Fp, mm_w_N, mm_w_W, Nat.reduceEqDiff, reduceIte, if_true, if_false, mm_H_45, mm_H_46, mm_H_47, mm_H_50, mm_H_53, mm_H_54, mm_H_55, mm_H_56, mm_H_57, mm_H_58, mm_H_66, mm_H_67, mm_H_68]
        refine aw_if_leN (tgt := 69) dX5_settle_39 (by decide) (by omega) (fun c_39 => ?_) (fun c_39 => ?_)
        · exact hgo h hR hs
        · refine aw_aload_n dX5_settle_42 rfl ?_
          refine aw_get dX5_settle_43 fX5_88 rfl hR.1 (by rfl) ?_
          refine aw_iload_n dX5_settle_46 rfl ?_
          refine aw_ialdN dX5_settle_47 (hR.2.1 46 28 rfl) (by omega) (by decide) ?_
          try simp only [mm_n_N, mm_n_A, mm_n_V, mm_n_Fp, mm_n_W, mm_n_Nm, mm_a_N, mm_a_A, mm_a_V, mm_a_Fp, mm_a_W, mm_a_Nm, mm_v_N, mm_v_A, mm_v_V, mm_fp_N, mm_fp_A, mm_fp_Fp, mm_w_N, mm_w_W, Nat.reduceEqDiff, reduceIte, if_true, if_false, mm_H_45, mm_H_46, mm_H_47, mm_H_50, mm_H_53, mm_H_54, mm_H_55, mm_H_56, mm_H_57, mm_H_58, mm_H_66, mm_H_67, mm_H_68]
          refine aw_iload_n dX5_settle_48 rfl ?_
          refine aw_icmp_ltN (tgt := 69) dX5_settle_49 (by decide) (by omega) (by omega) (fun c_49 => ?_) (fun c_49 => by exfalso; omega)
          exact hgo h hR hs
  have outer : ∀ (t' a' : Nat), t' < 8 → 1 ≤ a' → a' ≤ 20 → ∀ (m k : Nat) (A : Nat → Nat) (h : aw_H), 61 - k = m → k ≤ 61 → sp_okA (N + 2000 * k) A → op_settle (mm_H s) (mm_a s 45) t a = sp_cv (sp_so (mm_H s) t' a' m k A) → mm_R G w h (mm_setA s 46 A) → mm_same w h0 h → AW G (aw_rm 5 0 0) yX5_settle cX5_settle 4 (some .int) (aw_N G (mm_PoC G w h0 (some (.int (op_settle (mm_H s) (mm_a s 45) t a))) (s)) 0 0) 0 0 h 28 [(0, .ref w.1), (1, .int (nI t')), (2, .int (nI a')), (3, .int (nI k))] [] := by
    intro t' a' ht ha1 ha2 m
    induction m with
    | zero =>
      intro k A h hm hk hB fin hR hs
      refine aw_iload_n dX5_settle_28 rfl ?_
      refine aw_bipush (v := nI 60) dX5_settle_29 rfl ?_
      refine aw_icmp_gtN (tgt := 89) dX5_settle_31 (by decide) (by omega) (by omega) (fun c_31 => ?_) (fun c_31 => by exfalso; omega)
      refine aw_iconst (v := -1) dX5_settle_89 rfl ?_
      refine aw_ireturn dX5_settle_90 rfl ?_
      exact ⟨by rw [fin]; rfl, _, mm_core.A rfl mm_core.rf, hR, hs⟩
    | succ m ih =>
      intro k A h hm hk hB fin hR hs
      have hb9 := (hB.1 t' ht).1
      have hB2 := sp_si_ok (H := mm_H s) ht ha2 (A t' + 1) _ _ hB
      have fin2 : op_settle (mm_H s) (mm_a s 45) t a = sp_cv (if sp_lack (mm_H s) (sp_si (mm_H s) t' a' (A t' + 1) A) t' = 0 then k + 1 else sp_so (mm_H s) t' a' m (k + 1) (sp_week (mm_H s) (sp_si (mm_H s) t' a' (A t' + 1) A))) := fin
      obtain ⟨g1, g2, g3⟩ := sp_due_lt hH hB2 (by omega) ht
      have hw := mm_wkh hH hB2 (by omega)
      have hgo : ∀ (h : aw_H), mm_R G w h (mm_setA s 46 (sp_si (mm_H s) t' a' (A t' + 1) A)) → mm_same w h0 h → AW G (aw_rm 5 0 0) yX5_settle cX5_settle 4 (some .int) (aw_N G (mm_PoC G w h0 (some (.int (op_settle (mm_H s) (mm_a s 45) t a))) (s)) 0 0) 0 0 h 69 [(0, .ref w.1), (1, .int (nI t')), (2, .int (nI a')), (3, .int (nI k))] [] := by
        intro h hR hs
        refine aw_aload_n dX5_settle_69 rfl ?_
        refine aw_iload_n dX5_settle_70 rfl ?_
        refine mm_call dX5_settle_71 sX5_397 rfl hW hR hs (mm_lackOf (s := mm_setA s 46 (sp_si (mm_H s) t' a' (A t' + 1) A)) ht g1 g2) rfl rfl ⟨Nat.le_of_ble_eq_true rfl, Nat.le_of_ble_eq_true rfl⟩ (Nat.le_of_ble_eq_true rfl) (fun h hR hs => ?_)
        try simp only [mm_n_N, mm_n_A, mm_n_V, mm_n_Fp, mm_n_W, mm_n_Nm, mm_a_N, mm_a_A, mm_a_V, mm_a_Fp, mm_a_W, mm_a_Nm, mm_v_N, mm_v_A, mm_v_V, mm_fp_N, mm_fp_A, mm_fp_Fp, mm_w_N, mm_w_W, Nat.reduceEqDiff, reduceIte, if_true, if_false, mm_H_45, mm_H_46, mm_H_47, mm_H_50, mm_H_53, mm_H_54, mm_H_55, mm_H_56, mm_H_57, mm_H_58, mm_H_66, mm_H_67, mm_H_68]
        refine aw_if_neN (tgt := 79) dX5_settle_74 (by decide) (by omega) (fun c_74 => ?_) (fun c_74 => ?_)
        · refine aw_aload_n dX5_settle_79 rfl ?_
          refine mm_call dX5_settle_80 sX5_417 rfl hW hR hs (mm_goWeek (s := mm_setA s 46 (sp_si (mm_H s) t' a' (A t' + 1) A)) hn (by show mm_n s 41 < _; omega) hF1 hw.1 hw.2.1 hw.2.2) rfl rfl ⟨Nat.le_of_ble_eq_true rfl, Nat.le_of_ble_eq_true rfl⟩ (Nat.le_of_ble_eq_true rfl) (fun h hR hs => ?_)
          refine aw_iincN (b := 1) dX5_settle_83 rfl rfl (by decide) rfl rfl ?_
          refine aw_goto (tgt := 28) dX5_settle_86 (by decide) ?_
          exact ih (k + 1) _ h (by omega) (by omega) ((sp_week_ok hH hB2).mono (by omega)) (by rw [fin2, if_neg c_74]) (mm_eq hR (mm_A_A _ _ _ _)) hs
        · refine aw_iload_n dX5_settle_77 rfl ?_
          refine aw_ireturn dX5_settle_78 rfl ?_
          exact ⟨by rw [fin2, if_pos c_74, sp_cv_s], _, mm_core.A rfl mm_core.rf, hR, hs⟩
      refine aw_iload_n dX5_settle_28 rfl ?_
      refine aw_bipush (v := nI 60) dX5_settle_29 rfl ?_
      refine aw_icmp_gtN (tgt := 89) dX5_settle_31 (by decide) (by omega) (by omega) (fun c_31 => by exfalso; omega) (fun c_31 => ?_)
      exact inner t' a' k ht ha1 ha2 (N + 2000 * k) (by omega) (A t' + 1) A h (by omega) (by omega) (hB.mono (by omega)) hgo hR hs
  have e41 : (nI (mm_n s 41)).toInt = mm_n s 41 := aw_ti (by omega)
  have e1 : (nI 1).toInt = 1 := rfl
  refine aw_aload_n dX5_settle_0 rfl ?_
  refine aw_iload_n dX5_settle_1 rfl ?_
  refine mm_call dX5_settle_2 sX5_382 rfl hW hR hs (mm_isTenant hn) rfl rfl ⟨Nat.le_of_ble_eq_true rfl, Nat.le_of_ble_eq_true rfl⟩ (Nat.le_of_ble_eq_true rfl) (fun h hR hs => ?_)
  refine aw_if_eqB (tgt := 20) dX5_settle_5 (by decide) (fun c_5 => ?_) (fun c_5 => ?_)
  · refine aw_iconst (v := -1) dX5_settle_20 rfl ?_
    refine aw_ireturn dX5_settle_21 rfl ?_
    refine ⟨?_, _, mm_core.rf, hR, hs⟩
    rw [no (fun z => by first | exact c_5 z.1 | (have := z.2; rw [h41] at this; exact c_17 (by omega)))]
  · refine aw_iload_n dX5_settle_8 rfl ?_
    refine aw_iconst (v := nI 1) dX5_settle_9 rfl ?_
    refine aw_aload_n dX5_settle_10 rfl ?_
    refine aw_get dX5_settle_11 fX5_82 rfl hR.1 (by rfl) ?_
    refine aw_callP (r := _) dX5_settle_14 sX5_368 rfl (mp_isIn) rfl rfl ⟨Nat.le_of_ble_eq_true rfl, Nat.le_of_ble_eq_true rfl⟩ (Nat.le_of_ble_eq_true rfl) ?_
    refine aw_if_neB (tgt := 22) dX5_settle_17 (by decide) (fun c_17 => ?_) (fun c_17 => ?_)
    · obtain ⟨t', ht, et, t1, t2⟩ := aw_ofN c_5.1
      obtain ⟨a', ha, ea, a1, a2⟩ := aw_ofN (x := a) (by omega)
      have ht8 : t' < 8 := by have := c_5.2; omega
      refine AW_ls (show _ = [(0, .ref w.1), (1, .int (nI t')), (2, .int (nI a'))] by rw [← et, ← ea]) ?_
      refine aw_aload_n dX5_settle_22 rfl ?_
      refine mm_call dX5_settle_23 sX5_394 rfl hW hR hs (mm_load) rfl rfl ⟨Nat.le_of_ble_eq_true rfl, Nat.le_of_ble_eq_true rfl⟩ (Nat.le_of_ble_eq_true rfl) (fun h hR hs => ?_)
      refine aw_iconst (v := nI 0) dX5_settle_26 rfl ?_
      refine aw_istore_n dX5_settle_27 (by decide) rfl rfl ?_
      exact outer t' a' ht8 (by omega) (by omega) 61 0 _ h rfl (by omega) (hA.mono (by omega)) (by rw [op_settle, aw_if1 ⟨c_5, by rw [h41]; omega⟩, t2, a2]) hR hs
    · refine aw_iconst (v := -1) dX5_settle_20 rfl ?_
      refine aw_ireturn dX5_settle_21 rfl ?_
      refine ⟨?_, _, mm_core.rf, hR, hs⟩
      rw [no (fun z => by first | exact c_5 z.1 | (have := z.2; rw [h41] at this; exact c_17 (by omega)))]
set_option maxHeartbeats 4000000 in
theorem mo_poorest {s : mm_S} {N : Nat} (hH : sp_okH (mm_H s)) (hA : sp_okA N (mm_a s 45)) (hN : N ≤ 10000000) : mm_Op yX5_poorest cX5_poorest 3 (some .int) 2 [] s (some (.int (op_poorest (mm_H s) (mm_a s 45)))) (s) := by
  refine mm_Op.of (by decide +kernel) (fun _ => Nat.le_of_ble_eq_true rfl) (fun G w h0 hW hR => ?_)
  have hs : mm_same w h0 h0 := mm_same.rf
  show AW G (aw_rm 2 0 0) yX5_poorest cX5_poorest 3 (some .int) (aw_N G (mm_PoC G w h0 (some (.int (op_poorest (mm_H s) (mm_a s 45)))) (s)) 0 0) 0 0 h0 0 [(0, .ref w.1)] []
  have hs1 : 1 ≤ mm_n s 41 := hH.1.1; have hs20 : mm_n s 41 ≤ 20 := hH.1.2; have hn : mm_n s 42 ≤ 8 := hH.2.1; have hlv : ∀ t, t < 8 → mm_a s 32 t ≤ 20 := fun t ht => (hH.2.2.1 t ht).1; have hsg : ∀ t, t < 8 → mm_a s 33 t ≤ 40 := fun t ht => (hH.2.2.1 t ht).2.1; have hhv : ∀ t, t < 8 → mm_a s 34 t ≤ 9 := fun t ht => (hH.2.2.1 t ht).2.2.1; have how : ∀ t, t < 8 → mm_a s 35 t ≤ 999 := fun t ht => (hH.2.2.1 t ht).2.2.2.1; have hfl : ∀ t, t < 8 → mm_a s 36 t ≤ 100 := fun t ht => (hH.2.2.1 t ht).2.2.2.2; have hF0 : sp_fok (mm_steps s 0) := hH.2.2.2.1; have hF1 : sp_fok (mm_steps s 1) := hH.2.2.2.2; have h42 : sp_hn (mm_H s) = mm_n s 42 := rfl; have h41 : sp_hs (mm_H s) = mm_n s 41 := rfl
  have le : ∀ k, sp_arg (sp_lack (mm_H s) (mm_a s 45)) k ≤ k := by
    intro k
    induction k with
    | zero => exact Nat.le_refl _
    | succ k ih => unfold sp_arg; split <;> omega
  have loop : ∀ (m k : Nat) (h : aw_H), mm_n s 42 - k = m → k ≤ mm_n s 42 → mm_R G w h (mm_setA s 46 (mm_a s 45)) → mm_same w h0 h → AW G (aw_rm 2 0 0) yX5_poorest cX5_poorest 3 (some .int) (aw_N G (mm_PoC G w h0 (some (.int (op_poorest (mm_H s) (mm_a s 45)))) (s)) 0 0) 0 0 h 8 [(0, .ref w.1), (1, .int (sp_cv (sp_arg (sp_lack (mm_H s) (mm_a s 45)) k))), (2, .int (nI k))] [] := by
    intro m
    induction m using Nat.strongRecOn with
    | _ m ih =>
      intro k h hm hk hR hs
      by_cases hk9 : k < mm_n s 42
      · have lek := le k
        have eS : sp_arg (sp_lack (mm_H s) (mm_a s 45)) (k + 1) = if sp_arg (sp_lack (mm_H s) (mm_a s 45)) k = 0 ∨ sp_lack (mm_H s) (mm_a s 45) (sp_arg (sp_lack (mm_H s) (mm_a s 45)) k - 1) < sp_lack (mm_H s) (mm_a s 45) k then k + 1 else sp_arg (sp_lack (mm_H s) (mm_a s 45)) k := rfl
        obtain ⟨g1, g2, g3⟩ := sp_due_lt hH hA (by omega) (show k < 8 by omega)
        have next : ∀ (h : aw_H) (b : Nat), b = sp_arg (sp_lack (mm_H s) (mm_a s 45)) (k + 1) → mm_R G w h (mm_setA s 46 (mm_a s 45)) → mm_same w h0 h → AW G (aw_rm 2 0 0) yX5_poorest cX5_poorest 3 (some .int) (aw_N G (mm_PoC G w h0 (some (.int (op_poorest (mm_H s) (mm_a s 45)))) (s)) 0 0) 0 0 h 35 [(0, .ref w.1), (1, .int (sp_cv b)), (2, .int (nI k))] [] := by
          intro h b eb hR hs
          subst eb
          refine aw_iincN (b := 1) dX5_poorest_35 rfl rfl (by decide) rfl rfl ?_
          refine aw_goto (tgt := 8) dX5_poorest_38 (by decide) ?_
          exact ih (mm_n s 42 - (k + 1)) (by omega) (k + 1) h rfl (by omega) hR hs
        generalize hb : sp_arg (sp_lack (mm_H s) (mm_a s 45)) k = b at *
        rcases (show b = 0 ∨ ∃ j, b = j + 1 by cases b; exact Or.inl rfl; exact Or.inr ⟨_, rfl⟩) with rfl | ⟨j, rfl⟩
        ·
          refine aw_iload_n dX5_poorest_8 rfl ?_
          refine aw_aload_n dX5_poorest_9 rfl ?_
          refine aw_get dX5_poorest_10 fX5_350 rfl hR.1 (by rfl) ?_
          try simp only [mm_n_N, mm_n_A, mm_n_V, mm_n_Fp, mm_n_W, mm_n_Nm, mm_a_N, mm_a_A, mm_a_V, mm_a_Fp, mm_a_W, mm_a_Nm, mm_v_N, mm_v_A, mm_v_V, mm_fp_N, mm_fp_A, mm_fp_Fp, mm_w_N, mm_w_W, Nat.reduceEqDiff, reduceIte, if_true, if_false, mm_H_45, mm_H_46, mm_H_47, mm_H_50, mm_H_53, mm_H_54, mm_H_55, mm_H_56, mm_H_57, mm_H_58, mm_H_66, mm_H_67, mm_H_68]
          refine aw_icmp_geN (tgt := 41) dX5_poorest_13 (by decide) (by omega) (by omega) (fun c_13 => by exfalso; omega) (fun c_13 => ?_)
          refine aw_iload_n dX5_poorest_16 rfl ?_
          refine aw_if_lt (tgt := 33) dX5_poorest_17 (by decide) (fun c_17 => ?_) (fun c_17 => by exfalso; exact absurd c_17 (by decide))
          refine aw_iload_n dX5_poorest_33 rfl ?_
          refine aw_istore_n dX5_poorest_34 (by decide) rfl rfl ?_
          exact AW_ls (by rw [← sp_cv_s k]; rfl) (next h (k + 1) (by rw [eS, if_pos (Or.inl rfl)]) hR hs)
        · obtain ⟨f1, f2, f3⟩ := sp_due_lt hH hA (by omega) (show j < 8 by omega)
          rw [sp_cv_s]
          rw [show j + 1 - 1 = j from rfl] at eS
          refine aw_iload_n dX5_poorest_8 rfl ?_
          refine aw_aload_n dX5_poorest_9 rfl ?_
          refine aw_get dX5_poorest_10 fX5_350 rfl hR.1 (by rfl) ?_
          try simp only [mm_n_N, mm_n_A, mm_n_V, mm_n_Fp, mm_n_W, mm_n_Nm, mm_a_N, mm_a_A, mm_a_V, mm_a_Fp, mm_a_W, mm_a_Nm, mm_v_N, mm_v_A, mm_v_V, mm_fp_N, mm_fp_A, mm_fp_Fp, mm_w_N, mm_w_W, Nat.reduceEqDiff, reduceIte, if_true, if_false, mm_H_45, mm_H_46, mm_H_47, mm_H_50, mm_H_53, mm_H_54, mm_H_55, mm_H_56, mm_H_57, mm_H_58, mm_H_66, mm_H_67, mm_H_68]
          refine aw_icmp_geN (tgt := 41) dX5_poorest_13 (by decide) (by omega) (by omega) (fun c_13 => by exfalso; omega) (fun c_13 => ?_)
          refine aw_iload_n dX5_poorest_16 rfl ?_
          refine aw_if_ltN (tgt := 33) dX5_poorest_17 (by decide) (by omega) ?_
          refine aw_aload_n dX5_poorest_20 rfl ?_
          refine aw_iload_n dX5_poorest_21 rfl ?_
          refine mm_call dX5_poorest_22 sX5_397 rfl hW hR hs (mm_lackOf (s := mm_setA s 46 (mm_a s 45)) (by omega) g1 g2) rfl rfl ⟨Nat.le_of_ble_eq_true rfl, Nat.le_of_ble_eq_true rfl⟩ (Nat.le_of_ble_eq_true rfl) (fun h hR hs => ?_)
          try simp only [mm_n_N, mm_n_A, mm_n_V, mm_n_Fp, mm_n_W, mm_n_Nm, mm_a_N, mm_a_A, mm_a_V, mm_a_Fp, mm_a_W, mm_a_Nm, mm_v_N, mm_v_A, mm_v_V, mm_fp_N, mm_fp_A, mm_fp_Fp, mm_w_N, mm_w_W, Nat.reduceEqDiff, reduceIte, if_true, if_false, mm_H_45, mm_H_46, mm_H_47, mm_H_50, mm_H_53, mm_H_54, mm_H_55, mm_H_56, mm_H_57, mm_H_58, mm_H_66, mm_H_67, mm_H_68]
          refine aw_aload_n dX5_poorest_25 rfl ?_
          refine aw_iload_n dX5_poorest_26 rfl ?_
          refine mm_call dX5_poorest_27 sX5_397 rfl hW hR hs (mm_lackOf (s := mm_setA s 46 (mm_a s 45)) (by omega) f1 f2) rfl rfl ⟨Nat.le_of_ble_eq_true rfl, Nat.le_of_ble_eq_true rfl⟩ (Nat.le_of_ble_eq_true rfl) (fun h hR hs => ?_)
          try simp only [mm_n_N, mm_n_A, mm_n_V, mm_n_Fp, mm_n_W, mm_n_Nm, mm_a_N, mm_a_A, mm_a_V, mm_a_Fp, mm_a_W, mm_a_Nm, mm_v_N, mm_v_A, mm_v_V, mm_fp_N, mm_fp_A, mm_fp_Fp, mm_w_N, mm_w_W, Nat.reduceEqDiff, reduceIte, if_true, if_false, mm_H_45, mm_H_46, mm_H_47, mm_H_50, mm_H_53, mm_H_54, mm_H_55, mm_H_56, mm_H_57, mm_H_58, mm_H_66, mm_H_67, mm_H_68]
          refine aw_icmp_leN (tgt := 35) dX5_poorest_30 (by decide) (by omega) (by omega) (fun c_30 => ?_) (fun c_30 => ?_)
          · by_cases z : sp_lack (mm_H s) (mm_a s 45) j < sp_lack (mm_H s) (mm_a s 45) k
            · refine AW_ls ?_ (next h (k + 1) (by rw [eS, if_pos (Or.inr z)]) hR hs)
              first
                | exact absurd z (by omega)
                | (rw [sp_cv_s]; rfl)
            · refine AW_ls ?_ (next h (j + 1) (by rw [eS, if_neg (by omega)]) hR hs)
              first
                | (rw [sp_cv_s]; done)
                | (rw [sp_cv_s]; rfl)
                | (exfalso; omega)
          · refine aw_iload_n dX5_poorest_33 rfl ?_
            refine aw_istore_n dX5_poorest_34 (by decide) rfl rfl ?_
            by_cases z : sp_lack (mm_H s) (mm_a s 45) j < sp_lack (mm_H s) (mm_a s 45) k
            · refine AW_ls ?_ (next h (k + 1) (by rw [eS, if_pos (Or.inr z)]) hR hs)
              first
                | exact absurd z (by omega)
                | (rw [sp_cv_s]; rfl)
            · refine AW_ls ?_ (next h (j + 1) (by rw [eS, if_neg (by omega)]) hR hs)
              first
                | (rw [sp_cv_s]; done)
                | (rw [sp_cv_s]; rfl)
                | (exfalso; omega)
      ·
        refine aw_iload_n dX5_poorest_8 rfl ?_
        refine aw_aload_n dX5_poorest_9 rfl ?_
        refine aw_get dX5_poorest_10 fX5_350 rfl hR.1 (by rfl) ?_
        try simp only [mm_n_N, mm_n_A, mm_n_V, mm_n_Fp, mm_n_W, mm_n_Nm, mm_a_N, mm_a_A, mm_a_V, mm_a_Fp, mm_a_W, mm_a_Nm, mm_v_N, mm_v_A, mm_v_V, mm_fp_N, mm_fp_A, mm_fp_Fp, mm_w_N, mm_w_W, Nat.reduceEqDiff, reduceIte, if_true, if_false, mm_H_45, mm_H_46, mm_H_47, mm_H_50, mm_H_53, mm_H_54, mm_H_55, mm_H_56, mm_H_57, mm_H_58, mm_H_66, mm_H_67, mm_H_68]
        refine aw_icmp_geN (tgt := 41) dX5_poorest_13 (by decide) (by omega) (by omega) (fun c_13 => ?_) (fun c_13 => by exfalso; omega)
        refine aw_iload_n dX5_poorest_41 rfl ?_
        refine aw_ireturn dX5_poorest_42 rfl ?_
        exact ⟨by rw [op_poorest, h42, show mm_n s 42 = k by omega], _, mm_core.A rfl mm_core.rf, hR, hs⟩
  refine aw_aload_n dX5_poorest_0 rfl ?_
  refine mm_call dX5_poorest_1 sX5_394 rfl hW hR hs (mm_load) rfl rfl ⟨Nat.le_of_ble_eq_true rfl, Nat.le_of_ble_eq_true rfl⟩ (Nat.le_of_ble_eq_true rfl) (fun h hR hs => ?_)
  refine aw_iconst (v := -1) dX5_poorest_4 rfl ?_
  refine aw_istore_n dX5_poorest_5 (by decide) rfl rfl ?_
  refine aw_iconst (v := nI 0) dX5_poorest_6 rfl ?_
  refine aw_istore_n dX5_poorest_7 (by decide) rfl rfl ?_
  exact loop (mm_n s 42) 0 h rfl (Nat.zero_le _) hR hs
set_option maxHeartbeats 4000000 in
theorem mo_owing {s : mm_S} {N : Nat} (hH : sp_okH (mm_H s)) (hA : sp_okA N (mm_a s 45)) (hN : N ≤ 10000000) : mm_Op yX5_owing cX5_owing 3 (some .int) 2 [] s (some (.int (op_owing (mm_H s) (mm_a s 45)))) (s) := by
  refine mm_Op.of (by decide +kernel) (fun _ => Nat.le_of_ble_eq_true rfl) (fun G w h0 hW hR => ?_)
  have hs : mm_same w h0 h0 := mm_same.rf
  show AW G (aw_rm 2 0 0) yX5_owing cX5_owing 3 (some .int) (aw_N G (mm_PoC G w h0 (some (.int (op_owing (mm_H s) (mm_a s 45)))) (s)) 0 0) 0 0 h0 0 [(0, .ref w.1)] []
  have hs1 : 1 ≤ mm_n s 41 := hH.1.1; have hs20 : mm_n s 41 ≤ 20 := hH.1.2; have hn : mm_n s 42 ≤ 8 := hH.2.1; have hlv : ∀ t, t < 8 → mm_a s 32 t ≤ 20 := fun t ht => (hH.2.2.1 t ht).1; have hsg : ∀ t, t < 8 → mm_a s 33 t ≤ 40 := fun t ht => (hH.2.2.1 t ht).2.1; have hhv : ∀ t, t < 8 → mm_a s 34 t ≤ 9 := fun t ht => (hH.2.2.1 t ht).2.2.1; have how : ∀ t, t < 8 → mm_a s 35 t ≤ 999 := fun t ht => (hH.2.2.1 t ht).2.2.2.1; have hfl : ∀ t, t < 8 → mm_a s 36 t ≤ 100 := fun t ht => (hH.2.2.1 t ht).2.2.2.2; have hF0 : sp_fok (mm_steps s 0) := hH.2.2.2.1; have hF1 : sp_fok (mm_steps s 1) := hH.2.2.2.2; have h42 : sp_hn (mm_H s) = mm_n s 42 := rfl; have h41 : sp_hs (mm_H s) = mm_n s 41 := rfl
  have loop : ∀ (m k : Nat) (h : aw_H), mm_n s 42 - k = m → k ≤ mm_n s 42 → mm_R G w h (mm_setA s 46 (mm_a s 45)) → mm_same w h0 h → AW G (aw_rm 2 0 0) yX5_owing cX5_owing 3 (some .int) (aw_N G (mm_PoC G w h0 (some (.int (op_owing (mm_H s) (mm_a s 45)))) (s)) 0 0) 0 0 h 8 [(0, .ref w.1), (1, .int (nI (sp_or (fun t => aw_t (0 < sp_lack (mm_H s) (mm_a s 45) t)) k))), (2, .int (nI k))] [] := by
    intro m
    induction m using Nat.strongRecOn with
    | _ m ih =>
      intro k h hm hk hR hs
      by_cases hk9 : k < mm_n s 42
      · obtain ⟨g1, g2, g3⟩ := sp_due_lt hH hA (by omega) (show k < 8 by omega)
        have e1 : ∀ v : Nat, (0 < sp_lack (mm_H s) (mm_a s 45) k ∧ v = 1 ∨ ¬ 0 < sp_lack (mm_H s) (mm_a s 45) k ∧ v = 0) → v = aw_t (0 < sp_lack (mm_H s) (mm_a s 45) k) := by
          intro v hv
          rcases hv with ⟨z, rfl⟩ | ⟨z, rfl⟩
          · exact (aw_t1 z).symm
          · exact (aw_t0 z).symm
        refine aw_iload_n dX5_owing_8 rfl ?_
        refine aw_aload_n dX5_owing_9 rfl ?_
        refine aw_get dX5_owing_10 fX5_350 rfl hR.1 (by rfl) ?_
        try simp only [mm_n_N, mm_n_A, mm_n_V, mm_n_Fp, mm_n_W, mm_n_Nm, mm_a_N, mm_a_A, mm_a_V, mm_a_Fp, mm_a_W, mm_a_Nm, mm_v_N, mm_v_A, mm_v_V, mm_fp_N, mm_fp_A, mm_fp_Fp, mm_w_N, mm_w_W, Nat.reduceEqDiff, reduceIte, if_true, if_false, mm_H_45, mm_H_46, mm_H_47, mm_H_50, mm_H_53, mm_H_54, mm_H_55, mm_H_56, mm_H_57, mm_H_58, mm_H_66, mm_H_67, mm_H_68]
        refine aw_icmp_geN (tgt := 43) dX5_owing_13 (by decide) (by omega) (by omega) (fun c_13 => by exfalso; omega) (fun c_13 => ?_)
        refine aw_iload_n dX5_owing_16 rfl ?_
        refine aw_aload_n dX5_owing_17 rfl ?_
        refine aw_iload_n dX5_owing_18 rfl ?_
        refine mm_call dX5_owing_19 sX5_397 rfl hW hR hs (mm_lackOf (s := mm_setA s 46 (mm_a s 45)) (by omega) g1 g2) rfl rfl ⟨Nat.le_of_ble_eq_true rfl, Nat.le_of_ble_eq_true rfl⟩ (Nat.le_of_ble_eq_true rfl) (fun h hR hs => ?_)
        try simp only [mm_n_N, mm_n_A, mm_n_V, mm_n_Fp, mm_n_W, mm_n_Nm, mm_a_N, mm_a_A, mm_a_V, mm_a_Fp, mm_a_W, mm_a_Nm, mm_v_N, mm_v_A, mm_v_V, mm_fp_N, mm_fp_A, mm_fp_Fp, mm_w_N, mm_w_W, Nat.reduceEqDiff, reduceIte, if_true, if_false, mm_H_45, mm_H_46, mm_H_47, mm_H_50, mm_H_53, mm_H_54, mm_H_55, mm_H_56, mm_H_57, mm_H_58, mm_H_66, mm_H_67, mm_H_68]
        refine aw_if_leN (tgt := 29) dX5_owing_22 (by decide) (by omega) (fun c_22 => ?_) (fun c_22 => ?_)
        · refine aw_iconst (v := nI 0) dX5_owing_29 rfl ?_
          refine aw_callP (r := _) dX5_owing_30 sX5_304 rfl (mp_truth (by decide)) rfl rfl ⟨Nat.le_of_ble_eq_true rfl, Nat.le_of_ble_eq_true rfl⟩ (Nat.le_of_ble_eq_true rfl) ?_
          refine aw_topi (z := nI (aw_t (0 < sp_lack (mm_H s) (mm_a s 45) k))) (congrArg nI (e1 _ (by omega))) ?_
          refine aw_iload_n dX5_owing_33 rfl ?_
          refine aw_ishlN dX5_owing_34 (by first | omega | exact aw_sh1 aw_t_lt (by omega)) (by first | omega | exact aw_sh1 aw_t_lt (by omega)) ?_
          refine aw_iorN dX5_owing_35 ?_
          refine aw_istore_n dX5_owing_36 (by decide) rfl rfl ?_
          refine aw_iincN (b := 1) dX5_owing_37 rfl rfl (by decide) rfl rfl ?_
          refine aw_goto (tgt := 8) dX5_owing_40 (by decide) ?_
          exact ih (mm_n s 42 - (k + 1)) (by omega) (k + 1) h rfl (by omega) hR hs
        · refine aw_iconst (v := nI 1) dX5_owing_25 rfl ?_
          refine aw_goto (tgt := 30) dX5_owing_26 (by decide) ?_
          refine aw_callP (r := _) dX5_owing_30 sX5_304 rfl (mp_truth (by decide)) rfl rfl ⟨Nat.le_of_ble_eq_true rfl, Nat.le_of_ble_eq_true rfl⟩ (Nat.le_of_ble_eq_true rfl) ?_
          refine aw_topi (z := nI (aw_t (0 < sp_lack (mm_H s) (mm_a s 45) k))) (congrArg nI (e1 _ (by omega))) ?_
          refine aw_iload_n dX5_owing_33 rfl ?_
          refine aw_ishlN dX5_owing_34 (by first | omega | exact aw_sh1 aw_t_lt (by omega)) (by first | omega | exact aw_sh1 aw_t_lt (by omega)) ?_
          refine aw_iorN dX5_owing_35 ?_
          refine aw_istore_n dX5_owing_36 (by decide) rfl rfl ?_
          refine aw_iincN (b := 1) dX5_owing_37 rfl rfl (by decide) rfl rfl ?_
          refine aw_goto (tgt := 8) dX5_owing_40 (by decide) ?_
          exact ih (mm_n s 42 - (k + 1)) (by omega) (k + 1) h rfl (by omega) hR hs
      ·
        refine aw_iload_n dX5_owing_8 rfl ?_
        refine aw_aload_n dX5_owing_9 rfl ?_
        refine aw_get dX5_owing_10 fX5_350 rfl hR.1 (by rfl) ?_
        try simp only [mm_n_N, mm_n_A, mm_n_V, mm_n_Fp, mm_n_W, mm_n_Nm, mm_a_N, mm_a_A, mm_a_V, mm_a_Fp, mm_a_W, mm_a_Nm, mm_v_N, mm_v_A, mm_v_V, mm_fp_N, mm_fp_A, mm_fp_Fp, mm_w_N, mm_w_W, Nat.reduceEqDiff, reduceIte, if_true, if_false, mm_H_45, mm_H_46, mm_H_47, mm_H_50, mm_H_53, mm_H_54, mm_H_55, mm_H_56, mm_H_57, mm_H_58, mm_H_66, mm_H_67, mm_H_68]
        refine aw_icmp_geN (tgt := 43) dX5_owing_13 (by decide) (by omega) (by omega) (fun c_13 => ?_) (fun c_13 => by exfalso; omega)
        refine aw_iload_n dX5_owing_43 rfl ?_
        refine aw_ireturn dX5_owing_44 rfl ?_
        exact ⟨by rw [op_owing, h42, show mm_n s 42 = k by omega], _, mm_core.A rfl mm_core.rf, hR, hs⟩
  refine aw_aload_n dX5_owing_0 rfl ?_
  refine mm_call dX5_owing_1 sX5_394 rfl hW hR hs (mm_load) rfl rfl ⟨Nat.le_of_ble_eq_true rfl, Nat.le_of_ble_eq_true rfl⟩ (Nat.le_of_ble_eq_true rfl) (fun h hR hs => ?_)
  refine aw_iconst (v := nI 0) dX5_owing_4 rfl ?_
  refine aw_istore_n dX5_owing_5 (by decide) rfl rfl ?_
  refine aw_iconst (v := nI 0) dX5_owing_6 rfl ?_
  refine aw_istore_n dX5_owing_7 (by decide) rfl rfl ?_
  exact loop (mm_n s 42) 0 h rfl (Nat.zero_le _) hR hs
set_option maxHeartbeats 4000000 in
theorem mo_law {s : mm_S} {z : Int32} {N : Nat} (hH : sp_okH (mm_H s)) (hA : sp_okA N (mm_a s 45)) (hN : N ≤ 10000000) : mm_Op yX5_law cX5_law 5 (some .int) 2 [.int (z)] s (some (.int (op_law (mm_H s) (mm_a s 45) z))) (s) := by
  refine mm_Op.of (by decide +kernel) (fun _ => Nat.le_of_ble_eq_true rfl) (fun G w h0 hW hR => ?_)
  have hs : mm_same w h0 h0 := mm_same.rf
  show AW G (aw_rm 2 0 0) yX5_law cX5_law 5 (some .int) (aw_N G (mm_PoC G w h0 (some (.int (op_law (mm_H s) (mm_a s 45) z))) (s)) 0 0) 0 0 h0 0 [(0, .ref w.1), (1, .int (z))] []
  have hs1 : 1 ≤ mm_n s 41 := hH.1.1; have hs20 : mm_n s 41 ≤ 20 := hH.1.2; have hn : mm_n s 42 ≤ 8 := hH.2.1; have hlv : ∀ t, t < 8 → mm_a s 32 t ≤ 20 := fun t ht => (hH.2.2.1 t ht).1; have hsg : ∀ t, t < 8 → mm_a s 33 t ≤ 40 := fun t ht => (hH.2.2.1 t ht).2.1; have hhv : ∀ t, t < 8 → mm_a s 34 t ≤ 9 := fun t ht => (hH.2.2.1 t ht).2.2.1; have how : ∀ t, t < 8 → mm_a s 35 t ≤ 999 := fun t ht => (hH.2.2.1 t ht).2.2.2.1; have hfl : ∀ t, t < 8 → mm_a s 36 t ≤ 100 := fun t ht => (hH.2.2.1 t ht).2.2.2.2; have hF0 : sp_fok (mm_steps s 0) := hH.2.2.2.1; have hF1 : sp_fok (mm_steps s 1) := hH.2.2.2.2; have h42 : sp_hn (mm_H s) = mm_n s 42 := rfl; have h41 : sp_hs (mm_H s) = mm_n s 41 := rfl
  have loop : -999 ≤ z.toInt ∧ z.toInt ≤ 999 → ∀ (m k : Nat) (h : aw_H) (lsx : List (Nat × Value)), (lsx = [] ∨ ∃ q, lsx = [(4, .int q)]) → mm_n s 42 - k = m → k ≤ mm_n s 42 → mm_R G w h s → mm_same w h0 h → AW G (aw_rm 2 0 0) yX5_law cX5_law 5 (some .int) (aw_N G (mm_PoC G w h0 (some (.int (op_law (mm_H s) (mm_a s 45) z))) s) 0 0) 0 0 h 19 ((0, .ref w.1) :: (1, .int z) :: (2, .int (nI (sp_sum (fun t => aw_t (mm_a s 45 (8 + t) < sp_own (mm_H s) z.toInt t + mm_a s 45 (16 + t))) k))) :: (3, .int (nI k)) :: lsx) [] := by
    intro hz m
    induction m using Nat.strongRecOn with
    | _ m ih =>
      intro k h lsx hls hm hk hR hs
      by_cases hk9 : k < mm_n s 42
      · have q1 := how k (by omega)
        have q2 := (hA.1 k (by omega)).2.1
        have q3 := (hA.1 k (by omega)).2.2
        have eo : sp_own (mm_H s) z.toInt k = ((mm_a s 35 k : Int) + z.toInt).toNat := rfl
        have ea := aw_addz (a := mm_a s 35 k) (z := z) (by omega) (by omega) (by omega)
        have tail : ∀ (h : aw_H) (v : Nat), v = sp_own (mm_H s) z.toInt k → mm_R G w h s → mm_same w h0 h → AW G (aw_rm 2 0 0) yX5_law cX5_law 5 (some .int) (aw_N G (mm_PoC G w h0 (some (.int (op_law (mm_H s) (mm_a s 45) z))) (s)) 0 0) 0 0 h 52 [(0, .ref w.1), (1, .int z), (2, .int (nI (sp_sum (fun t => aw_t (mm_a s 45 (8 + t) < sp_own (mm_H s) z.toInt t + mm_a s 45 (16 + t))) k))), (3, .int (nI k)), (4, .int (nI v))] [] := by
          intro h v ev hR hs
          have e1 : ∀ u : Nat, (mm_a s 45 (8 + k) < v + mm_a s 45 (16 + k) ∧ u = 1 ∨ ¬ mm_a s 45 (8 + k) < v + mm_a s 45 (16 + k) ∧ u = 0) → u = aw_t (mm_a s 45 (8 + k) < sp_own (mm_H s) z.toInt k + mm_a s 45 (16 + k)) := by
            intro u hu
            rw [← ev]
            rcases hu with ⟨z, rfl⟩ | ⟨z, rfl⟩
            · exact (aw_t1 z).symm
            · exact (aw_t0 z).symm
          refine aw_iload_n dX5_law_52 rfl ?_
          refine aw_iload dX5_law_53 rfl ?_
          refine aw_aload_n dX5_law_55 rfl ?_
          refine aw_get dX5_law_56 fX5_85 rfl hR.1 (by rfl) ?_
          refine aw_bipush (v := nI 16) dX5_law_59 rfl ?_
          refine aw_iload_n dX5_law_61 rfl ?_
          refine aw_iaddN dX5_law_62 ?_
          refine aw_ialdN dX5_law_63 (hR.2.1 45 28 rfl) (by omega) (by decide) ?_
          refine aw_iaddN dX5_law_64 ?_
          refine aw_aload_n dX5_law_65 rfl ?_
          refine aw_get dX5_law_66 fX5_85 rfl hR.1 (by rfl) ?_
          refine aw_bipush (v := nI 8) dX5_law_69 rfl ?_
          refine aw_iload_n dX5_law_71 rfl ?_
          refine aw_iaddN dX5_law_72 ?_
          refine aw_ialdN dX5_law_73 (hR.2.1 45 28 rfl) (by omega) (by decide) ?_
          refine aw_icmp_leN (tgt := 81) dX5_law_74 (by decide) (by omega) (by omega) (fun c_74 => ?_) (fun c_74 => ?_)
          · refine aw_iconst (v := nI 0) dX5_law_81 rfl ?_
            refine aw_callP (r := _) dX5_law_82 sX5_304 rfl (mp_truth (by decide)) rfl rfl ⟨Nat.le_of_ble_eq_true rfl, Nat.le_of_ble_eq_true rfl⟩ (Nat.le_of_ble_eq_true rfl) ?_
            refine aw_topi (z := nI (aw_t (mm_a s 45 (8 + k) < sp_own (mm_H s) z.toInt k + mm_a s 45 (16 + k)))) (congrArg nI (e1 _ (by omega))) ?_
            refine aw_iaddN dX5_law_85 ?_
            refine aw_istore_n dX5_law_86 (by decide) rfl rfl ?_
            refine aw_iincN (b := 1) dX5_law_87 rfl rfl (by decide) rfl rfl ?_
            refine aw_goto (tgt := 19) dX5_law_90 (by decide) ?_
            exact ih (mm_n s 42 - (k + 1)) (by omega) (k + 1) h _ (Or.inr ⟨_, rfl⟩) rfl (by omega) hR hs
          · refine aw_iconst (v := nI 1) dX5_law_77 rfl ?_
            refine aw_goto (tgt := 82) dX5_law_78 (by decide) ?_
            refine aw_callP (r := _) dX5_law_82 sX5_304 rfl (mp_truth (by decide)) rfl rfl ⟨Nat.le_of_ble_eq_true rfl, Nat.le_of_ble_eq_true rfl⟩ (Nat.le_of_ble_eq_true rfl) ?_
            refine aw_topi (z := nI (aw_t (mm_a s 45 (8 + k) < sp_own (mm_H s) z.toInt k + mm_a s 45 (16 + k)))) (congrArg nI (e1 _ (by omega))) ?_
            refine aw_iaddN dX5_law_85 ?_
            refine aw_istore_n dX5_law_86 (by decide) rfl rfl ?_
            refine aw_iincN (b := 1) dX5_law_87 rfl rfl (by decide) rfl rfl ?_
            refine aw_goto (tgt := 19) dX5_law_90 (by decide) ?_
            exact ih (mm_n s 42 - (k + 1)) (by omega) (k + 1) h _ (Or.inr ⟨_, rfl⟩) rfl (by omega) hR hs
        by_cases hpos : 0 < (mm_a s 35 k : Int) + z.toInt
        · have en : nI (mm_a s 35 k) + z = nI (((mm_a s 35 k : Int) + z.toInt).toNat) := by
            rw [aw_eqi (by omega), ea]
            omega
          rcases hls with rfl | ⟨q, rfl⟩
          ·
            refine aw_iload_n dX5_law_19 rfl ?_
            refine aw_aload_n dX5_law_20 rfl ?_
            refine aw_get dX5_law_21 fX5_350 rfl hR.1 (by rfl) ?_
            refine aw_icmp_geN (tgt := 93) dX5_law_24 (by decide) (by omega) (by omega) (fun c_24 => by exfalso; omega) (fun c_24 => ?_)
            refine aw_aload_n dX5_law_27 rfl ?_
            refine aw_get dX5_law_28 fX5_76 rfl hR.1 (by rfl) ?_
            refine aw_iload_n dX5_law_31 rfl ?_
            refine aw_ialdN dX5_law_32 (hR.2.1 35 8 rfl) (by omega) (by decide) ?_
            refine aw_iload_n dX5_law_33 rfl ?_
            refine aw_iadd dX5_law_34 ?_
            refine aw_topi en ?_
            refine aw_if_leN (tgt := 49) dX5_law_35 (by decide) (by omega) (fun c_35 => by exfalso; omega) (fun c_35 => ?_)
            refine aw_aload_n dX5_law_38 rfl ?_
            refine aw_get dX5_law_39 fX5_76 rfl hR.1 (by rfl) ?_
            refine aw_iload_n dX5_law_42 rfl ?_
            refine aw_ialdN dX5_law_43 (hR.2.1 35 8 rfl) (by omega) (by decide) ?_
            refine aw_iload_n dX5_law_44 rfl ?_
            refine aw_iadd dX5_law_45 ?_
            refine aw_topi en ?_
            refine aw_goto (tgt := 50) dX5_law_46 (by decide) ?_
            refine aw_istore dX5_law_50 (by decide) rfl rfl ?_
            exact tail h _ eo.symm hR hs
          ·
            refine aw_iload_n dX5_law_19 rfl ?_
            refine aw_aload_n dX5_law_20 rfl ?_
            refine aw_get dX5_law_21 fX5_350 rfl hR.1 (by rfl) ?_
            refine aw_icmp_geN (tgt := 93) dX5_law_24 (by decide) (by omega) (by omega) (fun c_24 => by exfalso; omega) (fun c_24 => ?_)
            refine aw_aload_n dX5_law_27 rfl ?_
            refine aw_get dX5_law_28 fX5_76 rfl hR.1 (by rfl) ?_
            refine aw_iload_n dX5_law_31 rfl ?_
            refine aw_ialdN dX5_law_32 (hR.2.1 35 8 rfl) (by omega) (by decide) ?_
            refine aw_iload_n dX5_law_33 rfl ?_
            refine aw_iadd dX5_law_34 ?_
            refine aw_topi en ?_
            refine aw_if_leN (tgt := 49) dX5_law_35 (by decide) (by omega) (fun c_35 => by exfalso; omega) (fun c_35 => ?_)
            refine aw_aload_n dX5_law_38 rfl ?_
            refine aw_get dX5_law_39 fX5_76 rfl hR.1 (by rfl) ?_
            refine aw_iload_n dX5_law_42 rfl ?_
            refine aw_ialdN dX5_law_43 (hR.2.1 35 8 rfl) (by omega) (by decide) ?_
            refine aw_iload_n dX5_law_44 rfl ?_
            refine aw_iadd dX5_law_45 ?_
            refine aw_topi en ?_
            refine aw_goto (tgt := 50) dX5_law_46 (by decide) ?_
            refine aw_istore dX5_law_50 (by decide) rfl rfl ?_
            exact tail h _ eo.symm hR hs
        · have en : nI (mm_a s 35 k) + z ≤ 0 := by
            rw [Int32.le_iff_toInt_le, ea]
            show _ ≤ (0 : Int)
            omega
          rcases hls with rfl | ⟨q, rfl⟩
          ·
            refine aw_iload_n dX5_law_19 rfl ?_
            refine aw_aload_n dX5_law_20 rfl ?_
            refine aw_get dX5_law_21 fX5_350 rfl hR.1 (by rfl) ?_
            refine aw_icmp_geN (tgt := 93) dX5_law_24 (by decide) (by omega) (by omega) (fun c_24 => by exfalso; omega) (fun c_24 => ?_)
            refine aw_aload_n dX5_law_27 rfl ?_
            refine aw_get dX5_law_28 fX5_76 rfl hR.1 (by rfl) ?_
            refine aw_iload_n dX5_law_31 rfl ?_
            refine aw_ialdN dX5_law_32 (hR.2.1 35 8 rfl) (by omega) (by decide) ?_
            refine aw_iload_n dX5_law_33 rfl ?_
            refine aw_iadd dX5_law_34 ?_
            refine aw_if_le (tgt := 49) dX5_law_35 (by decide) (fun c_35 => ?_) (fun c_35 => by exfalso; exact absurd en c_35)
            refine aw_iconst (v := nI 0) dX5_law_49 rfl ?_
            refine aw_istore dX5_law_50 (by decide) rfl rfl ?_
            exact tail h 0 (by rw [eo]; omega) hR hs
          ·
            refine aw_iload_n dX5_law_19 rfl ?_
            refine aw_aload_n dX5_law_20 rfl ?_
            refine aw_get dX5_law_21 fX5_350 rfl hR.1 (by rfl) ?_
            refine aw_icmp_geN (tgt := 93) dX5_law_24 (by decide) (by omega) (by omega) (fun c_24 => by exfalso; omega) (fun c_24 => ?_)
            refine aw_aload_n dX5_law_27 rfl ?_
            refine aw_get dX5_law_28 fX5_76 rfl hR.1 (by rfl) ?_
            refine aw_iload_n dX5_law_31 rfl ?_
            refine aw_ialdN dX5_law_32 (hR.2.1 35 8 rfl) (by omega) (by decide) ?_
            refine aw_iload_n dX5_law_33 rfl ?_
            refine aw_iadd dX5_law_34 ?_
            refine aw_if_le (tgt := 49) dX5_law_35 (by decide) (fun c_35 => ?_) (fun c_35 => by exfalso; exact absurd en c_35)
            refine aw_iconst (v := nI 0) dX5_law_49 rfl ?_
            refine aw_istore dX5_law_50 (by decide) rfl rfl ?_
            exact tail h 0 (by rw [eo]; omega) hR hs
      · rcases hls with rfl | ⟨q, rfl⟩
        ·
          refine aw_iload_n dX5_law_19 rfl ?_
          refine aw_aload_n dX5_law_20 rfl ?_
          refine aw_get dX5_law_21 fX5_350 rfl hR.1 (by rfl) ?_
          refine aw_icmp_geN (tgt := 93) dX5_law_24 (by decide) (by omega) (by omega) (fun c_24 => ?_) (fun c_24 => by exfalso; omega)
          refine aw_iload_n dX5_law_93 rfl ?_
          refine aw_ireturn dX5_law_94 rfl ?_
          exact ⟨by rw [op_law, aw_if1 hz, h42, show mm_n s 42 = k by omega], _, mm_core.rf, hR, hs⟩
        ·
          refine aw_iload_n dX5_law_19 rfl ?_
          refine aw_aload_n dX5_law_20 rfl ?_
          refine aw_get dX5_law_21 fX5_350 rfl hR.1 (by rfl) ?_
          refine aw_icmp_geN (tgt := 93) dX5_law_24 (by decide) (by omega) (by omega) (fun c_24 => ?_) (fun c_24 => by exfalso; omega)
          refine aw_iload_n dX5_law_93 rfl ?_
          refine aw_ireturn dX5_law_94 rfl ?_
          exact ⟨by rw [op_law, aw_if1 hz, h42, show mm_n s 42 = k by omega], _, mm_core.rf, hR, hs⟩
  refine aw_iload_n dX5_law_0 rfl ?_
  refine aw_sipush (v := -999) dX5_law_1 rfl ?_
  refine aw_sipush (v := nI 999) dX5_law_4 rfl ?_
  refine aw_callP (r := _) dX5_law_7 sX5_368 rfl (mp_isIn) rfl rfl ⟨Nat.le_of_ble_eq_true rfl, Nat.le_of_ble_eq_true rfl⟩ (Nat.le_of_ble_eq_true rfl) ?_
  refine aw_if_neB (tgt := 15) dX5_law_10 (by decide) (fun c_10 => ?_) (fun c_10 => ?_)
  · refine aw_iconst (v := nI 0) dX5_law_15 rfl ?_
    refine aw_istore_n dX5_law_16 (by decide) rfl rfl ?_
    refine aw_iconst (v := nI 0) dX5_law_17 rfl ?_
    refine aw_istore_n dX5_law_18 (by decide) rfl rfl ?_
    exact loop c_10 (mm_n s 42) 0 h0 [] (Or.inl rfl) rfl (Nat.zero_le _) hR hs
  · refine aw_iconst (v := -1) dX5_law_13 rfl ?_
    refine aw_ireturn dX5_law_14 rfl ?_
    exact ⟨by rw [op_law, aw_if0 (show ¬ (-999 ≤ z.toInt ∧ z.toInt ≤ 999) from c_10)], _, mm_core.rf, hR, hs⟩
theorem sp_str_le (c : Nat → Nat) : ∀ k, sp_str c k ≤ k := by
  intro k
  induction k with
  | zero => exact Nat.le_refl _
  | succ k ih => unfold sp_str; split <;> omega
set_option maxHeartbeats 4000000 in
theorem mo_stride {s : mm_S} {t nt : Int32} {N : Nat} (hH : sp_okH (mm_H s)) (hA : sp_okA N (mm_a s 45)) (hN : N ≤ 10000000) : mm_Op yX5_stride cX5_stride 5 (some .int) 4 [.int (t), .int (nt)] s (some (.int (op_stride (mm_H s) (mm_a s 45) t nt))) (s) := by
  refine mm_Op.of (by decide +kernel) (fun _ => Nat.le_of_ble_eq_true rfl) (fun G w h0 hW hR => ?_)
  have hs : mm_same w h0 h0 := mm_same.rf
  show AW G (aw_rm 4 0 0) yX5_stride cX5_stride 5 (some .int) (aw_N G (mm_PoC G w h0 (some (.int (op_stride (mm_H s) (mm_a s 45) t nt))) (s)) 0 0) 0 0 h0 0 [(0, .ref w.1), (1, .int (t)), (2, .int (nt))] []
  have hs1 : 1 ≤ mm_n s 41 := hH.1.1; have hs20 : mm_n s 41 ≤ 20 := hH.1.2; have hn : mm_n s 42 ≤ 8 := hH.2.1; have hlv : ∀ t, t < 8 → mm_a s 32 t ≤ 20 := fun t ht => (hH.2.2.1 t ht).1; have hsg : ∀ t, t < 8 → mm_a s 33 t ≤ 40 := fun t ht => (hH.2.2.1 t ht).2.1; have hhv : ∀ t, t < 8 → mm_a s 34 t ≤ 9 := fun t ht => (hH.2.2.1 t ht).2.2.1; have how : ∀ t, t < 8 → mm_a s 35 t ≤ 999 := fun t ht => (hH.2.2.1 t ht).2.2.2.1; have hfl : ∀ t, t < 8 → mm_a s 36 t ≤ 100 := fun t ht => (hH.2.2.1 t ht).2.2.2.2; have hF0 : sp_fok (mm_steps s 0) := hH.2.2.2.1; have hF1 : sp_fok (mm_steps s 1) := hH.2.2.2.2; have h42 : sp_hn (mm_H s) = mm_n s 42 := rfl; have h41 : sp_hs (mm_H s) = mm_n s 41 := rfl
  have no : ¬ (sp_isT (mm_H s) t ∧ 0 ≤ nt.toInt ∧ nt.toInt ≤ 1) → op_stride (mm_H s) (mm_a s 45) t nt = -1 := fun z => by rw [op_stride, aw_if0 z]
  have loop : ∀ (t' n' L : Nat) (c : Nat → Nat), t' < 8 → L = min (mm_n s 41) (mm_a s 45 t') → c = (fun a => sp_cnt (mm_H s) (mm_a s 45) a 0 n') → op_stride (mm_H s) (mm_a s 45) t nt = sp_cz (sp_str c L) → ∀ (m k : Nat) (h : aw_H), L - k = m → k ≤ L → mm_R G w h (mm_setA s 46 (mm_a s 45)) → mm_same w h0 h → AW G (aw_rm 4 0 0) yX5_stride cX5_stride 5 (some .int) (aw_N G (mm_PoC G w h0 (some (.int (op_stride (mm_H s) (mm_a s 45) t nt))) (s)) 0 0) 0 0 h 28 [(0, .ref w.1), (1, .int (nI t')), (2, .int (nI n')), (3, .int (sp_cz (sp_str c k))), (4, .int (nI (k + 1)))] [] := by
    intro t' n' L c ht hL hc fin m
    have hb9 := (hA.1 t' ht).1
    induction m using Nat.strongRecOn with
    | _ m ih =>
      intro k h hm hk hR hs
      by_cases hk9 : k < L
      · have eS : sp_str c (k + 1) = if sp_str c k = 0 ∨ c (sp_str c k) * (k + 1) < c (k + 1) * sp_str c k then k + 1 else sp_str c k := rfl
        have le := sp_str_le c k
        have next : ∀ (h : aw_H) (b : Nat), b = sp_str c (k + 1) → mm_R G w h (mm_setA s 46 (mm_a s 45)) → mm_same w h0 h → AW G (aw_rm 4 0 0) yX5_stride cX5_stride 5 (some .int) (aw_N G (mm_PoC G w h0 (some (.int (op_stride (mm_H s) (mm_a s 45) t nt))) (s)) 0 0) 0 0 h 78 [(0, .ref w.1), (1, .int (nI t')), (2, .int (nI n')), (3, .int (sp_cz b)), (4, .int (nI (k + 1)))] [] := by
          intro h b eb hR hs
          subst eb
          refine aw_iincN (b := 1) dX5_stride_78 rfl rfl (by decide) rfl rfl ?_
          refine aw_goto (tgt := 28) dX5_stride_81 (by decide) ?_
          exact ih (L - (k + 1)) (by omega) (k + 1) h rfl (by omega) hR hs
        generalize hb : sp_str c k = b at *
        by_cases hb0 : b = 0
        · subst hb0
          refine aw_iload dX5_stride_28 rfl ?_
          refine aw_aload_n dX5_stride_30 rfl ?_
          refine aw_get dX5_stride_31 fX5_82 rfl hR.1 (by rfl) ?_
          try simp only [mm_n_N, mm_n_A, mm_n_V, mm_n_Fp, mm_n_W, mm_n_Nm, mm_a_N, mm_a_A, mm_a_V, mm_a_Fp, mm_a_W, mm_a_Nm, mm_v_N, mm_v_A, mm_v_V, mm_fp_N, mm_fp_A, mm_fp_Fp, mm_w_N, mm_w_W, Nat.reduceEqDiff, reduceIte, if_true, if_false, mm_H_45, mm_H_46, mm_H_47, mm_H_50, mm_H_53, mm_H_54, mm_H_55, mm_H_56, mm_H_57, mm_H_58, mm_H_66, mm_H_67, mm_H_68]
          refine aw_icmp_gtN (tgt := 84) dX5_stride_34 (by decide) (by omega) (by omega) (fun c_34 => by exfalso; omega) (fun c_34 => ?_)
          refine aw_iload dX5_stride_37 rfl ?_
          refine aw_aload_n dX5_stride_39 rfl ?_
          refine aw_get dX5_stride_40 fX5_88 rfl hR.1 (by rfl) ?_
          refine aw_iload_n dX5_stride_43 rfl ?_
          refine aw_ialdN dX5_stride_44 (hR.2.1 46 28 rfl) (by omega) (by decide) ?_
          try simp only [mm_n_N, mm_n_A, mm_n_V, mm_n_Fp, mm_n_W, mm_n_Nm, mm_a_N, mm_a_A, mm_a_V, mm_a_Fp, mm_a_W, mm_a_Nm, mm_v_N, mm_v_A, mm_v_V, mm_fp_N, mm_fp_A, mm_fp_Fp, mm_w_N, mm_w_W, Nat.reduceEqDiff, reduceIte, if_true, if_false, mm_H_45, mm_H_46, mm_H_47, mm_H_50, mm_H_53, mm_H_54, mm_H_55, mm_H_56, mm_H_57, mm_H_58, mm_H_66, mm_H_67, mm_H_68]
          refine aw_icmp_gtN (tgt := 84) dX5_stride_45 (by decide) (by omega) (by omega) (fun c_45 => by exfalso; omega) (fun c_45 => ?_)
          refine aw_iload_n dX5_stride_48 rfl ?_
          refine aw_if_lt (tgt := 75) dX5_stride_49 (by decide) (fun c_49 => ?_) (fun c_49 => by exfalso; exact absurd c_49 (by decide))
          refine aw_iload dX5_stride_75 rfl ?_
          refine aw_istore_n dX5_stride_77 (by decide) rfl rfl ?_
          exact AW_ls (by rw [show Value.int (nI (k + 1)) = Value.int (sp_cz (k + 1)) from rfl]; rfl) (next h (k + 1) (by rw [eS, if_pos (Or.inl rfl)]) hR hs)
        · rw [show sp_cz b = nI b from if_neg hb0]
          have m1 : c b * (k + 1) ≤ 999 * 41 := Nat.mul_le_mul (by rw [hc]; exact sp_cnt_le) (by omega)
          have m2 : c (k + 1) * b ≤ 999 * 41 := Nat.mul_le_mul (by rw [hc]; exact sp_cnt_le) (by omega)
          have c1 : c (k + 1) = sp_cnt (mm_H s) (mm_a s 45) (k + 1) (sp_hvc (mm_H s) 0) n' := by rw [hc]; rfl
          have c2 : c b = sp_cnt (mm_H s) (mm_a s 45) b (sp_hvc (mm_H s) 0) n' := by rw [hc]; rfl
          refine aw_iload dX5_stride_28 rfl ?_
          refine aw_aload_n dX5_stride_30 rfl ?_
          refine aw_get dX5_stride_31 fX5_82 rfl hR.1 (by rfl) ?_
          try simp only [mm_n_N, mm_n_A, mm_n_V, mm_n_Fp, mm_n_W, mm_n_Nm, mm_a_N, mm_a_A, mm_a_V, mm_a_Fp, mm_a_W, mm_a_Nm, mm_v_N, mm_v_A, mm_v_V, mm_fp_N, mm_fp_A, mm_fp_Fp, mm_w_N, mm_w_W, Nat.reduceEqDiff, reduceIte, if_true, if_false, mm_H_45, mm_H_46, mm_H_47, mm_H_50, mm_H_53, mm_H_54, mm_H_55, mm_H_56, mm_H_57, mm_H_58, mm_H_66, mm_H_67, mm_H_68]
          refine aw_icmp_gtN (tgt := 84) dX5_stride_34 (by decide) (by omega) (by omega) (fun c_34 => by exfalso; omega) (fun c_34 => ?_)
          refine aw_iload dX5_stride_37 rfl ?_
          refine aw_aload_n dX5_stride_39 rfl ?_
          refine aw_get dX5_stride_40 fX5_88 rfl hR.1 (by rfl) ?_
          refine aw_iload_n dX5_stride_43 rfl ?_
          refine aw_ialdN dX5_stride_44 (hR.2.1 46 28 rfl) (by omega) (by decide) ?_
          try simp only [mm_n_N, mm_n_A, mm_n_V, mm_n_Fp, mm_n_W, mm_n_Nm, mm_a_N, mm_a_A, mm_a_V, mm_a_Fp, mm_a_W, mm_a_Nm, mm_v_N, mm_v_A, mm_v_V, mm_fp_N, mm_fp_A, mm_fp_Fp, mm_w_N, mm_w_W, Nat.reduceEqDiff, reduceIte, if_true, if_false, mm_H_45, mm_H_46, mm_H_47, mm_H_50, mm_H_53, mm_H_54, mm_H_55, mm_H_56, mm_H_57, mm_H_58, mm_H_66, mm_H_67, mm_H_68]
          refine aw_icmp_gtN (tgt := 84) dX5_stride_45 (by decide) (by omega) (by omega) (fun c_45 => by exfalso; omega) (fun c_45 => ?_)
          refine aw_iload_n dX5_stride_48 rfl ?_
          refine aw_if_ltN (tgt := 75) dX5_stride_49 (by decide) (by omega) ?_
          refine aw_aload_n dX5_stride_52 rfl ?_
          refine aw_iload dX5_stride_53 rfl ?_
          refine aw_iconst (v := -1) dX5_stride_55 rfl ?_
          refine aw_iload_n dX5_stride_56 rfl ?_
          refine mm_call dX5_stride_57 sX5_404 rfl hW hR hs (mm_countOf (s := mm_setA s 46 (mm_a s 45)) (c := 0) (by omega) hF0) rfl rfl ⟨Nat.le_of_ble_eq_true rfl, Nat.le_of_ble_eq_true rfl⟩ (Nat.le_of_ble_eq_true rfl) (fun h hR hs => ?_)
          try simp only [mm_n_N, mm_n_A, mm_n_V, mm_n_Fp, mm_n_W, mm_n_Nm, mm_a_N, mm_a_A, mm_a_V, mm_a_Fp, mm_a_W, mm_a_Nm, mm_v_N, mm_v_A, mm_v_V, mm_fp_N, mm_fp_A, mm_fp_Fp, mm_w_N, mm_w_W, Nat.reduceEqDiff, reduceIte, if_true, if_false, mm_H_45, mm_H_46, mm_H_47, mm_H_50, mm_H_53, mm_H_54, mm_H_55, mm_H_56, mm_H_57, mm_H_58, mm_H_66, mm_H_67, mm_H_68]
          refine aw_iload_n dX5_stride_60 rfl ?_
          refine aw_imulN dX5_stride_61 ?_
          refine aw_aload_n dX5_stride_62 rfl ?_
          refine aw_iload_n dX5_stride_63 rfl ?_
          refine aw_iconst (v := -1) dX5_stride_64 rfl ?_
          refine aw_iload_n dX5_stride_65 rfl ?_
          refine mm_call dX5_stride_66 sX5_404 rfl hW hR hs (mm_countOf (s := mm_setA s 46 (mm_a s 45)) (c := 0) (by omega) hF0) rfl rfl ⟨Nat.le_of_ble_eq_true rfl, Nat.le_of_ble_eq_true rfl⟩ (Nat.le_of_ble_eq_true rfl) (fun h hR hs => ?_)
          try simp only [mm_n_N, mm_n_A, mm_n_V, mm_n_Fp, mm_n_W, mm_n_Nm, mm_a_N, mm_a_A, mm_a_V, mm_a_Fp, mm_a_W, mm_a_Nm, mm_v_N, mm_v_A, mm_v_V, mm_fp_N, mm_fp_A, mm_fp_Fp, mm_w_N, mm_w_W, Nat.reduceEqDiff, reduceIte, if_true, if_false, mm_H_45, mm_H_46, mm_H_47, mm_H_50, mm_H_53, mm_H_54, mm_H_55, mm_H_56, mm_H_57, mm_H_58, mm_H_66, mm_H_67, mm_H_68]
          refine aw_iload dX5_stride_69 rfl ?_
          refine aw_imulN dX5_stride_71 ?_
          rw [← c1, ← c2]
          refine aw_icmp_leN (tgt := 78) dX5_stride_72 (by decide) (by omega) (by omega) (fun c_72 => ?_) (fun c_72 => ?_)
          · by_cases z : c b * (k + 1) < c (k + 1) * b
            · refine AW_ls ?_ (next h (k + 1) (by rw [eS, if_pos (Or.inr z)]) hR hs)
              first
                | (exfalso; omega)
                | rfl
            · refine AW_ls ?_ (next h b (by rw [eS, if_neg (by omega)]) hR hs)
              have ez : sp_cz b = nI b := if_neg hb0
              first
                | (rw [ez]; done)
                | (rw [ez]; rfl)
                | (exfalso; omega)
          · refine aw_iload dX5_stride_75 rfl ?_
            refine aw_istore_n dX5_stride_77 (by decide) rfl rfl ?_
            by_cases z : c b * (k + 1) < c (k + 1) * b
            · refine AW_ls ?_ (next h (k + 1) (by rw [eS, if_pos (Or.inr z)]) hR hs)
              first
                | (exfalso; omega)
                | rfl
            · refine AW_ls ?_ (next h b (by rw [eS, if_neg (by omega)]) hR hs)
              have ez : sp_cz b = nI b := if_neg hb0
              first
                | (rw [ez]; done)
                | (rw [ez]; rfl)
                | (exfalso; omega)
      · have e1 : k = L := by omega
        have efin : mm_PoC G w h0 (some (.int (op_stride (mm_H s) (mm_a s 45) t nt))) s (some (.int (sp_cz (sp_str c k)))) h := ⟨by rw [fin, e1], _, mm_core.A rfl mm_core.rf, hR, hs⟩
        have efin : ∀ h, mm_R G w h (mm_setA s 46 (mm_a s 45)) → mm_same w h0 h → mm_PoC G w h0 (some (.int (op_stride (mm_H s) (mm_a s 45) t nt))) s (some (.int (sp_cz (sp_str c k)))) h := fun h hR hs => ⟨by rw [fin, e1], _, mm_core.A rfl mm_core.rf, hR, hs⟩
        refine aw_iload dX5_stride_28 rfl ?_
        refine aw_aload_n dX5_stride_30 rfl ?_
        refine aw_get dX5_stride_31 fX5_82 rfl hR.1 (by rfl) ?_
        try simp only [mm_n_N, mm_n_A, mm_n_V, mm_n_Fp, mm_n_W, mm_n_Nm, mm_a_N, mm_a_A, mm_a_V, mm_a_Fp, mm_a_W, mm_a_Nm, mm_v_N, mm_v_A, mm_v_V, mm_fp_N, mm_fp_A, mm_fp_Fp, mm_w_N, mm_w_W, Nat.reduceEqDiff, reduceIte, if_true, if_false, mm_H_45, mm_H_46, mm_H_47, mm_H_50, mm_H_53, mm_H_54, mm_H_55, mm_H_56, mm_H_57, mm_H_58, mm_H_66, mm_H_67, mm_H_68]
        refine aw_icmp_gtN (tgt := 84) dX5_stride_34 (by decide) (by omega) (by omega) (fun c_34 => ?_) (fun c_34 => ?_)
        · refine aw_iload_n dX5_stride_84 rfl ?_
          refine aw_ireturn dX5_stride_85 rfl ?_
          exact efin h hR hs
        · refine aw_iload dX5_stride_37 rfl ?_
          refine aw_aload_n dX5_stride_39 rfl ?_
          refine aw_get dX5_stride_40 fX5_88 rfl hR.1 (by rfl) ?_
          refine aw_iload_n dX5_stride_43 rfl ?_
          refine aw_ialdN dX5_stride_44 (hR.2.1 46 28 rfl) (by omega) (by decide) ?_
          try simp only [mm_n_N, mm_n_A, mm_n_V, mm_n_Fp, mm_n_W, mm_n_Nm, mm_a_N, mm_a_A, mm_a_V, mm_a_Fp, mm_a_W, mm_a_Nm, mm_v_N, mm_v_A, mm_v_V, mm_fp_N, mm_fp_A, mm_fp_Fp, mm_w_N, mm_w_W, Nat.reduceEqDiff, reduceIte, if_true, if_false, mm_H_45, mm_H_46, mm_H_47, mm_H_50, mm_H_53, mm_H_54, mm_H_55, mm_H_56, mm_H_57, mm_H_58, mm_H_66, mm_H_67, mm_H_68]
          refine aw_icmp_gtN (tgt := 84) dX5_stride_45 (by decide) (by omega) (by omega) (fun c_45 => ?_) (fun c_45 => by exfalso; omega)
          refine aw_iload_n dX5_stride_84 rfl ?_
          refine aw_ireturn dX5_stride_85 rfl ?_
          exact efin h hR hs
  refine aw_aload_n dX5_stride_0 rfl ?_
  refine aw_iload_n dX5_stride_1 rfl ?_
  refine mm_call dX5_stride_2 sX5_382 rfl hW hR hs (mm_isTenant hn) rfl rfl ⟨Nat.le_of_ble_eq_true rfl, Nat.le_of_ble_eq_true rfl⟩ (Nat.le_of_ble_eq_true rfl) (fun h hR hs => ?_)
  refine aw_if_eqB (tgt := 17) dX5_stride_5 (by decide) (fun c_5 => ?_) (fun c_5 => ?_)
  · refine aw_iconst (v := -1) dX5_stride_17 rfl ?_
    refine aw_ireturn dX5_stride_18 rfl ?_
    refine ⟨?_, _, mm_core.rf, hR, hs⟩
    rw [no (fun z => by first | exact c_5 z.1 | exact c_14 z.2)]
  · refine aw_iload_n dX5_stride_8 rfl ?_
    refine aw_iconst (v := nI 0) dX5_stride_9 rfl ?_
    refine aw_iconst (v := nI 1) dX5_stride_10 rfl ?_
    refine aw_callP (r := _) dX5_stride_11 sX5_368 rfl (mp_isIn) rfl rfl ⟨Nat.le_of_ble_eq_true rfl, Nat.le_of_ble_eq_true rfl⟩ (Nat.le_of_ble_eq_true rfl) ?_
    refine aw_if_neB (tgt := 19) dX5_stride_14 (by decide) (fun c_14 => ?_) (fun c_14 => ?_)
    · have c_14 : 0 ≤ nt.toInt ∧ nt.toInt ≤ 1 := c_14
      obtain ⟨t', ht, et, t1, t2⟩ := aw_ofN c_5.1
      obtain ⟨n', hn', en, n1, n2⟩ := aw_ofN (x := nt) c_14.1
      have ht8 : t' < 8 := by have := c_5.2; omega
      refine AW_ls (show _ = [(0, .ref w.1), (1, .int (nI t')), (2, .int (nI n'))] by rw [← et, ← en]) ?_
      refine aw_aload_n dX5_stride_19 rfl ?_
      refine mm_call dX5_stride_20 sX5_394 rfl hW hR hs (mm_load) rfl rfl ⟨Nat.le_of_ble_eq_true rfl, Nat.le_of_ble_eq_true rfl⟩ (Nat.le_of_ble_eq_true rfl) (fun h hR hs => ?_)
      refine aw_iconst (v := -1) dX5_stride_23 rfl ?_
      refine aw_istore_n dX5_stride_24 (by decide) rfl rfl ?_
      refine aw_iconst (v := nI 1) dX5_stride_25 rfl ?_
      refine aw_istore dX5_stride_26 (by decide) rfl rfl ?_
      exact loop t' n' _ _ ht8 rfl rfl (by rw [op_stride, aw_if1 ⟨c_5, c_14⟩, t2, n2]; rfl) _ 0 h rfl (Nat.zero_le _) hR hs
    · refine aw_iconst (v := -1) dX5_stride_17 rfl ?_
      refine aw_ireturn dX5_stride_18 rfl ?_
      refine ⟨?_, _, mm_core.rf, hR, hs⟩
      rw [no (fun z => by first | exact c_5 z.1 | exact c_14 z.2)]

