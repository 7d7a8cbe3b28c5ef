set_option maxRecDepth 100000
/-! the component: ladder -/
set_option maxHeartbeats 4000000 in
theorem xo_ladder {s : mm_S} {H : sp_H} {u : Nat} {t : Int32} {N : Nat} (hOK : sp_okH H) (hA : sp_okA N (mm_a s 45)) (hN : N ≤ 10000000) : xx_Op yX0_ladder cX0_ladder 5 (some .int) 603 0 0 (fun w => [.ref (w.1 0), .int (t)]) s H u (some (.int (op_ladder H (mm_a s 45) t))) (s) := by
  refine xx_Op.of (by decide +kernel) (fun _ => Nat.le_of_ble_eq_true rfl) (fun G w h0 hW hX hH => ?_)
  have hX0 := hX
  have hs : xx_same w h0 h0 := xx_same.rf
  obtain ⟨tl, te, cap, m9, f9, tn, nm9, c9, mo9, D9, hq⟩ := hH
  show AW G (aw_rm 603 0 0) yX0_ladder cX0_ladder 5 (some .int) (aw_N G (xx_PoC G w h0 (some (.int (op_ladder H (mm_a s 45) t))) (s)) 0 0) 0 0 h0 0 [(0, .ref (w.1 0)), (1, .int (t))] []
  have hs1 : 1 ≤ sp_hs H := hOK.1.1; have hs20 : sp_hs H ≤ 20 := hOK.1.2; have hn : sp_hn H ≤ 8 := hOK.2.1; have hlv : ∀ t, t < 8 → sp_lv H t ≤ 20 := fun t ht => (hOK.2.2.1 t ht).1; have hsg : ∀ t, t < 8 → sp_sg8 H t ≤ 40 := fun t ht => (hOK.2.2.1 t ht).2.1; have hhv : ∀ t, t < 8 → sp_hv H t ≤ 9 := fun t ht => (hOK.2.2.1 t ht).2.2.1; have how : ∀ t, t < 8 → sp_ow H t ≤ 999 := fun t ht => (hOK.2.2.1 t ht).2.2.2.1; have hfl : ∀ t, t < 8 → sp_fl H t ≤ 100 := fun t ht => (hOK.2.2.1 t ht).2.2.2.2
  have hb : ∀ t, t < 8 → mm_a s 45 t ≤ 40 := fun t ht => (hA.1 t ht).1; have hp : ∀ t, t < 8 → mm_a s 45 (8 + t) ≤ 9999 := fun t ht => (hA.1 t ht).2.1; have hd : ∀ t, t < 8 → mm_a s 45 (16 + t) ≤ N := fun t ht => (hA.1 t ht).2.2; have h24 : mm_a s 45 24 ≤ N := hA.2.1; have h25 : mm_a s 45 25 ≤ 20 := hA.2.2.1; have h26 : mm_a s 45 26 ≤ N := hA.2.2.2.1; have h27 : mm_a s 45 27 ≤ 999 := hA.2.2.2.2
  have e8 : ∀ b i j, sp_lT H (mm_a s 45) b i j ≤ 999 * i := fun b i j => sp_lT_le i j
  by_cases z : sp_isT H t
  · have z2 := z
    obtain ⟨t', ht, rfl, t1, t2⟩ := aw_ofN z2.1
    have ht9 : t' < sp_hn H := by have := z.2; omega
    obtain ⟨b, hb9⟩ : ∃ b, b = mm_a s 45 t' := ⟨_, rfl⟩
    have b40 : b ≤ 40 := by rw [hb9]; exact hb t' (by omega)
    have fin : op_ladder H (mm_a s 45) (nI t') = nI (sp_lT H (mm_a s 45) b (b + 1) 0) := by rw [op_ladder, aw_if1 z, t2, hb9]
    rw [fin]
    have inner : ∀ (x i : Nat) (T : Nat → Nat), i ≤ b → x = b - i → T = sp_lT H (mm_a s 45) b i → (∀ (C : Nat → Nat) (h : aw_H), XC G w h (mm_setA s 74 C) → (∀ j, x ≤ j → j ≤ b → C j = sp_lT H (mm_a s 45) b (i + 1) j) → xx_same w h0 h → AW G (aw_rm 603 0 0) yX0_ladder cX0_ladder 5 (some .int) (aw_N G (xx_PoC G w h0 (some (.int (nI (sp_lT H (mm_a s 45) b (b + 1) 0)))) (s)) 0 0) 0 0 (h) 109 [(0, .ref (w.1 0)), (1, .int (nI t')), (2, .int (nI b)), (3, .int (nI x))] []) → ∀ (m k : Nat) (C : Nat → Nat) (h : aw_H), i + 1 - k = m → 1 ≤ k → k ≤ min (sp_hs H) i + 1 → C x = sp_lmx (fun k => sp_cnt H (aw_u (mm_a s 45) 24 (mm_a s 45 24 + x)) k 0 0 + T (x + k)) (k - 1) → (∀ j, x < j → j ≤ b → C j = T j) → XC G w h (mm_setA s 74 C) → xx_same w h0 h → AW G (aw_rm 603 0 0) yX0_ladder cX0_ladder 5 (some .int) (aw_N G (xx_PoC G w h0 (some (.int (nI (sp_lT H (mm_a s 45) b (b + 1) 0)))) (s)) 0 0) 0 0 (h) 36 [(0, .ref (w.1 0)), (1, .int (nI t')), (2, .int (nI b)), (3, .int (nI x)), (4, .int (nI k))] [] := by
      intro x i T hi ex eT hgo m
      induction m using Nat.strongRecOn with
      | _ m ih =>
        intro k C h hm hk1 hk2 hC hC2 hX hs
        obtain ⟨B, eB⟩ : ∃ B, B = aw_u (mm_a s 45) 24 (mm_a s 45 24 + x) := ⟨_, rfl⟩
        have q1 : ∀ j, T j ≤ 999 * i := fun j => by rw [eT]; exact e8 b i j
        have q2 : ∀ a, sp_cnt H B a 0 0 ≤ 999 := fun a => sp_cnt_le
        rw [← eB] at hC
        have q3 : ∀ n, sp_lmx (fun k => sp_cnt H B k 0 0 + T (x + k)) n ≤ 50000 := fun n => sp_lmx_le n (fun k hk => by have := q1 (x + k); have := q2 k; omega)
        have q4 := q3 (k - 1)
        have eS : sp_lmx (fun k => sp_cnt H B k 0 0 + T (x + k)) k = if sp_lmx (fun k => sp_cnt H B k 0 0 + T (x + k)) (k - 1) < sp_cnt H B k 0 0 + T (x + k) then sp_cnt H B k 0 0 + T (x + k) else sp_lmx (fun k => sp_cnt H B k 0 0 + T (x + k)) (k - 1) := by
          obtain ⟨k', rfl⟩ : ∃ k', k = k' + 1 := ⟨k - 1, by omega⟩
          rfl
        have bx : b - x = i := by omega
        by_cases hk3 : k ≤ min (sp_hs H) i
        · have hk4 : T (x + k) = C (x + k) := (hC2 _ (by omega) (by omega)).symm
          have q5 := q1 (x + k)
          have q6 := q2 k
          have ccn : xx_Met yX1_counts cX1_counts 6 (some .int) 602 0 0 (fun w => [.ref (w.1 16), .ref (w.1 (1 + 4 * 0)), .int (nI k), .int (nI 0), .int (nI 0), .int (nI (mm_a s 45 24 + x))]) (mm_setA s 74 C) H u (some (.int (nI (sp_cnt H B k 0 0)))) (mm_setA s 74 C) := (xh_cnt (s := mm_setA s 74 C) (i := 0) (a := k) (b := 0) (n := 0) (k := mm_a s 45 24 + x) (by decide) (by omega)).eqv (by rw [eB]; rfl) rfl
          refine aw_iload dX0_ladder_36 rfl ?_
          refine aw_aload_n dX0_ladder_38 rfl ?_
          refine aw_get dX0_ladder_39 fX0_19 rfl (hX.1 0 (by decide)) (by rfl) ?_
          refine aw_get dX0_ladder_42 fX0_208 rfl (hq.mv hs hX0).1 (by rfl) ?_
          try simp only [mm_n_N, mm_n_A, mm_n_V, mm_n_Fp, mm_n_W, mm_n_Nm, mm_a_N, mm_a_A, mm_a_V, mm_a_Fp, mm_a_W, mm_a_Nm, mm_v_N, mm_v_A, mm_v_V, mm_fp_N, mm_fp_A, mm_fp_Fp, mm_w_N, mm_w_W, Nat.reduceEqDiff, reduceIte, if_true, if_false, mm_H_45, mm_H_46, mm_H_47, mm_H_50, mm_H_53, mm_H_54, mm_H_55, mm_H_56, mm_H_57, mm_H_58, mm_H_66, mm_H_67, mm_H_68, eq_self]
          refine aw_iload_n dX0_ladder_45 rfl ?_
          refine aw_iload_n dX0_ladder_46 rfl ?_
          refine aw_isubN dX0_ladder_47 (by omega) ?_
          refine aw_mminN dX0_ladder_48 q951 (by omega) (by omega) (Nat.le_of_ble_eq_true rfl) (Nat.le_of_ble_eq_true rfl) (Nat.le_of_ble_eq_true rfl) ?_
          refine aw_icmp_gtN (tgt := 109) dX0_ladder_51 (by decide) (by omega) (by omega) (fun c_51 => by exfalso; omega) (fun c_51 => ?_)
          refine aw_aload_n dX0_ladder_54 rfl ?_
          refine aw_get dX0_ladder_55 fX0_70 rfl (hX.1 0 (by decide)) (by rfl) ?_
          refine aw_iload_n dX0_ladder_58 rfl ?_
          refine aw_aload_n dX0_ladder_59 rfl ?_
          refine aw_get dX0_ladder_60 fX0_70 rfl (hX.1 0 (by decide)) (by rfl) ?_
          refine aw_iload_n dX0_ladder_63 rfl ?_
          refine xx_ialdA (c := 14) dX0_ladder_64 hX rfl (by omega) ?_
          try simp only [mm_n_N, mm_n_A, mm_n_V, mm_n_Fp, mm_n_W, mm_n_Nm, mm_a_N, mm_a_A, mm_a_V, mm_a_Fp, mm_a_W, mm_a_Nm, mm_v_N, mm_v_A, mm_v_V, mm_fp_N, mm_fp_A, mm_fp_Fp, mm_w_N, mm_w_W, Nat.reduceEqDiff, reduceIte, if_true, if_false, mm_H_45, mm_H_46, mm_H_47, mm_H_50, mm_H_53, mm_H_54, mm_H_55, mm_H_56, mm_H_57, mm_H_58, mm_H_66, mm_H_67, mm_H_68, eq_self]
          refine aw_aload_n dX0_ladder_65 rfl ?_
          refine aw_get dX0_ladder_66 fX0_19 rfl (hX.1 0 (by decide)) (by rfl) ?_
          refine aw_aload_n dX0_ladder_69 rfl ?_
          refine aw_get dX0_ladder_70 fX0_28 rfl (hX.1 0 (by decide)) (by rfl) ?_
          refine aw_iload dX0_ladder_73 rfl ?_
          refine aw_iconst (v := nI 0) dX0_ladder_75 rfl ?_
          refine aw_iconst (v := nI 0) dX0_ladder_76 rfl ?_
          refine aw_aload_n dX0_ladder_77 rfl ?_
          refine aw_get dX0_ladder_78 fX0_28 rfl (hX.1 0 (by decide)) (by rfl) ?_
          refine aw_get dX0_ladder_81 fX0_113 rfl (hX.st (i := 0) (by decide)) (by rfl) ?_
          try simp only [Nat.reduceMul, Nat.reduceAdd, Nat.zero_add]
          try simp only [mm_n_N, mm_n_A, mm_n_V, mm_n_Fp, mm_n_W, mm_n_Nm, mm_a_N, mm_a_A, mm_a_V, mm_a_Fp, mm_a_W, mm_a_Nm, mm_v_N, mm_v_A, mm_v_V, mm_fp_N, mm_fp_A, mm_fp_Fp, mm_w_N, mm_w_W, Nat.reduceEqDiff, reduceIte, if_true, if_false, mm_H_45, mm_H_46, mm_H_47, mm_H_50, mm_H_53, mm_H_54, mm_H_55, mm_H_56, mm_H_57, mm_H_58, mm_H_66, mm_H_67, mm_H_68, eq_self]
          refine aw_iload_n dX0_ladder_84 rfl ?_
          refine aw_iaddN dX0_ladder_85 ?_
          refine xx_call0 dX0_ladder_86 sX0_220 rfl hW hX (hq.mv hs hX0).xh hs ccn rfl (hq.mv hs hX0).1 rfl rfl ⟨Nat.le_of_ble_eq_true rfl, Nat.le_of_ble_eq_true rfl⟩ (by exact Nat.le_of_ble_eq_true rfl) (fun h hX hs => ?_)
          try simp only [mm_n_N, mm_n_A, mm_n_V, mm_n_Fp, mm_n_W, mm_n_Nm, mm_a_N, mm_a_A, mm_a_V, mm_a_Fp, mm_a_W, mm_a_Nm, mm_v_N, mm_v_A, mm_v_V, mm_fp_N, mm_fp_A, mm_fp_Fp, mm_w_N, mm_w_W, Nat.reduceEqDiff, reduceIte, if_true, if_false, mm_H_45, mm_H_46, mm_H_47, mm_H_50, mm_H_53, mm_H_54, mm_H_55, mm_H_56, mm_H_57, mm_H_58, mm_H_66, mm_H_67, mm_H_68, eq_self]
          refine aw_aload_n dX0_ladder_89 rfl ?_
          refine aw_get dX0_ladder_90 fX0_70 rfl (hX.1 0 (by decide)) (by rfl) ?_
          refine aw_iload_n dX0_ladder_93 rfl ?_
          refine aw_iload dX0_ladder_94 rfl ?_
          refine aw_iaddN dX0_ladder_96 ?_
          refine xx_ialdA (c := 14) dX0_ladder_97 hX rfl (by omega) ?_
          try simp only [mm_n_N, mm_n_A, mm_n_V, mm_n_Fp, mm_n_W, mm_n_Nm, mm_a_N, mm_a_A, mm_a_V, mm_a_Fp, mm_a_W, mm_a_Nm, mm_v_N, mm_v_A, mm_v_V, mm_fp_N, mm_fp_A, mm_fp_Fp, mm_w_N, mm_w_W, Nat.reduceEqDiff, reduceIte, if_true, if_false, mm_H_45, mm_H_46, mm_H_47, mm_H_50, mm_H_53, mm_H_54, mm_H_55, mm_H_56, mm_H_57, mm_H_58, mm_H_66, mm_H_67, mm_H_68, eq_self]
          refine aw_iaddN dX0_ladder_98 ?_
          refine aw_mmaxN dX0_ladder_99 q952 (by omega) (by omega) (Nat.le_of_ble_eq_true rfl) (Nat.le_of_ble_eq_true rfl) (Nat.le_of_ble_eq_true rfl) ?_
          refine xx_stA (c := 14) hW hX hs dX0_ladder_102 rfl (by omega) (fun h hX hs => ?_)
          have hX : XC G w h (mm_setA s 74 (aw_u C x (max (C x) (sp_cnt H B k 0 0 + C (x + k))))) := xx_AU hX rfl
          refine aw_iincN (b := 1) dX0_ladder_103 rfl rfl (by decide) rfl rfl ?_
          refine aw_goto (tgt := 36) dX0_ladder_106 (by decide) ?_
          refine ih (i + 1 - (k + 1)) (by omega) (k + 1) _ h rfl (by omega) (by omega) ?_ (fun j j1 j2 => by rw [aw_u_n (by omega)]; exact hC2 j j1 j2) hX hs
          rw [aw_u_s, ← eB, Nat.add_sub_cancel, eS, hC, hk4]
          split <;> omega
        ·
          refine aw_iload dX0_ladder_36 rfl ?_
          refine aw_aload_n dX0_ladder_38 rfl ?_
          refine aw_get dX0_ladder_39 fX0_19 rfl (hX.1 0 (by decide)) (by rfl) ?_
          refine aw_get dX0_ladder_42 fX0_208 rfl (hq.mv hs hX0).1 (by rfl) ?_
          try simp only [mm_n_N, mm_n_A, mm_n_V, mm_n_Fp, mm_n_W, mm_n_Nm, mm_a_N, mm_a_A, mm_a_V, mm_a_Fp, mm_a_W, mm_a_Nm, mm_v_N, mm_v_A, mm_v_V, mm_fp_N, mm_fp_A, mm_fp_Fp, mm_w_N, mm_w_W, Nat.reduceEqDiff, reduceIte, if_true, if_false, mm_H_45, mm_H_46, mm_H_47, mm_H_50, mm_H_53, mm_H_54, mm_H_55, mm_H_56, mm_H_57, mm_H_58, mm_H_66, mm_H_67, mm_H_68, eq_self]
          refine aw_iload_n dX0_ladder_45 rfl ?_
          refine aw_iload_n dX0_ladder_46 rfl ?_
          refine aw_isubN dX0_ladder_47 (by omega) ?_
          refine aw_mminN dX0_ladder_48 q951 (by omega) (by omega) (Nat.le_of_ble_eq_true rfl) (Nat.le_of_ble_eq_true rfl) (Nat.le_of_ble_eq_true rfl) ?_
          refine aw_icmp_gtN (tgt := 109) dX0_ladder_51 (by decide) (by omega) (by omega) (fun c_51 => ?_) (fun c_51 => by exfalso; omega)
          refine AW_dr (hgo C h hX (fun j j1 j2 => ?_) hs)
          show _ = aw_u _ _ _ j
          by_cases e : j = x
          · rw [e, hC, show k - 1 = min (sp_hs H) i by omega, ← eT, ← ex, aw_u_s, ← eB]
          · rw [hC2 j (by omega) j2, aw_u_n (by omega), eT]
    have outer : ∀ (m i : Nat) (C : Nat → Nat) (h : aw_H), b - i = m → i ≤ b → (∀ j, b - i < j → j ≤ b → C j = sp_lT H (mm_a s 45) b i j) → XC G w h (mm_setA s 74 C) → xx_same w h0 h → AW G (aw_rm 603 0 0) yX0_ladder cX0_ladder 5 (some .int) (aw_N G (xx_PoC G w h0 (some (.int (nI (sp_lT H (mm_a s 45) b (b + 1) 0)))) (s)) 0 0) 0 0 (h) 22 [(0, .ref (w.1 0)), (1, .int (nI t')), (2, .int (nI b)), (3, .int (nI (b - i)))] [] := by
      intro m
      induction m using Nat.strongRecOn with
      | _ m ih =>
        intro i C h hm hi hC hX hs
        have next : ∀ (C : Nat → Nat) (h : aw_H), XC G w h (mm_setA s 74 C) → (∀ j, b - i ≤ j → j ≤ b → C j = sp_lT H (mm_a s 45) b (i + 1) j) → xx_same w h0 h → AW G (aw_rm 603 0 0) yX0_ladder cX0_ladder 5 (some .int) (aw_N G (xx_PoC G w h0 (some (.int (nI (sp_lT H (mm_a s 45) b (b + 1) 0)))) (s)) 0 0) 0 0 (h) 109 [(0, .ref (w.1 0)), (1, .int (nI t')), (2, .int (nI b)), (3, .int (nI (b - i)))] [] := by
          intro C h hX hC hs
          by_cases hi9 : i < b
          · have eq : b - i - 1 = b - (i + 1) := by omega
            refine aw_iincM dX0_ladder_109 rfl (by omega) (by decide) rfl rfl ?_
            refine aw_goto (tgt := 22) dX0_ladder_112 (by decide) ?_
            refine AW_ls ?_ (ih (b - (i + 1)) (by omega) (i + 1) C h rfl (by omega) (fun j j1 j2 => hC j (by omega) j2) hX hs)
            rw [eq]
            rfl
          · have ei : i = b := by omega
            rw [show b - i = 0 by omega] at hC ⊢
            refine aw_iinc (v := -1) dX0_ladder_109 rfl rfl (by decide) rfl rfl ?_
            refine aw_goto (tgt := 22) dX0_ladder_112 (by decide) ?_
            refine aw_iload_n dX0_ladder_22 rfl ?_
            refine aw_if_lt (tgt := 115) dX0_ladder_23 (by decide) (fun c_23 => ?_) (fun c_23 => by exfalso; exact c_23 (by decide))
            refine aw_aload_n dX0_ladder_115 rfl ?_
            refine aw_get dX0_ladder_116 fX0_70 rfl (hX.1 0 (by decide)) (by rfl) ?_
            refine aw_iconst (v := nI 0) dX0_ladder_119 rfl ?_
            refine xx_ialdA (c := 14) dX0_ladder_120 hX rfl (by omega) ?_
            try simp only [mm_n_N, mm_n_A, mm_n_V, mm_n_Fp, mm_n_W, mm_n_Nm, mm_a_N, mm_a_A, mm_a_V, mm_a_Fp, mm_a_W, mm_a_Nm, mm_v_N, mm_v_A, mm_v_V, mm_fp_N, mm_fp_A, mm_fp_Fp, mm_w_N, mm_w_W, Nat.reduceEqDiff, reduceIte, if_true, if_false, mm_H_45, mm_H_46, mm_H_47, mm_H_50, mm_H_53, mm_H_54, mm_H_55, mm_H_56, mm_H_57, mm_H_58, mm_H_66, mm_H_67, mm_H_68, eq_self]
            refine aw_ireturn dX0_ladder_121 rfl ?_
            refine ⟨?_, _, mm_core.A rfl mm_core.rf, hX, hs⟩
            rw [hC 0 (Nat.le_refl _) (Nat.zero_le _), ei]
        refine aw_iload_n dX0_ladder_22 rfl ?_
        refine aw_if_ltN (tgt := 115) dX0_ladder_23 (by decide) (by omega) ?_
        refine aw_aload_n dX0_ladder_26 rfl ?_
        refine aw_get dX0_ladder_27 fX0_70 rfl (hX.1 0 (by decide)) (by rfl) ?_
        refine aw_iload_n dX0_ladder_30 rfl ?_
        refine aw_iconst (v := nI 0) dX0_ladder_31 rfl ?_
        refine xx_stA (c := 14) hW hX hs dX0_ladder_32 rfl (by omega) (fun h hX hs => ?_)
        have hX : XC G w h (mm_setA s 74 (aw_u C (b - i) 0)) := xx_AU hX rfl
        refine aw_iconst (v := nI 1) dX0_ladder_33 rfl ?_
        refine aw_istore dX0_ladder_34 (by decide) rfl rfl ?_
        refine inner (b - i) i _ hi rfl rfl next _ 1 _ h rfl (Nat.le_refl _) (by omega) ?_ (fun j j1 j2 => ?_) hX hs
        · rw [aw_u_s]; rfl
        · rw [aw_u_n (by omega), hC j j1 j2]
    refine aw_aload_n dX0_ladder_0 rfl ?_
    refine aw_iload_n dX0_ladder_1 rfl ?_
    refine xx_call0 dX0_ladder_2 sX0_188 rfl hW hX (hq.mv hs hX0).xh hs (xo_isT hn) rfl (hX.1 0 (by decide)) rfl rfl ⟨Nat.le_of_ble_eq_true rfl, Nat.le_of_ble_eq_true rfl⟩ (by exact Nat.le_of_ble_eq_true rfl) (fun h hX hs => ?_)
    refine aw_if_neB (tgt := 10) dX0_ladder_5 (by decide) (fun c_5 => ?_) (fun c_5 => by exfalso; exact c_5 z)
    refine aw_aload_n dX0_ladder_10 rfl ?_
    refine aw_get dX0_ladder_11 fX0_28 rfl (hX.1 0 (by decide)) (by rfl) ?_
    refine aw_get dX0_ladder_14 fX0_88 rfl (hX.st (i := 0) (by decide)) (by rfl) ?_
    refine aw_iload_n dX0_ladder_17 rfl ?_
    refine xx_ialdS (i := 0) (b := 0) dX0_ladder_18 hX (by decide) (by decide) (by omega) ?_
    try simp only [Nat.reduceMul, Nat.reduceAdd, Nat.zero_add]
    refine aw_istore_n dX0_ladder_19 (by decide) rfl rfl ?_
    refine aw_iload_n dX0_ladder_20 rfl ?_
    refine aw_istore_n dX0_ladder_21 (by decide) rfl rfl ?_
    refine AW_ls ?_ (outer b 0 (mm_a s 74) h rfl (Nat.zero_le _) (fun j j1 j2 => by omega) (hX.eqv (mm_A_self s 74).symm) hs)
    rw [← hb9]
    rfl
  ·
    refine aw_aload_n dX0_ladder_0 rfl ?_
    refine aw_iload_n dX0_ladder_1 rfl ?_
    refine xx_call0 dX0_ladder_2 sX0_188 rfl hW hX (hq.mv hs hX0).xh hs (xo_isT hn) rfl (hX.1 0 (by decide)) rfl rfl ⟨Nat.le_of_ble_eq_true rfl, Nat.le_of_ble_eq_true rfl⟩ (by exact Nat.le_of_ble_eq_true rfl) (fun h hX hs => ?_)
    refine aw_if_neB (tgt := 10) dX0_ladder_5 (by decide) (fun c_5 => by exfalso; exact z c_5) (fun c_5 => ?_)
    refine aw_iconst (v := -1) dX0_ladder_8 rfl ?_
    refine aw_ireturn dX0_ladder_9 rfl ?_
    exact ⟨by rw [op_ladder, aw_if0 z], _, mm_core.rf, hX, hs⟩

