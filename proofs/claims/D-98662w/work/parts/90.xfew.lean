set_option maxRecDepth 100000
/-! the component: the fewest climbs -/
theorem sp_pok0 {H : sp_H} {A : Nat → Nat} {t : Nat} : sp_pok H A t 0 0 = decide (sp_lack H A t = 0) := by
  unfold sp_pok
  rw [show sp_sum (sp_dig (sp_hs H) 0 0) 0 = 0 from rfl, decide_eq_true (Nat.zero_le _), Bool.true_and]
  rfl
theorem sp_fw0 {H : sp_H} {A : Nat → Nat} {t : Nat} : decide ((sp_fw H A t 0 (sp_hs H ^ 0)).1 ≠ 0) = decide (sp_lack H A t = 0) := by
  rw [Nat.pow_zero]
  have e : sp_fw H A t 0 1 = if sp_pok H A t 0 0 = true ∧ 0 < 1000000 then (1, 0) else (0, 1000000) := rfl
  rw [e, sp_pok0]
  by_cases z : sp_lack H A t = 0
  · rw [if_pos ⟨decide_eq_true z, by decide⟩, decide_eq_true z]; rfl
  · rw [if_neg (fun q => z (of_decide_eq_true q.1)), decide_eq_false z]; rfl
set_option maxHeartbeats 4000000 in
theorem xo_fewest {s : mm_S} {H : sp_H} {u : Nat} {t : Int32} {N : Nat} (hOK : sp_okH H) (hA : sp_okA N (mm_a s 45)) (hN : N ≤ 10000000) (eH : mm_H s = H) : xx_Op yX0_fewest cX0_fewest 3 (some .int) 609 0 0 (fun w => [.ref (w.1 0), .int (t)]) s H u (some (.int (op_fewest H (mm_a s 45) t))) (op_fewestS s t) := by
  refine xx_Op.of (by decide +kernel) (fun _ => Nat.le_of_ble_eq_true rfl) (fun G w h0 hW hX hH => ?_)
  have hX0 := hX
  have hs : xx_same w h0 h0 := xx_same.rf
  obtain ⟨tl, te, cap, m9, f9, tn, nm9, c9, mo9, D9, hq⟩ := hH
  show AW G (aw_rm 609 0 0) yX0_fewest cX0_fewest 3 (some .int) (aw_N G (xx_PoC G w h0 (some (.int (op_fewest H (mm_a s 45) t))) (op_fewestS s t)) 0 0) 0 0 h0 0 [(0, .ref (w.1 0)), (1, .int (t))] []
  have hs1 : 1 ≤ sp_hs H := hOK.1.1; have hs20 : sp_hs H ≤ 20 := hOK.1.2; have hn : sp_hn H ≤ 8 := hOK.2.1; have hlv : ∀ t, t < 8 → sp_lv H t ≤ 20 := fun t ht => (hOK.2.2.1 t ht).1; have hsg : ∀ t, t < 8 → sp_sg8 H t ≤ 40 := fun t ht => (hOK.2.2.1 t ht).2.1; have hhv : ∀ t, t < 8 → sp_hv H t ≤ 9 := fun t ht => (hOK.2.2.1 t ht).2.2.1; have how : ∀ t, t < 8 → sp_ow H t ≤ 999 := fun t ht => (hOK.2.2.1 t ht).2.2.2.1; have hfl : ∀ t, t < 8 → sp_fl H t ≤ 100 := fun t ht => (hOK.2.2.1 t ht).2.2.2.2
  have hb : ∀ t, t < 8 → mm_a s 45 t ≤ 40 := fun t ht => (hA.1 t ht).1; have hp : ∀ t, t < 8 → mm_a s 45 (8 + t) ≤ 9999 := fun t ht => (hA.1 t ht).2.1; have hd : ∀ t, t < 8 → mm_a s 45 (16 + t) ≤ N := fun t ht => (hA.1 t ht).2.2; have h24 : mm_a s 45 24 ≤ N := hA.2.1; have h25 : mm_a s 45 25 ≤ 20 := hA.2.2.1; have h26 : mm_a s 45 26 ≤ N := hA.2.2.2.1; have h27 : mm_a s 45 27 ≤ 999 := hA.2.2.2.2
  by_cases z : sp_isT H t
  · have z2 := z
    obtain ⟨t', ht, rfl, t1, t2⟩ := aw_ofN z2.1
    have ht9 : t' < sp_hn H := by have := z.2; omega
    have fin : op_fewest H (mm_a s 45) (nI t') = sp_cv (sp_fwn H (mm_a s 45) t') := by rw [op_fewest, aw_if1 z, t2]
    have finS : op_fewestS s (nI t') = mm_fwS s t' := by rw [op_fewestS, eH, aw_if1 z, t2]
    rw [fin, finS]
    have e41 : mm_n s 41 = sp_hs H := by rw [← eH]; rfl
    have eS : ∀ n, sp_fwn H (mm_a s 45) t' = n + 1 → mm_fwS s t' = mm_setN (mm_setV s 51 (fun j => if j < n then nI (sp_dig (sp_hs H) n ((sp_fw H (mm_a s 45) t' n (sp_hs H ^ n)).1 - 1) j) else mm_v s 51 j)) 52 n := fun n e => by
      unfold mm_fwS
      rw [eH, e, e41, if_neg (Nat.succ_ne_zero n), Nat.add_sub_cancel]
    have eS0 : sp_fwn H (mm_a s 45) t' = 0 → mm_fwS s t' = mm_setN s 52 0 := fun e => by
      unfold mm_fwS
      rw [eH, e, if_pos rfl]
    have bt := hb t' (by omega)
    have pt := hp t' (by omega)
    have dt := hd t' (by omega)
    have ot := how t' (by omega)
    by_cases zl : sp_lack H (mm_a s 45) t' = 0
    · have e1 : sp_fwn H (mm_a s 45) t' = 0 + 1 := sp_fst_yes (by decide) (fun j hj => absurd hj (Nat.not_lt_zero _)) (sp_fw0.trans (decide_eq_true zl))
      refine aw_aload_n dX0_fewest_0 rfl ?_
      refine aw_iconst (v := nI 0) dX0_fewest_1 rfl ?_
      refine xx_put0 (k := 52) hW hX hs dX0_fewest_2 (pX0_132 _) rfl rfl (by decide) (by decide) (by decide) rfl (fun h hX hs => ?_)
      refine aw_aload_n dX0_fewest_5 rfl ?_
      refine aw_iload_n dX0_fewest_6 rfl ?_
      refine xx_call0 dX0_fewest_7 sX0_188 rfl hW hX (hq.mv hs hX0).xh hs (xo_isT hn) rfl (hX.1 0 (by decide)) rfl rfl ⟨Nat.le_of_ble_eq_true rfl, Nat.le_of_ble_eq_true rfl⟩ (by exact Nat.le_of_ble_eq_true rfl) (fun h hX hs => ?_)
      try simp only [mm_n_N, mm_n_A, mm_n_V, mm_n_Fp, mm_n_W, mm_n_Nm, mm_a_N, mm_a_A, mm_a_V, mm_a_Fp, mm_a_W, mm_a_Nm, mm_v_N, mm_v_A, mm_v_V, mm_fp_N, mm_fp_A, mm_fp_Fp, mm_w_N, mm_w_W, Nat.reduceEqDiff, reduceIte, if_true, if_false, mm_H_45, mm_H_46, mm_H_47, mm_H_50, mm_H_53, mm_H_54, mm_H_55, mm_H_56, mm_H_57, mm_H_58, mm_H_66, mm_H_67, mm_H_68, eq_self]
      refine aw_if_neB (tgt := 15) dX0_fewest_10 (by decide) (fun c_10 => ?_) (fun c_10 => by exfalso; exact c_10 z)
      refine aw_aload_n dX0_fewest_15 rfl ?_
      refine aw_iload_n dX0_fewest_16 rfl ?_
      refine xx_call0 dX0_fewest_17 sX0_204 rfl hW hX (hq.mv hs hX0).xh hs (xo_lack hOK hA hN ht9) rfl (hX.1 0 (by decide)) rfl rfl ⟨Nat.le_of_ble_eq_true rfl, Nat.le_of_ble_eq_true rfl⟩ (by exact Nat.le_of_ble_eq_true rfl) (fun h hX hs => ?_)
      try simp only [mm_n_N, mm_n_A, mm_n_V, mm_n_Fp, mm_n_W, mm_n_Nm, mm_a_N, mm_a_A, mm_a_V, mm_a_Fp, mm_a_W, mm_a_Nm, mm_v_N, mm_v_A, mm_v_V, mm_fp_N, mm_fp_A, mm_fp_Fp, mm_w_N, mm_w_W, Nat.reduceEqDiff, reduceIte, if_true, if_false, mm_H_45, mm_H_46, mm_H_47, mm_H_50, mm_H_53, mm_H_54, mm_H_55, mm_H_56, mm_H_57, mm_H_58, mm_H_66, mm_H_67, mm_H_68, eq_self]
      refine aw_if_neN (tgt := 25) dX0_fewest_20 (by decide) (by omega) (fun c_20 => by exfalso; omega) (fun c_20 => ?_)
      refine aw_iconst (v := nI 0) dX0_fewest_23 rfl ?_
      refine aw_ireturn dX0_fewest_24 rfl ?_
      refine ⟨by rw [e1]; rfl, _, ?_, hX, hs⟩
      rw [eS 0 e1]
      refine ⟨fun k hk => rfl, rfl, fun k hk => rfl, fun k hk => ?_⟩
      show (if k = 51 then (fun j => if j < 0 then _ else mm_v s 51 j) else mm_v s k) = mm_v s k
      split
      · rename_i e; subst e; funext j; exact if_neg (Nat.not_lt_zero _)
      · rfl
    · have f0 : decide ((sp_fw H (mm_a s 45) t' 0 (sp_hs H ^ 0)).1 ≠ 0) = false := sp_fw0.trans (decide_eq_false zl)
      have lle : sp_lack H (mm_a s 45) t' ≤ sp_ow H t' + mm_a s 45 (16 + t') := Nat.sub_le _ _
      have ed : mm_a s 45 (8 + t') + sp_lack H (mm_a s 45) t' = sp_due H (mm_a s 45) t' := by
        unfold sp_lack at zl ⊢
        omega
      have loop : ∀ (m n : Nat) (σ : mm_S) (h : aw_H), 4 - n = m → n ≤ 4 → (∀ j, j < n + 1 → decide ((sp_fw H (mm_a s 45) t' j (sp_hs H ^ j)).1 ≠ 0) = false) → mm_core (mm_setN (mm_setV s 51 (mm_v σ 51)) 52 (mm_n σ 52)) σ → mm_n σ 52 = 0 → mm_v σ 51 = mm_v s 51 → sp_gI (mm_a s 45) σ → XC G w h σ → xx_same w h0 h → AW G (aw_rm 609 0 0) yX0_fewest cX0_fewest 3 (some .int) (aw_N G (xx_PoC G w h0 (some (.int (sp_cv (sp_fwn H (mm_a s 45) t')))) (mm_fwS s t')) 0 0) 0 0 (h) 32 [(0, .ref (w.1 0)), (1, .int (nI t')), (2, .int (nI (n + 1)))] [] := by
        intro m
        induction m using Nat.strongRecOn with
        | _ m ih =>
          intro n σ h hm hn4 hno hK h52 h51 hG hX hs
          by_cases hn9 : n < 4
          · have e45 : mm_a σ 45 = mm_a s 45 := hG.1
            have clk := (xo_lack (s := σ) (u := u) hOK (by rw [e45]; exact hA) hN ht9)
            rw [e45] at clk
            have cal := xo_gc (H := H) (u := u) (A := mm_a s 45) (n := n + 1) (due := mm_a s 45 (8 + t') + sp_lack H (mm_a s 45) t') hOK (by omega) (by omega) (n + 1) (mm_a s 45 24) (mm_a s 45 (8 + t')) (mm_a s 45 t') σ (Nat.le_refl _) (by omega) (by omega) (by omega) hG
            have i0 : sp_fI H (mm_a s 45) t' (n + 1) s (0 * sp_hs H ^ (n + 1)) σ := by
              rw [Nat.zero_mul]
              exact ⟨hK, fun _ => ⟨h52, h51⟩, fun q => absurd rfl q⟩
            have fi := (sp_gc_fw (s0 := s) (A := mm_a s 45) (t := t') (n := n + 1) (due := mm_a s 45 (8 + t') + sp_lack H (mm_a s 45) t') hs1 (by omega) (by omega) ed bt (n + 1) 0 0 (mm_a s 45 24) (mm_a s 45 (8 + t')) (mm_a s 45 t') σ (Nat.zero_add _) (Nat.zero_le _) rfl rfl rfl (fun j hj => absurd hj (Nat.not_lt_zero _)) i0).1
            rw [Nat.zero_add, Nat.one_mul] at fi
            have gi := sp_gc_I (H := H) (A := mm_a s 45) (n := n + 1) (due := mm_a s 45 (8 + t') + sp_lack H (mm_a s 45) t') hs20 (by omega) (n + 1) (mm_a s 45 24) (mm_a s 45 (8 + t')) (mm_a s 45 t') σ (by omega) hG
            generalize hσ : sp_gc H (mm_a s 45) (n + 1) (mm_a s 45 (8 + t') + sp_lack H (mm_a s 45) t') (n + 1) (mm_a s 45 24) (mm_a s 45 (8 + t')) (mm_a s 45 t') σ = σ' at cal fi gi
            have g52 := gi.2.2
            refine aw_iload_n dX0_fewest_32 rfl ?_
            refine aw_iconst (v := nI 4) dX0_fewest_33 rfl ?_
            refine aw_icmp_gtN (tgt := 98) dX0_fewest_34 (by decide) (by omega) (by omega) (fun c_34 => by exfalso; omega) (fun c_34 => ?_)
            refine aw_aload_n dX0_fewest_37 rfl ?_
            refine aw_iload_n dX0_fewest_38 rfl ?_
            refine aw_iload_n dX0_fewest_39 rfl ?_
            refine aw_aload_n dX0_fewest_40 rfl ?_
            refine aw_get dX0_fewest_41 fX0_28 rfl (hX.1 0 (by decide)) (by rfl) ?_
            refine aw_get dX0_fewest_44 fX0_113 rfl (hX.st (i := 0) (by decide)) (by rfl) ?_
            try simp only [Nat.reduceMul, Nat.reduceAdd, Nat.zero_add]
            rw [e45]
            refine aw_aload_n dX0_fewest_47 rfl ?_
            refine aw_get dX0_fewest_48 fX0_28 rfl (hX.1 0 (by decide)) (by rfl) ?_
            refine aw_get dX0_fewest_51 fX0_107 rfl (hX.st (i := 0) (by decide)) (by rfl) ?_
            refine aw_iload_n dX0_fewest_54 rfl ?_
            refine xx_ialdS (i := 0) (b := 1) dX0_fewest_55 hX (by decide) (by decide) (by omega) ?_
            try simp only [Nat.reduceMul, Nat.reduceAdd, Nat.zero_add]
            rw [e45]
            refine aw_aload_n dX0_fewest_56 rfl ?_
            refine aw_get dX0_fewest_57 fX0_28 rfl (hX.1 0 (by decide)) (by rfl) ?_
            refine aw_get dX0_fewest_60 fX0_107 rfl (hX.st (i := 0) (by decide)) (by rfl) ?_
            refine aw_iload_n dX0_fewest_63 rfl ?_
            refine xx_ialdS (i := 0) (b := 1) dX0_fewest_64 hX (by decide) (by decide) (by omega) ?_
            try simp only [Nat.reduceMul, Nat.reduceAdd, Nat.zero_add]
            rw [e45]
            refine aw_aload_n dX0_fewest_65 rfl ?_
            refine aw_iload_n dX0_fewest_66 rfl ?_
            refine xx_call0 dX0_fewest_67 sX0_204 rfl hW hX (hq.mv hs hX0).xh hs clk rfl (hX.1 0 (by decide)) rfl rfl ⟨Nat.le_of_ble_eq_true rfl, Nat.le_of_ble_eq_true rfl⟩ (by exact Nat.le_of_ble_eq_true rfl) (fun h hX hs => ?_)
            refine aw_iaddN dX0_fewest_70 ?_
            refine aw_aload_n dX0_fewest_71 rfl ?_
            refine aw_get dX0_fewest_72 fX0_28 rfl (hX.1 0 (by decide)) (by rfl) ?_
            refine aw_get dX0_fewest_75 fX0_88 rfl (hX.st (i := 0) (by decide)) (by rfl) ?_
            refine aw_iload_n dX0_fewest_78 rfl ?_
            refine xx_ialdS (i := 0) (b := 0) dX0_fewest_79 hX (by decide) (by decide) (by omega) ?_
            try simp only [Nat.reduceMul, Nat.reduceAdd, Nat.zero_add]
            rw [e45]
            refine xx_call0 dX0_fewest_80 sX0_248 rfl hW hX (hq.mv hs hX0).xh hs cal rfl (hX.1 0 (by decide)) rfl rfl ⟨by show 603 + (n + 1) + 1 ≤ 609; omega, by show _ ≤ 64 * 609; omega⟩ (by exact Nat.le_of_ble_eq_true rfl) (fun h hX hs => ?_)
            refine aw_aload_n dX0_fewest_83 rfl ?_
            refine aw_get dX0_fewest_84 fX0_132 rfl (hX.1 0 (by decide)) (by rfl) ?_
            refine aw_if_leN (tgt := 92) dX0_fewest_87 (by decide) (by omega) (fun c_87 => ?_) (fun c_87 => ?_)
            · refine aw_iincN (b := 1) dX0_fewest_92 rfl rfl (by decide) rfl rfl ?_
              refine aw_goto (tgt := 32) dX0_fewest_95 (by decide) ?_
              have fz : (sp_fw H (mm_a s 45) t' (n + 1) (sp_hs H ^ (n + 1))).1 = 0 := Classical.byContradiction fun q => by have := (fi.2.2 q).1; omega
              refine ih (4 - (n + 1)) (by omega) (n + 1) σ' h rfl (by omega) (fun j hj => ?_) fi.1 (fi.2.1 fz).1 (fi.2.1 fz).2 gi hX hs
              by_cases e : j = n + 1
              · subst e; exact decide_eq_false (fun q => q fz)
              · exact hno j (by omega)
            · refine aw_iload_n dX0_fewest_90 rfl ?_
              refine aw_ireturn dX0_fewest_91 rfl ?_
              have fz : (sp_fw H (mm_a s 45) t' (n + 1) (sp_hs H ^ (n + 1))).1 ≠ 0 := fun q => by have := (fi.2.1 q).1; omega
              have ef : sp_fwn H (mm_a s 45) t' = (n + 1) + 1 := sp_fst_yes (by omega) hno (decide_eq_true fz)
              refine ⟨by rw [ef, sp_cv_s], σ', ?_, hX, hs⟩
              rw [eS _ ef]
              have fc := fi.1
              rw [(fi.2.2 fz).1, (fi.2.2 fz).2.2] at fc
              exact fc
          · obtain rfl : n = 4 := by omega
            refine aw_iload_n dX0_fewest_32 rfl ?_
            refine aw_iconst (v := nI 4) dX0_fewest_33 rfl ?_
            refine aw_icmp_gtN (tgt := 98) dX0_fewest_34 (by decide) (by omega) (by omega) (fun c_34 => ?_) (fun c_34 => by exfalso; omega)
            refine aw_iconst (v := -1) dX0_fewest_98 rfl ?_
            refine aw_ireturn dX0_fewest_99 rfl ?_
            have ef : sp_fwn H (mm_a s 45) t' = 0 := sp_fst_no (fun j hj => hno j hj)
            refine ⟨by rw [ef]; rfl, σ, ?_, hX, hs⟩
            rw [eS0 ef]
            rw [h52, h51] at hK
            have e9 : mm_core (mm_setN s 52 0) (mm_setN (mm_setV s 51 (mm_v s 51)) 52 0) := ⟨fun k hk => rfl, rfl, fun k hk => rfl, fun k hk => by
              show mm_v s k = if k = 51 then mm_v s 51 else mm_v s k
              split
              · rename_i e; rw [e]
              · rfl⟩
            exact e9.tr hK
      refine aw_aload_n dX0_fewest_0 rfl ?_
      refine aw_iconst (v := nI 0) dX0_fewest_1 rfl ?_
      refine xx_put0 (k := 52) hW hX hs dX0_fewest_2 (pX0_132 _) rfl rfl (by decide) (by decide) (by decide) rfl (fun h hX hs => ?_)
      refine aw_aload_n dX0_fewest_5 rfl ?_
      refine aw_iload_n dX0_fewest_6 rfl ?_
      refine xx_call0 dX0_fewest_7 sX0_188 rfl hW hX (hq.mv hs hX0).xh hs (xo_isT hn) rfl (hX.1 0 (by decide)) rfl rfl ⟨Nat.le_of_ble_eq_true rfl, Nat.le_of_ble_eq_true rfl⟩ (by exact Nat.le_of_ble_eq_true rfl) (fun h hX hs => ?_)
      try simp only [mm_n_N, mm_n_A, mm_n_V, mm_n_Fp, mm_n_W, mm_n_Nm, mm_a_N, mm_a_A, mm_a_V, mm_a_Fp, mm_a_W, mm_a_Nm, mm_v_N, mm_v_A, mm_v_V, mm_fp_N, mm_fp_A, mm_fp_Fp, mm_w_N, mm_w_W, Nat.reduceEqDiff, reduceIte, if_true, if_false, mm_H_45, mm_H_46, mm_H_47, mm_H_50, mm_H_53, mm_H_54, mm_H_55, mm_H_56, mm_H_57, mm_H_58, mm_H_66, mm_H_67, mm_H_68, eq_self]
      refine aw_if_neB (tgt := 15) dX0_fewest_10 (by decide) (fun c_10 => ?_) (fun c_10 => by exfalso; exact c_10 z)
      refine aw_aload_n dX0_fewest_15 rfl ?_
      refine aw_iload_n dX0_fewest_16 rfl ?_
      refine xx_call0 dX0_fewest_17 sX0_204 rfl hW hX (hq.mv hs hX0).xh hs (xo_lack hOK hA hN ht9) rfl (hX.1 0 (by decide)) rfl rfl ⟨Nat.le_of_ble_eq_true rfl, Nat.le_of_ble_eq_true rfl⟩ (by exact Nat.le_of_ble_eq_true rfl) (fun h hX hs => ?_)
      try simp only [mm_n_N, mm_n_A, mm_n_V, mm_n_Fp, mm_n_W, mm_n_Nm, mm_a_N, mm_a_A, mm_a_V, mm_a_Fp, mm_a_W, mm_a_Nm, mm_v_N, mm_v_A, mm_v_V, mm_fp_N, mm_fp_A, mm_fp_Fp, mm_w_N, mm_w_W, Nat.reduceEqDiff, reduceIte, if_true, if_false, mm_H_45, mm_H_46, mm_H_47, mm_H_50, mm_H_53, mm_H_54, mm_H_55, mm_H_56, mm_H_57, mm_H_58, mm_H_66, mm_H_67, mm_H_68, eq_self]
      refine aw_if_neN (tgt := 25) dX0_fewest_20 (by decide) (by omega) (fun c_20 => ?_) (fun c_20 => by exfalso; omega)
      refine aw_aload_n dX0_fewest_25 rfl ?_
      refine aw_iconst (v := nI 0) dX0_fewest_26 rfl ?_
      refine xx_put0 (k := 70) hW hX hs dX0_fewest_27 (pX0_239 _) rfl rfl (by decide) (by decide) (by decide) rfl (fun h hX hs => ?_)
      refine aw_iconst (v := nI 1) dX0_fewest_30 rfl ?_
      refine aw_istore_n dX0_fewest_31 (by decide) rfl rfl ?_
      refine loop _ 0 _ h rfl (Nat.zero_le _) (fun j hj => by rw [show j = 0 by omega]; exact f0) ?_ ?_ ?_ ?_ hX hs
      · exact ⟨fun k hk => by
          show (if k = 52 then 0 else mm_n s k) = (if k = 70 then 0 else if k = 52 then 0 else mm_n s k)
          by_cases e : k = 70
          · subst e; cases hk
          · rw [if_neg e], rfl, fun k hk => rfl, fun k hk => by
          show (if k = 51 then mm_v s 51 else mm_v s k) = mm_v s k
          split
          · rename_i e; rw [e]
          · rfl⟩
      · rfl
      · rfl
      · exact ⟨rfl, (by show 0 < 100000000; decide), (by show 0 ≤ 8; decide)⟩
  ·
    refine aw_aload_n dX0_fewest_0 rfl ?_
    refine aw_iconst (v := nI 0) dX0_fewest_1 rfl ?_
    refine xx_put0 (k := 52) hW hX hs dX0_fewest_2 (pX0_132 _) rfl rfl (by decide) (by decide) (by decide) rfl (fun h hX hs => ?_)
    refine aw_aload_n dX0_fewest_5 rfl ?_
    refine aw_iload_n dX0_fewest_6 rfl ?_
    refine xx_call0 dX0_fewest_7 sX0_188 rfl hW hX (hq.mv hs hX0).xh hs (xo_isT hn) rfl (hX.1 0 (by decide)) rfl rfl ⟨Nat.le_of_ble_eq_true rfl, Nat.le_of_ble_eq_true rfl⟩ (by exact Nat.le_of_ble_eq_true rfl) (fun h hX hs => ?_)
    try simp only [mm_n_N, mm_n_A, mm_n_V, mm_n_Fp, mm_n_W, mm_n_Nm, mm_a_N, mm_a_A, mm_a_V, mm_a_Fp, mm_a_W, mm_a_Nm, mm_v_N, mm_v_A, mm_v_V, mm_fp_N, mm_fp_A, mm_fp_Fp, mm_w_N, mm_w_W, Nat.reduceEqDiff, reduceIte, if_true, if_false, mm_H_45, mm_H_46, mm_H_47, mm_H_50, mm_H_53, mm_H_54, mm_H_55, mm_H_56, mm_H_57, mm_H_58, mm_H_66, mm_H_67, mm_H_68, eq_self]
    refine aw_if_neB (tgt := 15) dX0_fewest_10 (by decide) (fun c_10 => by exfalso; exact z c_10) (fun c_10 => ?_)
    refine aw_iconst (v := -1) dX0_fewest_13 rfl ?_
    refine aw_ireturn dX0_fewest_14 rfl ?_
    refine ⟨by rw [op_fewest, aw_if0 z], _, ?_, hX, hs⟩
    rw [op_fewestS, eH, aw_if0 z]
    exact mm_core.rf

