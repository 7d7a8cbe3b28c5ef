set_option maxRecDepth 100000
/-! the component: give, week -/
set_option maxHeartbeats 4000000 in
theorem xo_give {s : mm_S} {H : sp_H} {u : Nat} {t o n : Int32} {N : Nat} (hOK : sp_okH H) (hA : sp_okA N (mm_a s 45)) (hN : N ≤ 10000000) (eH : mm_H s = H) : xa_Met yX0_give cX0_give 4 (some .int) 10 6 96 (fun w => [.ref (w.1 0), .int (t), .int (o), .int (n)]) s H u (some (.int (op_give H (mm_a s 45) t o n))) (op_giveS s t o n) := by
  refine xa_Met.of (by decide +kernel) (fun _ => Nat.le_of_ble_eq_true rfl) (fun Z G w h0 hI => ?_)
  have hI9 := hI
  obtain ⟨⟨hW, hV, hZ⟩, hX, hH, hR⟩ := hI
  have hX0 := hX
  have hs : xx_same w h0 h0 := xx_same.rf
  have hr : xr_fr w h0 h0 := xr_fr.rf
  obtain ⟨tl, te, cap, m9, f9, tn, nm9, c9, mo9, D9, hq⟩ := hH
  show AW G (aw_rm 10 6 96) yX0_give cX0_give 4 (some .int) (aw_N G (xa_Po Z G w h0 H u (some (.int (op_give H (mm_a s 45) t o n))) (op_giveS s t o n)) 6 96) 6 96 h0 0 [(0, .ref (w.1 0)), (1, .int (t)), (2, .int (o)), (3, .int (n))] []
  have hs1 : 1 ≤ sp_hs H := hOK.1.1; have hs20 : sp_hs H ≤ 20 := hOK.1.2; have hn : sp_hn H ≤ 8 := hOK.2.1; have hlv : ∀ t, t < 8 → sp_lv H t ≤ 20 := fun t ht => (hOK.2.2.1 t ht).1; have hsg : ∀ t, t < 8 → sp_sg8 H t ≤ 40 := fun t ht => (hOK.2.2.1 t ht).2.1; have hhv : ∀ t, t < 8 → sp_hv H t ≤ 9 := fun t ht => (hOK.2.2.1 t ht).2.2.1; have how : ∀ t, t < 8 → sp_ow H t ≤ 999 := fun t ht => (hOK.2.2.1 t ht).2.2.2.1; have hfl : ∀ t, t < 8 → sp_fl H t ≤ 100 := fun t ht => (hOK.2.2.1 t ht).2.2.2.2
  have hb : ∀ t, t < 8 → mm_a s 45 t ≤ 40 := fun t ht => (hA.1 t ht).1; have hp : ∀ t, t < 8 → mm_a s 45 (8 + t) ≤ 9999 := fun t ht => (hA.1 t ht).2.1; have hd : ∀ t, t < 8 → mm_a s 45 (16 + t) ≤ N := fun t ht => (hA.1 t ht).2.2; have h24 : mm_a s 45 24 ≤ N := hA.2.1; have h25 : mm_a s 45 25 ≤ 20 := hA.2.2.1; have h26 : mm_a s 45 26 ≤ N := hA.2.2.2.1; have h27 : mm_a s 45 27 ≤ 999 := hA.2.2.2.2
  have e1 : (nI 1).toInt = 1 := rfl
  have no : ∀ h, XC G w h s → xx_same w h0 h → ¬ op_giveP H (mm_a s 45) t o n → xa_Po Z G w h0 H u (some (.int (op_give H (mm_a s 45) t o n))) (op_giveS s t o n) (some (.int (-1))) h := fun h hX hs z => xa_end hI9 hr hs hX xr_eq.rf (by rw [op_giveS, eH, aw_if0 z]; exact mm_core.rf) (by rw [op_give, aw_if0 z])
  by_cases zz : sp_isT H t ∧ sp_isT H o ∧ ¬ t = o
  · obtain ⟨z1, z2, z3⟩ := zz
    have y1 := z1
    have y2 := z2
    obtain ⟨t', ht, rfl, t1, t2⟩ := aw_ofN y1.1
    obtain ⟨o', ho, rfl, o1, o2⟩ := aw_ofN y2.1
    have ht9 : t' < sp_hn H := by have := z1.2; omega
    have ho9 : o' < sp_hn H := by have := z2.2; omega
    have hne : t' ≠ o' := fun z => z3 (by rw [z])
    have pt := hp t' (by omega)
    have po := hp o' (by omega)
    have etp : (nI (mm_a s 45 (8 + t'))).toInt = mm_a s 45 (8 + t') := aw_ti (by omega)
    have tail : ∀ (n' : Nat) (h1 : aw_H), n = nI n' → (nI n').toNatClampNeg = n' → op_giveP H (mm_a s 45) (nI t') (nI o') n → n' ≤ mm_a s 45 (8 + t') → mm_a s 45 (8 + o') + n' ≤ 9999 → xa_I Z G w h1 (mm_act s) H u → xr_fr w h0 h1 → AW G (aw_rm 10 6 96) yX0_give cX0_give 4 (some .int) (aw_N G (xa_Po Z G w h0 H u (some (.int (op_give H (mm_a s 45) (nI t') (nI o') n))) (op_giveS s (nI t') (nI o') n)) 6 96) 0 0 (h1) 61 [(0, .ref (w.1 0)), (1, .int (nI t')), (2, .int (nI o')), (3, .int (nI n'))] [] := by
      intro n' h1 en en2 hP l1 l2 hI1 hr
      subst en
      have fin : op_give H (mm_a s 45) (nI t') (nI o') (nI n') = nI (mm_a s 45 (8 + o') + n') := by rw [op_give, aw_if1 hP, o2, en2]
      have finS : op_giveS s (nI t') (nI o') (nI n') = mm_setA (mm_act s) 45 (op_giveA (mm_a s 45) t' o' n') := by rw [op_giveS, eH, aw_if1 hP, t2, o2, en2]
      rw [fin, finS]
      have a45 : mm_a (mm_act s) 45 = mm_a s 45 := mm_a_act (by decide)
      obtain ⟨s1, hs1⟩ : ∃ s1, s1 = mm_act s := ⟨_, rfl⟩
      rw [← hs1] at hI1 a45 ⊢
      obtain ⟨A, hA9⟩ : ∃ A, A = mm_a s 45 := ⟨_, rfl⟩
      rw [← hA9] at l1 l2 pt po a45 ⊢
      have hI2 := hI1
      obtain ⟨⟨hW, hV, hZ⟩, hX, ⟨tl, te, cap, m9, f9, tn, nm9, c9, mo9, D9, hq⟩, hR⟩ := hI1
      have hX0 := hX
      have hs : xx_same w h1 h1 := xx_same.rf
      obtain ⟨B1, hB1⟩ : ∃ B1, B1 = aw_u A (8 + t') (A (8 + t') - n') := ⟨_, rfl⟩
      have q1 : B1 (8 + o') = A (8 + o') := by rw [hB1, aw_u_n (by omega)]
      obtain ⟨B2, hB2⟩ : ∃ B2, B2 = aw_u B1 (8 + o') (A (8 + o') + n') := ⟨_, rfl⟩
      have q2 : B2 (8 + o') = A (8 + o') + n' := by rw [hB2, aw_u_s]
      have eB : B2 = op_giveA A t' o' n' := by rw [hB2, hB1]; rfl
      refine aw_aload_n dX0_give_61 rfl ?_
      refine aw_get dX0_give_62 fX0_28 rfl (hX.1 0 (by decide)) (by rfl) ?_
      refine aw_get dX0_give_65 fX0_107 rfl (hX.st (i := 0) (by decide)) (by rfl) ?_
      refine aw_iload_n dX0_give_68 rfl ?_
      refine aw_dup2 dX0_give_69 rfl rfl ?_
      refine xx_ialdS (i := 0) (b := 1) dX0_give_70 hX (by decide) (by decide) (by omega) ?_
      try simp only [Nat.reduceMul, Nat.reduceAdd, Nat.zero_add]
      rw [a45]
      refine aw_iload_n dX0_give_71 rfl ?_
      refine aw_isubN dX0_give_72 (by omega) ?_
      refine xx_stS (i := 0) (b := 1) hW hX hs dX0_give_73 (by decide) (by decide) (by omega) (fun h hX hs => ?_)
      have hX : XC G w h (mm_setA s1 45 B1) := hX.eqv (by rw [hB1, a45])
      refine aw_aload_n dX0_give_74 rfl ?_
      refine aw_get dX0_give_75 fX0_28 rfl (hX.1 0 (by decide)) (by rfl) ?_
      refine aw_get dX0_give_78 fX0_107 rfl (hX.st (i := 0) (by decide)) (by rfl) ?_
      refine aw_iload_n dX0_give_81 rfl ?_
      refine aw_dup2 dX0_give_82 rfl rfl ?_
      refine xx_ialdS (i := 0) (b := 1) dX0_give_83 hX (by decide) (by decide) (by omega) ?_
      try simp only [Nat.reduceMul, Nat.reduceAdd, Nat.zero_add]
      try simp only [mm_n_N, mm_n_A, mm_n_V, mm_n_Fp, mm_n_W, mm_n_Nm, mm_a_N, mm_a_A, mm_a_V, mm_a_Fp, mm_a_W, mm_a_Nm, mm_v_N, mm_v_A, mm_v_V, mm_fp_N, mm_fp_A, mm_fp_Fp, mm_w_N, mm_w_W, Nat.reduceEqDiff, reduceIte, if_true, if_false, mm_H_45, mm_H_46, mm_H_47, mm_H_50, mm_H_53, mm_H_54, mm_H_55, mm_H_56, mm_H_57, mm_H_58, mm_H_66, mm_H_67, mm_H_68, eq_self]
      try simp only [mm_n_N, mm_n_A, mm_n_V, mm_n_Fp, mm_n_W, mm_n_Nm, mm_a_N, mm_a_A, mm_a_V, mm_a_Fp, mm_a_W, mm_a_Nm, mm_v_N, mm_v_A, mm_v_V, mm_fp_N, mm_fp_A, mm_fp_Fp, mm_w_N, mm_w_W, Nat.reduceEqDiff, reduceIte, if_true, if_false, mm_H_45, mm_H_46, mm_H_47, mm_H_50, mm_H_53, mm_H_54, mm_H_55, mm_H_56, mm_H_57, mm_H_58, mm_H_66, mm_H_67, mm_H_68, eq_self]
      rw [q1]
      refine aw_iload_n dX0_give_84 rfl ?_
      refine aw_iaddN dX0_give_85 ?_
      refine xx_stS (i := 0) (b := 1) hW hX hs dX0_give_86 (by decide) (by decide) (by omega) (fun h hX hs => ?_)
      have hX : XC G w h (mm_setA s1 45 B2) := xx_AU hX hB2
      refine aw_aload_n dX0_give_87 rfl ?_
      refine aw_get dX0_give_88 fX0_28 rfl (hX.1 0 (by decide)) (by rfl) ?_
      refine aw_get dX0_give_91 fX0_107 rfl (hX.st (i := 0) (by decide)) (by rfl) ?_
      refine aw_iload_n dX0_give_94 rfl ?_
      refine xx_ialdS (i := 0) (b := 1) dX0_give_95 hX (by decide) (by decide) (by omega) ?_
      try simp only [Nat.reduceMul, Nat.reduceAdd, Nat.zero_add]
      try simp only [mm_n_N, mm_n_A, mm_n_V, mm_n_Fp, mm_n_W, mm_n_Nm, mm_a_N, mm_a_A, mm_a_V, mm_a_Fp, mm_a_W, mm_a_Nm, mm_v_N, mm_v_A, mm_v_V, mm_fp_N, mm_fp_A, mm_fp_Fp, mm_w_N, mm_w_W, Nat.reduceEqDiff, reduceIte, if_true, if_false, mm_H_45, mm_H_46, mm_H_47, mm_H_50, mm_H_53, mm_H_54, mm_H_55, mm_H_56, mm_H_57, mm_H_58, mm_H_66, mm_H_67, mm_H_68, eq_self]
      try simp only [mm_n_N, mm_n_A, mm_n_V, mm_n_Fp, mm_n_W, mm_n_Nm, mm_a_N, mm_a_A, mm_a_V, mm_a_Fp, mm_a_W, mm_a_Nm, mm_v_N, mm_v_A, mm_v_V, mm_fp_N, mm_fp_A, mm_fp_Fp, mm_w_N, mm_w_W, Nat.reduceEqDiff, reduceIte, if_true, if_false, mm_H_45, mm_H_46, mm_H_47, mm_H_50, mm_H_53, mm_H_54, mm_H_55, mm_H_56, mm_H_57, mm_H_58, mm_H_66, mm_H_67, mm_H_68, eq_self]
      rw [q2]
      refine aw_ireturn dX0_give_96 rfl ?_
      exact xa_end hI2 hr hs hX (xr_eq_A rfl) (by rw [eB]; exact mm_core.rf) rfl
    refine aw_aload_n dX0_give_0 rfl ?_
    refine aw_iload_n dX0_give_1 rfl ?_
    refine xx_call0 dX0_give_2 sX0_188 rfl hW hX (hq.mv hs hX0).xh hs (xo_isT hn) rfl (hX.1 0 (by decide)) rfl rfl ⟨Nat.le_of_ble_eq_true rfl, Nat.le_of_ble_eq_true rfl⟩ (by exact Nat.le_of_ble_eq_true rfl) (fun h hX hs => ?_)
    refine aw_if_eqB (tgt := 55) dX0_give_5 (by decide) (fun c_5 => by exfalso; exact c_5 z1) (fun c_5 => ?_)
    refine aw_aload_n dX0_give_8 rfl ?_
    refine aw_iload_n dX0_give_9 rfl ?_
    refine xx_call0 dX0_give_10 sX0_188 rfl hW hX (hq.mv hs hX0).xh hs (xo_isT hn) rfl (hX.1 0 (by decide)) rfl rfl ⟨Nat.le_of_ble_eq_true rfl, Nat.le_of_ble_eq_true rfl⟩ (by exact Nat.le_of_ble_eq_true rfl) (fun h hX hs => ?_)
    refine aw_if_eqB (tgt := 55) dX0_give_13 (by decide) (fun c_13 => by exfalso; exact c_13 z2) (fun c_13 => ?_)
    refine aw_iload_n dX0_give_16 rfl ?_
    refine aw_iload_n dX0_give_17 rfl ?_
    refine aw_icmp_eqN (tgt := 55) dX0_give_18 (by decide) (by omega) (by omega) (fun c_18 => by exfalso; exact hne c_18) (fun c_18 => ?_)
    refine aw_iload_n dX0_give_21 rfl ?_
    refine aw_iconst (v := nI 1) dX0_give_22 rfl ?_
    refine aw_aload_n dX0_give_23 rfl ?_
    refine aw_get dX0_give_24 fX0_28 rfl (hX.1 0 (by decide)) (by rfl) ?_
    refine aw_get dX0_give_27 fX0_107 rfl (hX.st (i := 0) (by decide)) (by rfl) ?_
    refine aw_iload_n dX0_give_30 rfl ?_
    refine xx_ialdS (i := 0) (b := 1) dX0_give_31 hX (by decide) (by decide) (by omega) ?_
    try simp only [Nat.reduceMul, Nat.reduceAdd, Nat.zero_add]
    refine aw_callP (r := _) dX0_give_32 sX0_155 rfl (xp_isIn) rfl rfl ⟨Nat.le_of_ble_eq_true rfl, Nat.le_of_ble_eq_true rfl⟩ (Nat.le_of_ble_eq_true rfl) ?_
    refine aw_if_eqB (tgt := 55) dX0_give_35 (by decide) (fun c_35 => ?_) (fun c_35 => ?_)
    · refine aw_iconst (v := -1) dX0_give_55 rfl ?_
      refine aw_ireturn dX0_give_56 rfl ?_
      refine no h hX hs (fun z => ?_)
      obtain ⟨-, -, -, q4, q5⟩ := z
      rw [t2] at q4
      first
        | omega
        | (rw [o2, n2] at q5; omega)
    · obtain ⟨n', hn', en, n1, n2⟩ := aw_ofN (x := n) (by omega)
      refine AW_ls (show _ = [(0, .ref (w.1 0)), (1, .int (nI t')), (2, .int (nI o')), (3, .int (nI n'))] by rw [← en]) ?_
      refine aw_aload_n dX0_give_38 rfl ?_
      refine aw_get dX0_give_39 fX0_28 rfl (hX.1 0 (by decide)) (by rfl) ?_
      refine aw_get dX0_give_42 fX0_107 rfl (hX.st (i := 0) (by decide)) (by rfl) ?_
      refine aw_iload_n dX0_give_45 rfl ?_
      refine xx_ialdS (i := 0) (b := 1) dX0_give_46 hX (by decide) (by decide) (by omega) ?_
      try simp only [Nat.reduceMul, Nat.reduceAdd, Nat.zero_add]
      refine aw_iload_n dX0_give_47 rfl ?_
      refine aw_iaddN dX0_give_48 ?_
      refine aw_sipush (v := nI 9999) dX0_give_49 rfl ?_
      refine aw_icmp_leN (tgt := 57) dX0_give_52 (by decide) (by omega) (by omega) (fun c_52 => ?_) (fun c_52 => ?_)
      · refine aw_aload_n dX0_give_57 rfl ?_
        refine xa_callX (kc := 0) (ks := 0) (mc2 := 6) (ms2 := 96) dX0_give_58 sX0_224 rfl (hI9.mv hs hX xr_eq.rf) (hr.tr hs.r) xb_keep rfl (hX.1 0 (by decide)) rfl rfl ⟨Nat.le_of_ble_eq_true rfl, Nat.le_of_ble_eq_true rfl⟩ (by exact Nat.le_of_ble_eq_true rfl) (fun h hI1 hr => ?_)
        exact tail n' h en (by rw [← en]; exact n2) ⟨z1, z2, z3, by rw [t2]; omega, by rw [o2, n2]; omega⟩ (by omega) (by omega) hI1 hr
      · refine aw_iconst (v := -1) dX0_give_55 rfl ?_
        refine aw_ireturn dX0_give_56 rfl ?_
        refine no h hX hs (fun z => ?_)
        obtain ⟨-, -, -, q4, q5⟩ := z
        rw [t2] at q4
        first
          | omega
          | (rw [o2, n2] at q5; omega)
  ·
    refine aw_aload_n dX0_give_0 rfl ?_
    refine aw_iload_n dX0_give_1 rfl ?_
    refine xx_call0 dX0_give_2 sX0_188 rfl hW hX (hq.mv hs hX0).xh hs (xo_isT hn) rfl (hX.1 0 (by decide)) rfl rfl ⟨Nat.le_of_ble_eq_true rfl, Nat.le_of_ble_eq_true rfl⟩ (by exact Nat.le_of_ble_eq_true rfl) (fun h hX hs => ?_)
    refine aw_if_eqB (tgt := 55) dX0_give_5 (by decide) (fun c_5 => ?_) (fun c_5 => ?_)
    · refine aw_iconst (v := -1) dX0_give_55 rfl ?_
      refine aw_ireturn dX0_give_56 rfl ?_
      exact no h hX hs (fun z => zz ⟨z.1, z.2.1, z.2.2.1⟩)
    · refine aw_aload_n dX0_give_8 rfl ?_
      refine aw_iload_n dX0_give_9 rfl ?_
      refine xx_call0 dX0_give_10 sX0_188 rfl hW hX (hq.mv hs hX0).xh hs (xo_isT hn) rfl (hX.1 0 (by decide)) rfl rfl ⟨Nat.le_of_ble_eq_true rfl, Nat.le_of_ble_eq_true rfl⟩ (by exact Nat.le_of_ble_eq_true rfl) (fun h hX hs => ?_)
      refine aw_if_eqB (tgt := 55) dX0_give_13 (by decide) (fun c_13 => ?_) (fun c_13 => ?_)
      · refine aw_iconst (v := -1) dX0_give_55 rfl ?_
        refine aw_ireturn dX0_give_56 rfl ?_
        exact no h hX hs (fun z => zz ⟨z.1, z.2.1, z.2.2.1⟩)
      · refine aw_iload_n dX0_give_16 rfl ?_
        refine aw_iload_n dX0_give_17 rfl ?_
        refine aw_icmp_eq (tgt := 55) dX0_give_18 (by decide) (fun c_18 => ?_) (fun c_18 => ?_)
        · refine aw_iconst (v := -1) dX0_give_55 rfl ?_
          refine aw_ireturn dX0_give_56 rfl ?_
          exact no h hX hs (fun z => zz ⟨z.1, z.2.1, z.2.2.1⟩)
        · exact absurd ⟨c_5, c_13, c_18⟩ zz
set_option maxHeartbeats 4000000 in
theorem xo_week {s : mm_S} {H : sp_H} {u : Nat} {N : Nat} (hOK : sp_okH H) (hA : sp_okA N (mm_a s 45)) (hN : N ≤ 10000000) (eH : mm_H s = H) : xa_Met yX0_week cX0_week 1 (some .int) 606 7 100 (fun w => [.ref (w.1 0)]) s H u (some (.int (op_week H (mm_a s 45)))) (op_weekS s) := by
  refine xa_Met.of (by decide +kernel) (fun _ => Nat.le_of_ble_eq_true rfl) (fun Z G w h0 hI => ?_)
  have hI9 := hI
  obtain ⟨⟨hW, hV, hZ⟩, hX, hH, hR⟩ := hI
  have hX0 := hX
  have hs : xx_same w h0 h0 := xx_same.rf
  have hr : xr_fr w h0 h0 := xr_fr.rf
  obtain ⟨tl, te, cap, m9, f9, tn, nm9, c9, mo9, D9, hq⟩ := hH
  show AW G (aw_rm 606 7 100) yX0_week cX0_week 1 (some .int) (aw_N G (xa_Po Z G w h0 H u (some (.int (op_week H (mm_a s 45)))) (op_weekS s)) 7 100) 7 100 h0 0 [(0, .ref (w.1 0))] []
  have hs1 : 1 ≤ sp_hs H := hOK.1.1; have hs20 : sp_hs H ≤ 20 := hOK.1.2; have hn : sp_hn H ≤ 8 := hOK.2.1; have hlv : ∀ t, t < 8 → sp_lv H t ≤ 20 := fun t ht => (hOK.2.2.1 t ht).1; have hsg : ∀ t, t < 8 → sp_sg8 H t ≤ 40 := fun t ht => (hOK.2.2.1 t ht).2.1; have hhv : ∀ t, t < 8 → sp_hv H t ≤ 9 := fun t ht => (hOK.2.2.1 t ht).2.2.1; have how : ∀ t, t < 8 → sp_ow H t ≤ 999 := fun t ht => (hOK.2.2.1 t ht).2.2.2.1; have hfl : ∀ t, t < 8 → sp_fl H t ≤ 100 := fun t ht => (hOK.2.2.1 t ht).2.2.2.2
  have hb : ∀ t, t < 8 → mm_a s 45 t ≤ 40 := fun t ht => (hA.1 t ht).1; have hp : ∀ t, t < 8 → mm_a s 45 (8 + t) ≤ 9999 := fun t ht => (hA.1 t ht).2.1; have hd : ∀ t, t < 8 → mm_a s 45 (16 + t) ≤ N := fun t ht => (hA.1 t ht).2.2; have h24 : mm_a s 45 24 ≤ N := hA.2.1; have h25 : mm_a s 45 25 ≤ 20 := hA.2.2.1; have h26 : mm_a s 45 26 ≤ N := hA.2.2.2.1; have h27 : mm_a s 45 27 ≤ 999 := hA.2.2.2.2
  have tail : ∀ (h1 : aw_H), mm_a s 45 26 ≠ 999 → xa_I Z G w h1 (mm_act s) H u → xr_fr w h0 h1 → AW G (aw_rm 606 7 100) yX0_week cX0_week 1 (some .int) (aw_N G (xa_Po Z G w h0 H u (some (.int (op_week H (mm_a s 45)))) (op_weekS s)) 7 100) 1 4 (h1) 19 [(0, .ref (w.1 0))] [] := by
    intro h1 hne hI1 hr
    have fin : op_week H (mm_a s 45) = nI (sp_week H (mm_a s 45) 25) := by rw [op_week, if_neg hne]
    have finS : op_weekS s = mm_setA (mm_act s) 45 (sp_week H (mm_a s 45)) := by rw [op_weekS, if_neg hne, eH]
    rw [fin, finS]
    have a45 : mm_a (mm_act s) 45 = mm_a s 45 := mm_a_act (by decide)
    obtain ⟨s1, hs1⟩ : ∃ s1, s1 = mm_act s := ⟨_, rfl⟩
    rw [← hs1] at hI1 a45 ⊢
    have hI2 := hI1
    obtain ⟨⟨hW, hV, hZ⟩, hX, ⟨tl, te, cap, m9, f9, tn, nm9, c9, mo9, D9, hq⟩, hR⟩ := hI1
    have hX0 := hX
    have hs : xx_same w h1 h1 := xx_same.rf
    obtain ⟨k1, k2, k3⟩ := xx_wkh hOK hA (by omega)
    rw [← a45] at k1 k2 k3 ⊢
    obtain ⟨B, hB⟩ : ∃ B, B = sp_week H (mm_a s1 45) := ⟨_, rfl⟩
    refine aw_aload_n dX0_week_19 rfl ?_
    refine aw_get dX0_week_20 fX0_28 rfl (hX.1 0 (by decide)) (by rfl) ?_
    refine aw_aload_n dX0_week_23 rfl ?_
    refine aw_get dX0_week_24 fX0_19 rfl (hX.1 0 (by decide)) (by rfl) ?_
    refine AW_le (kc' := 0 + 1) (ks' := 0 + 4) (by omega) (by omega) ?_
    refine xx_call (kc := 0) (ks := 0) dX0_week_27 sX0_227 rfl hW hX (hq.mv hs hX0).xh hs ((xs_goOn (i := 0) (by decide) hn hhv hs20 k1 k2 k3).eqv (s3 := mm_setA s1 45 B) rfl (by rw [hB])) rfl (hX.st (i := 0) (by decide)) rfl rfl ⟨Nat.le_of_ble_eq_true rfl, Nat.le_of_ble_eq_true rfl⟩ (by exact Nat.le_of_ble_eq_true rfl) (fun h hX hs => ?_)
    refine aw_aload_n dX0_week_30 rfl ?_
    refine aw_get dX0_week_31 fX0_28 rfl (hX.1 0 (by decide)) (by rfl) ?_
    refine aw_get dX0_week_34 fX0_119 rfl (hX.st (i := 0) (by decide)) (by rfl) ?_
    try simp only [Nat.reduceMul, Nat.reduceAdd, Nat.zero_add]
    try simp only [mm_n_N, mm_n_A, mm_n_V, mm_n_Fp, mm_n_W, mm_n_Nm, mm_a_N, mm_a_A, mm_a_V, mm_a_Fp, mm_a_W, mm_a_Nm, mm_v_N, mm_v_A, mm_v_V, mm_fp_N, mm_fp_A, mm_fp_Fp, mm_w_N, mm_w_W, Nat.reduceEqDiff, reduceIte, if_true, if_false, mm_H_45, mm_H_46, mm_H_47, mm_H_50, mm_H_53, mm_H_54, mm_H_55, mm_H_56, mm_H_57, mm_H_58, mm_H_66, mm_H_67, mm_H_68, eq_self]
    try simp only [mm_n_N, mm_n_A, mm_n_V, mm_n_Fp, mm_n_W, mm_n_Nm, mm_a_N, mm_a_A, mm_a_V, mm_a_Fp, mm_a_W, mm_a_Nm, mm_v_N, mm_v_A, mm_v_V, mm_fp_N, mm_fp_A, mm_fp_Fp, mm_w_N, mm_w_W, Nat.reduceEqDiff, reduceIte, if_true, if_false, mm_H_45, mm_H_46, mm_H_47, mm_H_50, mm_H_53, mm_H_54, mm_H_55, mm_H_56, mm_H_57, mm_H_58, mm_H_66, mm_H_67, mm_H_68, eq_self]
    rw [hB]
    refine aw_ireturn dX0_week_37 rfl ?_
    exact xa_end hI2 hr hs hX (xr_eq_A rfl) (by rw [hB]; exact mm_core.rf) rfl
  refine aw_aload_n dX0_week_0 rfl ?_
  refine aw_get dX0_week_1 fX0_28 rfl (hX.1 0 (by decide)) (by rfl) ?_
  refine aw_get dX0_week_4 fX0_120 rfl (hX.st (i := 0) (by decide)) (by rfl) ?_
  try simp only [Nat.reduceMul, Nat.reduceAdd, Nat.zero_add]
  refine aw_sipush (v := nI 999) dX0_week_7 rfl ?_
  refine aw_icmp_neN (tgt := 15) dX0_week_10 (by decide) (by omega) (by omega) (fun c_10 => ?_) (fun c_10 => ?_)
  · refine aw_aload_n dX0_week_15 rfl ?_
    refine xa_callX (kc := 1) (ks := 4) (mc2 := 6) (ms2 := 96) dX0_week_16 sX0_224 rfl (hI9.mv hs hX xr_eq.rf) (hr.tr hs.r) xb_keep rfl (hX.1 0 (by decide)) rfl rfl ⟨Nat.le_of_ble_eq_true rfl, Nat.le_of_ble_eq_true rfl⟩ (by exact Nat.le_of_ble_eq_true rfl) (fun h hI1 hr => ?_)
    exact tail h c_10 hI1 hr
  · refine aw_iconst (v := -1) dX0_week_13 rfl ?_
    refine aw_ireturn dX0_week_14 rfl ?_
    exact xa_end hI9 hr hs hX xr_eq.rf (by rw [op_weekS, if_pos c_10]; exact mm_core.rf) (by rw [op_week, if_pos c_10])

