set_option maxRecDepth 100000
/-! the component: acts -/
theorem xr_eq_A {s : mm_S} {k : Nat} {F : Nat → Nat} (h : [47, 59, 60, 61, 63, 67, 68].contains k = false) : xr_eq s (mm_setA s k F) := by
  have e : ∀ j, [47, 59, 60, 61, 63, 67, 68].contains j = true → mm_a s j = mm_a (mm_setA s k F) j := fun j hj => by
    rw [mm_a_A, if_neg (fun z => by subst z; rw [hj] at h; cases h)]
  exact ⟨rfl, rfl, rfl, e 47 rfl, e 59 rfl, e 60 rfl, e 61 rfl, e 63 rfl, e 67 rfl, e 68 rfl, rfl⟩
theorem xr_eq_N {s : mm_S} {k v : Nat} (h : [48, 49, 64].contains k = false) : xr_eq s (mm_setN s k v) := by
  have e : ∀ j, [48, 49, 64].contains j = true → mm_n s j = mm_n (mm_setN s k v) j := fun j hj => by
    rw [mm_n_N, if_neg (fun z => by subst z; rw [hj] at h; cases h)]
  exact ⟨e 48 rfl, e 49 rfl, e 64 rfl, rfl, rfl, rfl, rfl, rfl, rfl, rfl, rfl⟩
theorem sp_climb_uc {H : sp_H} {A : Nat → Nat} {t a c n : Nat} (ht : t < 8) : aw_u (aw_u (aw_u A (8 + t) (min 9999 (A (8 + t) + n))) t (A t - a * sp_brc H c)) 24 (A 24 + a) = sp_climb H A t a c n := by
  funext j
  unfold sp_climb aw_u
  by_cases h1 : j = 24
  · rw [if_pos h1, if_neg (by omega), if_neg (by omega), if_pos h1]
  · rw [if_neg h1]
    by_cases h2 : j = t
    · rw [if_pos h2, if_pos h2]
    · rw [if_neg h2, if_neg h2]
      by_cases h3 : j = 8 + t
      · rw [if_pos h3, if_pos h3, Nat.min_comm]
      · rw [if_neg h3, if_neg h3, if_neg h1]
set_option maxHeartbeats 4000000 in
theorem xo_climb {s : mm_S} {H : sp_H} {u : Nat} {t a c nt : Int32} {N : Nat} (hOK : sp_okH H) (hA : sp_okA N (mm_a s 45)) (hN : N ≤ 10000000) (eH : mm_H s = H) : xa_Met yX0_climb cX0_climb 6 (some .int) 603 6 96 (fun w => [.ref (w.1 0), .int (t), .int (a), .int (c), .int (nt)]) s H u (some (.int (op_climb H (mm_a s 45) t a c nt))) (op_climbS s t a c nt) := by
  refine xa_Met.of (by decide +kernel) (fun _ => Nat.le_of_ble_eq_true rfl) (fun Z G w h0 hI => ?_)
  have hI9 := hI
  obtain ⟨⟨hW, hV, hZ⟩, hX, hH, hR⟩ := hI
  have hX0 := hX
  have hs : xx_same w h0 h0 := xx_same.rf
  have hr : xr_fr w h0 h0 := xr_fr.rf
  obtain ⟨tl, te, cap, m9, f9, tn, nm9, c9, mo9, D9, hq⟩ := hH
  show AW G (aw_rm 603 6 96) yX0_climb cX0_climb 6 (some .int) (aw_N G (xa_Po Z G w h0 H u (some (.int (op_climb H (mm_a s 45) t a c nt))) (op_climbS s t a c nt)) 6 96) 6 96 h0 0 [(0, .ref (w.1 0)), (1, .int (t)), (2, .int (a)), (3, .int (c)), (4, .int (nt))] []
  have hs1 : 1 ≤ sp_hs H := hOK.1.1; have hs20 : sp_hs H ≤ 20 := hOK.1.2; have hn : sp_hn H ≤ 8 := hOK.2.1; have hlv : ∀ t, t < 8 → sp_lv H t ≤ 20 := fun t ht => (hOK.2.2.1 t ht).1; have hsg : ∀ t, t < 8 → sp_sg8 H t ≤ 40 := fun t ht => (hOK.2.2.1 t ht).2.1; have hhv : ∀ t, t < 8 → sp_hv H t ≤ 9 := fun t ht => (hOK.2.2.1 t ht).2.2.1; have how : ∀ t, t < 8 → sp_ow H t ≤ 999 := fun t ht => (hOK.2.2.1 t ht).2.2.2.1; have hfl : ∀ t, t < 8 → sp_fl H t ≤ 100 := fun t ht => (hOK.2.2.1 t ht).2.2.2.2
  have hb : ∀ t, t < 8 → mm_a s 45 t ≤ 40 := fun t ht => (hA.1 t ht).1; have hp : ∀ t, t < 8 → mm_a s 45 (8 + t) ≤ 9999 := fun t ht => (hA.1 t ht).2.1; have hd : ∀ t, t < 8 → mm_a s 45 (16 + t) ≤ N := fun t ht => (hA.1 t ht).2.2; have h24 : mm_a s 45 24 ≤ N := hA.2.1; have h25 : mm_a s 45 25 ≤ 20 := hA.2.2.1; have h26 : mm_a s 45 26 ≤ N := hA.2.2.2.1; have h27 : mm_a s 45 27 ≤ 999 := hA.2.2.2.2
  have tail : ∀ h1, xa_I Z G w h1 (mm_act s) H u → xr_fr w h0 h1 → sp_can H (mm_a s 45) t a c nt → AW G (aw_rm 603 6 96) yX0_climb cX0_climb 6 (some .int) (aw_N G (xa_Po Z G w h0 H u (some (.int (op_climb H (mm_a s 45) t a c nt))) (op_climbS s t a c nt)) 6 96) 0 0 (h1) 18 [(0, .ref (w.1 0)), (1, .int t), (2, .int a), (3, .int c), (4, .int nt)] [] := by
    intro h1 hI1 hr hc
    have hc9 := hc
    obtain ⟨t', a', c', n', rfl, rfl, rfl, rfl, g1, g2, g3, g4, g5, g6, g7, e1, e2, e3, e4⟩ := sp_can_nat hn hs20 hc9
    have fin : op_climb H (mm_a s 45) (nI t') (nI a') (sp_cv c') (nI n') = nI (op_climbN H (mm_a s 45) t' a' c' n') := by rw [op_climb, aw_if1 hc, e1, e2, e3, e4]
    have finS : op_climbS s (nI t') (nI a') (sp_cv c') (nI n') = mm_setA (mm_act s) 45 (op_climbA H (mm_a s 45) t' a' c' n') := by rw [op_climbS, eH, aw_if1 hc, e1, e2, e3, e4]
    rw [fin, finS]
    have a45 : mm_a (mm_act s) 45 = mm_a s 45 := mm_a_act (by decide)
    obtain ⟨s1, hs1⟩ : ∃ s1, s1 = mm_act s := ⟨_, rfl⟩
    rw [← hs1] at hI1 a45 ⊢
    obtain ⟨A, hA9⟩ : ∃ A, A = mm_a s 45 := ⟨_, rfl⟩
    rw [← hA9] at hb hp hd h24 h25 h26 h27 a45 g7 ⊢
    have hI2 := hI1
    obtain ⟨⟨hW, hV, hZ⟩, hX, ⟨tl, te, cap, m9, f9, tn, nm9, c9, mo9, D9, hq⟩, hR⟩ := hI1
    have hX0 := hX
    have hs : xx_same w h1 h1 := xx_same.rf
    have e20 := sp_brc_le hhv (c := c') (by omega)
    obtain ⟨B, hB⟩ : ∃ B, B = aw_u A 27 (sp_seed A) := ⟨_, rfl⟩
    have b27 : B 27 = sp_seed A := by rw [hB, aw_u_s]
    have bo : ∀ j, j ≠ 27 → B j = A j := fun j hj => by rw [hB, aw_u_n hj]
    have sd : sp_seed A < 1000 := Nat.mod_lt _ (by decide)
    have pt := (hp t' (by omega))
    have bt := (hb t' (by omega))
    have tail2 : ∀ (its : Nat) (h : aw_H), its = op_climbN H A t' a' c' n' → its ≤ 999 → XC G w h (mm_setA s1 45 B) → xx_same w h1 h → AW G (aw_rm 603 6 96) yX0_climb cX0_climb 6 (some .int) (aw_N G (xa_Po Z G w h0 H u (some (.int (nI (op_climbN H A t' a' c' n')))) (mm_setA s1 45 (op_climbA H A t' a' c' n'))) 6 96) 0 0 (h) 107 [(0, .ref (w.1 0)), (1, .int (nI t')), (2, .int (nI a')), (3, .int (sp_cv c')), (4, .int (nI n')), (5, .int (nI its))] [] := by
      intro its h eits hits hX hs
      have q8 : B (8 + t') = A (8 + t') := bo _ (by omega)
      obtain ⟨B1, hB1⟩ : ∃ B1, B1 = aw_u B (8 + t') (min 9999 (B (8 + t') + its)) := ⟨_, rfl⟩
      have c0 : B1 t' = A t' := by rw [hB1, aw_u_n (by omega), bo _ (by omega)]
      obtain ⟨B2, hB2⟩ : ∃ B2, B2 = aw_u B1 t' (A t' - a' * sp_brc H c') := ⟨_, rfl⟩
      have c24 : B2 24 = A 24 := by rw [hB2, aw_u_n (by omega), hB1, aw_u_n (by omega), bo _ (by omega)]
      have m1 : a' * sp_brc H c' ≤ 40 := by omega
      have eF : aw_u B2 24 (B2 24 + a') = op_climbA H A t' a' c' n' := by
        unfold op_climbA
        rw [← sp_climb_uc (by omega), ← hB, ← eits, c24, hB2, hB1, bo t' (by omega), bo 24 (by decide)]
      refine aw_aload_n dX0_climb_107 rfl ?_
      refine aw_get dX0_climb_108 fX0_28 rfl (hX.1 0 (by decide)) (by rfl) ?_
      refine aw_get dX0_climb_111 fX0_107 rfl (hX.st (i := 0) (by decide)) (by rfl) ?_
      refine aw_iload_n dX0_climb_114 rfl ?_
      refine aw_sipush (v := nI 9999) dX0_climb_115 rfl ?_
      refine aw_aload_n dX0_climb_118 rfl ?_
      refine aw_get dX0_climb_119 fX0_28 rfl (hX.1 0 (by decide)) (by rfl) ?_
      refine aw_get dX0_climb_122 fX0_107 rfl (hX.st (i := 0) (by decide)) (by rfl) ?_
      refine aw_iload_n dX0_climb_125 rfl ?_
      refine xx_ialdS (i := 0) (b := 1) dX0_climb_126 hX (by decide) (by decide) (by omega) ?_
      try simp only [Nat.reduceMul, Nat.reduceAdd, Nat.zero_add]
      try simp only [mm_n_N, mm_n_A, mm_n_V, mm_n_Fp, mm_n_W, mm_n_Nm, mm_a_N, mm_a_A, mm_a_V, mm_a_Fp, mm_a_W, mm_a_Nm, mm_v_N, mm_v_A, mm_v_V, mm_fp_N, mm_fp_A, mm_fp_Fp, mm_w_N, mm_w_W, Nat.reduceEqDiff, reduceIte, if_true, if_false, mm_H_45, mm_H_46, mm_H_47, mm_H_50, mm_H_53, mm_H_54, mm_H_55, mm_H_56, mm_H_57, mm_H_58, mm_H_66, mm_H_67, mm_H_68, eq_self]
      rw [q8]
      refine aw_iload dX0_climb_127 rfl ?_
      refine aw_iaddN dX0_climb_129 ?_
      refine aw_mminN dX0_climb_130 q951 (by omega) (by omega) (Nat.le_of_ble_eq_true rfl) (Nat.le_of_ble_eq_true rfl) (Nat.le_of_ble_eq_true rfl) ?_
      refine xx_stS (i := 0) (b := 1) hW hX hs dX0_climb_133 (by decide) (by decide) (by omega) (fun h hX hs => ?_)
      have hX : XC G w h (mm_setA s1 45 B1) := xx_AU hX (by rw [hB1, q8])
      refine aw_aload_n dX0_climb_134 rfl ?_
      refine aw_get dX0_climb_135 fX0_28 rfl (hX.1 0 (by decide)) (by rfl) ?_
      refine aw_get dX0_climb_138 fX0_88 rfl (hX.st (i := 0) (by decide)) (by rfl) ?_
      refine aw_iload_n dX0_climb_141 rfl ?_
      refine aw_dup2 dX0_climb_142 rfl rfl ?_
      refine xx_ialdS (i := 0) (b := 0) dX0_climb_143 hX (by decide) (by decide) (by omega) ?_
      try simp only [Nat.reduceMul, Nat.reduceAdd, Nat.zero_add]
      try simp only [mm_n_N, mm_n_A, mm_n_V, mm_n_Fp, mm_n_W, mm_n_Nm, mm_a_N, mm_a_A, mm_a_V, mm_a_Fp, mm_a_W, mm_a_Nm, mm_v_N, mm_v_A, mm_v_V, mm_fp_N, mm_fp_A, mm_fp_Fp, mm_w_N, mm_w_W, Nat.reduceEqDiff, reduceIte, if_true, if_false, mm_H_45, mm_H_46, mm_H_47, mm_H_50, mm_H_53, mm_H_54, mm_H_55, mm_H_56, mm_H_57, mm_H_58, mm_H_66, mm_H_67, mm_H_68, eq_self]
      rw [c0]
      refine aw_iload_n dX0_climb_144 rfl ?_
      refine aw_aload_n dX0_climb_145 rfl ?_
      refine aw_get dX0_climb_146 fX0_19 rfl (hX.1 0 (by decide)) (by rfl) ?_
      refine aw_iload_n dX0_climb_149 rfl ?_
      refine xx_call0 dX0_climb_150 sX0_211 rfl hW hX (hq.mv hs hX0).xh hs (xh_brc hn hhv g5) rfl (hq.mv hs hX0).1 rfl rfl ⟨Nat.le_of_ble_eq_true rfl, Nat.le_of_ble_eq_true rfl⟩ (by exact Nat.le_of_ble_eq_true rfl) (fun h hX hs => ?_)
      try simp only [mm_n_N, mm_n_A, mm_n_V, mm_n_Fp, mm_n_W, mm_n_Nm, mm_a_N, mm_a_A, mm_a_V, mm_a_Fp, mm_a_W, mm_a_Nm, mm_v_N, mm_v_A, mm_v_V, mm_fp_N, mm_fp_A, mm_fp_Fp, mm_w_N, mm_w_W, Nat.reduceEqDiff, reduceIte, if_true, if_false, mm_H_45, mm_H_46, mm_H_47, mm_H_50, mm_H_53, mm_H_54, mm_H_55, mm_H_56, mm_H_57, mm_H_58, mm_H_66, mm_H_67, mm_H_68, eq_self]
      refine aw_imulN dX0_climb_153 ?_
      refine aw_isubN dX0_climb_154 (by omega) ?_
      refine xx_stS (i := 0) (b := 0) hW hX hs dX0_climb_155 (by decide) (by decide) (by omega) (fun h hX hs => ?_)
      have hX : XC G w h (mm_setA s1 45 B2) := xx_AU hX (by rw [hB2, Nat.mul_zero, Nat.zero_add])
      refine aw_aload_n dX0_climb_156 rfl ?_
      refine aw_get dX0_climb_157 fX0_28 rfl (hX.1 0 (by decide)) (by rfl) ?_
      refine aw_dup dX0_climb_160 rfl ?_
      refine aw_get dX0_climb_161 fX0_113 rfl (hX.st (i := 0) (by decide)) (by rfl) ?_
      try simp only [Nat.reduceMul, Nat.reduceAdd, Nat.zero_add]
      try simp only [mm_n_N, mm_n_A, mm_n_V, mm_n_Fp, mm_n_W, mm_n_Nm, mm_a_N, mm_a_A, mm_a_V, mm_a_Fp, mm_a_W, mm_a_Nm, mm_v_N, mm_v_A, mm_v_V, mm_fp_N, mm_fp_A, mm_fp_Fp, mm_w_N, mm_w_W, Nat.reduceEqDiff, reduceIte, if_true, if_false, mm_H_45, mm_H_46, mm_H_47, mm_H_50, mm_H_53, mm_H_54, mm_H_55, mm_H_56, mm_H_57, mm_H_58, mm_H_66, mm_H_67, mm_H_68, eq_self]
      have h24' : B2 24 < 2000000000 := by omega
      refine aw_iload_n dX0_climb_164 rfl ?_
      refine aw_iaddN dX0_climb_165 ?_
      refine xx_putS (i := 0) (k := 0) hW hX hs (by decide) (by decide) dX0_climb_166 (pX0_113 _) rfl rfl (fun h hX hs => ?_)
      have hX : XC G w h (mm_setA s1 45 (op_climbA H A t' a' c' n')) := xx_AU hX eF.symm
      refine aw_iload dX0_climb_169 rfl ?_
      refine aw_ireturn dX0_climb_171 rfl ?_
      exact xa_end hI2 hr hs hX (xr_eq_A rfl) mm_core.rf (by rw [eits])
    have cnt : sp_cnt H (mm_a s1 (45 + 0)) a' (sp_hvc H c') n' = sp_cnt H A a' (sp_hvc H c') n' := by rw [show 45 + 0 = 45 from rfl, a45]
    have cle : sp_cnt H A a' (sp_hvc H c') n' ≤ 999 := sp_cnt_le
    have go : ∀ h, XC G w h s1 → xx_same w h1 h → AW G (aw_rm 603 6 96) yX0_climb cX0_climb 6 (some .int) (aw_N G (xa_Po Z G w h0 H u (some (.int (nI (op_climbN H A t' a' c' n')))) (mm_setA s1 45 (op_climbA H A t' a' c' n'))) 6 96) 0 0 (h) 49 [(0, .ref (w.1 0)), (1, .int (nI t')), (2, .int (nI a')), (3, .int (sp_cv c')), (4, .int (nI n')), (5, .int (nI (sp_cnt H A a' (sp_hvc H c') n')))] [] := by
      intro h hX hs
      have flt := hfl t' (by omega)
      refine aw_aload_n dX0_climb_49 rfl ?_
      refine aw_get dX0_climb_50 fX0_28 rfl (hX.1 0 (by decide)) (by rfl) ?_
      refine aw_sipush (v := nI 137) dX0_climb_53 rfl ?_
      refine aw_aload_n dX0_climb_56 rfl ?_
      refine aw_get dX0_climb_57 fX0_28 rfl (hX.1 0 (by decide)) (by rfl) ?_
      refine aw_get dX0_climb_60 fX0_126 rfl (hX.st (i := 0) (by decide)) (by rfl) ?_
      try simp only [Nat.reduceMul, Nat.reduceAdd, Nat.zero_add]
      try simp only [mm_n_N, mm_n_A, mm_n_V, mm_n_Fp, mm_n_W, mm_n_Nm, mm_a_N, mm_a_A, mm_a_V, mm_a_Fp, mm_a_W, mm_a_Nm, mm_v_N, mm_v_A, mm_v_V, mm_fp_N, mm_fp_A, mm_fp_Fp, mm_w_N, mm_w_W, Nat.reduceEqDiff, reduceIte, if_true, if_false, mm_H_45, mm_H_46, mm_H_47, mm_H_50, mm_H_53, mm_H_54, mm_H_55, mm_H_56, mm_H_57, mm_H_58, mm_H_66, mm_H_67, mm_H_68, eq_self]
      rw [a45]
      refine aw_imulN dX0_climb_63 ?_
      refine aw_bipush (v := nI 71) dX0_climb_64 rfl ?_
      refine aw_iaddN dX0_climb_66 ?_
      refine aw_sipush (v := nI 1000) dX0_climb_67 rfl ?_
      refine aw_iremN dX0_climb_70 (by omega) (by omega) (by omega) ?_
      refine xx_putS (i := 0) (k := 3) hW hX hs (by decide) (by decide) dX0_climb_71 (pX0_126 _) rfl rfl (fun h hX hs => ?_)
      have hX : XC G w h (mm_setA s1 45 B) := hX.eqv (by rw [hB, a45]; unfold sp_seed; rw [Nat.mul_comm])
      refine aw_aload_n dX0_climb_74 rfl ?_
      refine aw_get dX0_climb_75 fX0_28 rfl (hX.1 0 (by decide)) (by rfl) ?_
      refine aw_get dX0_climb_78 fX0_126 rfl (hX.st (i := 0) (by decide)) (by rfl) ?_
      try simp only [Nat.reduceMul, Nat.reduceAdd, Nat.zero_add]
      try simp only [mm_n_N, mm_n_A, mm_n_V, mm_n_Fp, mm_n_W, mm_n_Nm, mm_a_N, mm_a_A, mm_a_V, mm_a_Fp, mm_a_W, mm_a_Nm, mm_v_N, mm_v_A, mm_v_V, mm_fp_N, mm_fp_A, mm_fp_Fp, mm_w_N, mm_w_W, Nat.reduceEqDiff, reduceIte, if_true, if_false, mm_H_45, mm_H_46, mm_H_47, mm_H_50, mm_H_53, mm_H_54, mm_H_55, mm_H_56, mm_H_57, mm_H_58, mm_H_66, mm_H_67, mm_H_68, eq_self]
      rw [b27]
      refine aw_bipush (v := nI 100) dX0_climb_81 rfl ?_
      refine aw_iremN dX0_climb_83 (by omega) (by omega) (by omega) ?_
      refine aw_aload_n dX0_climb_84 rfl ?_
      refine aw_get dX0_climb_85 fX0_19 rfl (hX.1 0 (by decide)) (by rfl) ?_
      refine aw_get dX0_climb_88 fX0_95 rfl (hq.mv hs hX0).1 (by rfl) ?_
      refine aw_iload_n dX0_climb_91 rfl ?_
      refine xx_get dX0_climb_92 sX0_98 rfl (hq.mv hs hX0) (by omega) ⟨Nat.le_of_ble_eq_true rfl, Nat.le_of_ble_eq_true rfl⟩ (by exact Nat.le_of_ble_eq_true rfl) ?_
      refine aw_castS (y := yX0_climb) dX0_climb_95 q378 aw_cl7 ((hq.mv hs hX0).ten (by omega)) ?_
      refine aw_get dX0_climb_98 fX0_201 rfl ((hq.mv hs hX0).ten (by omega)) (by rfl) ?_
      try simp only [mm_n_N, mm_n_A, mm_n_V, mm_n_Fp, mm_n_W, mm_n_Nm, mm_a_N, mm_a_A, mm_a_V, mm_a_Fp, mm_a_W, mm_a_Nm, mm_v_N, mm_v_A, mm_v_V, mm_fp_N, mm_fp_A, mm_fp_Fp, mm_w_N, mm_w_W, Nat.reduceEqDiff, reduceIte, if_true, if_false, mm_H_45, mm_H_46, mm_H_47, mm_H_50, mm_H_53, mm_H_54, mm_H_55, mm_H_56, mm_H_57, mm_H_58, mm_H_66, mm_H_67, mm_H_68, eq_self]
      refine aw_icmp_geN (tgt := 107) dX0_climb_101 (by decide) (by omega) (by omega) (fun c_101 => ?_) (fun c_101 => ?_)
      · first
        | exact tail2 _ h (by unfold op_climbN; rw [if_neg (by omega)]) cle hX hs
        | exact tail2 0 h (by unfold op_climbN; rw [if_pos (by omega)]) (Nat.zero_le _) hX hs
      · refine aw_iconst (v := nI 0) dX0_climb_104 rfl ?_
        refine aw_istore dX0_climb_105 (by decide) rfl rfl ?_
        first
        | exact tail2 _ h (by unfold op_climbN; rw [if_neg (by omega)]) cle hX hs
        | exact tail2 0 h (by unfold op_climbN; rw [if_pos (by omega)]) (Nat.zero_le _) hX hs
    refine aw_aload_n dX0_climb_18 rfl ?_
    refine aw_get dX0_climb_19 fX0_19 rfl (hX.1 0 (by decide)) (by rfl) ?_
    refine aw_aload_n dX0_climb_22 rfl ?_
    refine aw_get dX0_climb_23 fX0_28 rfl (hX.1 0 (by decide)) (by rfl) ?_
    refine aw_iload_n dX0_climb_26 rfl ?_
    refine aw_aload_n dX0_climb_27 rfl ?_
    refine aw_get dX0_climb_28 fX0_19 rfl (hX.1 0 (by decide)) (by rfl) ?_
    refine aw_iload_n dX0_climb_31 rfl ?_
    refine xx_call0 dX0_climb_32 sX0_217 rfl hW hX (hq.mv hs hX0).xh hs (xh_hvc hn g5) rfl (hq.mv hs hX0).1 rfl rfl ⟨Nat.le_of_ble_eq_true rfl, Nat.le_of_ble_eq_true rfl⟩ (by exact Nat.le_of_ble_eq_true rfl) (fun h hX hs => ?_)
    refine aw_iload dX0_climb_35 rfl ?_
    refine aw_aload_n dX0_climb_37 rfl ?_
    refine aw_get dX0_climb_38 fX0_28 rfl (hX.1 0 (by decide)) (by rfl) ?_
    refine aw_get dX0_climb_41 fX0_113 rfl (hX.st (i := 0) (by decide)) (by rfl) ?_
    try simp only [Nat.reduceMul, Nat.reduceAdd, Nat.zero_add]
    refine xx_call0 dX0_climb_44 sX0_220 rfl hW hX (hq.mv hs hX0).xh hs ((xh_cntS (i := 0) (a := a') (b := sp_hvc H c') (n := n') (by decide) (by omega)).eqv (r' := some (.int (nI (sp_cnt H A a' (sp_hvc H c') n')))) (by rw [cnt]) rfl) rfl (hq.mv hs hX0).1 rfl rfl ⟨Nat.le_of_ble_eq_true rfl, Nat.le_of_ble_eq_true rfl⟩ (by exact Nat.le_of_ble_eq_true rfl) (fun h hX hs => ?_)
    refine aw_istore dX0_climb_47 (by decide) rfl rfl ?_
    exact go h hX hs
  have no : ∀ h, XC G w h s → xx_same w h0 h → ¬ sp_can H (mm_a s 45) t a c nt → xa_Po Z G w h0 H u (some (.int (op_climb H (mm_a s 45) t a c nt))) (op_climbS s t a c nt) (some (.int (-1))) h := fun h hX hs z => xa_end hI9 hr hs hX xr_eq.rf (by rw [op_climbS, eH, aw_if0 z]; exact mm_core.rf) (by rw [op_climb, aw_if0 z])
  refine aw_aload_n dX0_climb_0 rfl ?_
  refine aw_iload_n dX0_climb_1 rfl ?_
  refine aw_iload_n dX0_climb_2 rfl ?_
  refine aw_iload_n dX0_climb_3 rfl ?_
  refine aw_iload dX0_climb_4 rfl ?_
  refine xx_call0 dX0_climb_6 sX0_213 rfl hW hX (hq.mv hs hX0).xh hs (xo_can (dc := Classical.propDecidable _) hOK hA) rfl (hX.1 0 (by decide)) rfl rfl ⟨Nat.le_of_ble_eq_true rfl, Nat.le_of_ble_eq_true rfl⟩ (by exact Nat.le_of_ble_eq_true rfl) (fun h hX hs => ?_)
  refine aw_if_neB (tgt := 14) dX0_climb_9 (by decide) (fun c_9 => ?_) (fun c_9 => ?_)
  · refine aw_aload_n dX0_climb_14 rfl ?_
    refine xa_callX (kc := 0) (ks := 0) (mc2 := 6) (ms2 := 96) dX0_climb_15 sX0_224 rfl (hI9.mv hs hX xr_eq.rf) (hr.tr hs.r) xb_keep rfl (hX.1 0 (by decide)) rfl rfl ⟨Nat.le_of_ble_eq_true rfl, Nat.le_of_ble_eq_true rfl⟩ (by exact Nat.le_of_ble_eq_true rfl) (fun h hI1 hr => ?_)
    exact tail h hI1 hr c_9
  · refine aw_iconst (v := -1) dX0_climb_12 rfl ?_
    refine aw_ireturn dX0_climb_13 rfl ?_
    exact no h hX hs c_9

