set_option maxRecDepth 100000
/-! the component: let -/
set_option maxHeartbeats 4000000 in
theorem xo_let {s : mm_S} {H : sp_H} {u : Nat} (hOK : sp_okH H) (hhs : ∀ i, i < sp_hn H → sp_lv H i ≤ sp_hs H) (eH : mm_H s = H) : xx_Op yX0_let cX0_let 1 (some .int) 15 0 0 (fun w => [.ref (w.1 0)]) s H u (some (.int (op_let H))) (op_letS s) := by
  refine xx_Op.of (by decide +kernel) (fun _ => Nat.le_of_ble_eq_true rfl) (fun G w h0 hW hX hH => ?_)
  have hX0 := hX
  have hs : xx_same w h0 h0 := xx_same.rf
  obtain ⟨tl, te, cap, m9, f9, tn, nm9, c9, mo9, D9, hq⟩ := hH
  show AW G (aw_rm 15 0 0) yX0_let cX0_let 1 (some .int) (aw_N G (xx_PoC G w h0 (some (.int (op_let H))) (op_letS s)) 0 0) 0 0 h0 0 [(0, .ref (w.1 0))] []
  have hs1 : 1 ≤ sp_hs H := hOK.1.1; have hs20 : sp_hs H ≤ 20 := hOK.1.2; have hn : sp_hn H ≤ 8 := hOK.2.1; have hlv : ∀ t, t < 8 → sp_lv H t ≤ 20 := fun t ht => (hOK.2.2.1 t ht).1; have hsg : ∀ t, t < 8 → sp_sg8 H t ≤ 40 := fun t ht => (hOK.2.2.1 t ht).2.1; have hhv : ∀ t, t < 8 → sp_hv H t ≤ 9 := fun t ht => (hOK.2.2.1 t ht).2.2.1; have how : ∀ t, t < 8 → sp_ow H t ≤ 999 := fun t ht => (hOK.2.2.1 t ht).2.2.2.1; have hfl : ∀ t, t < 8 → sp_fl H t ≤ 100 := fun t ht => (hOK.2.2.1 t ht).2.2.2.2
  have e42 : mm_n s 42 = sp_hn H := by rw [← eH]; rfl
  have e32 : mm_a s 32 = sp_lv H := by rw [← eH]; rfl
  by_cases z : sp_hn H = 0
  ·
    refine aw_aload_n dX0_let_0 rfl ?_
    refine aw_iconst (v := nI 0) dX0_let_1 rfl ?_
    refine xx_put0 (k := 52) hW hX hs dX0_let_2 (pX0_132 _) rfl rfl (by decide) (by decide) (by decide) rfl (fun h hX hs => ?_)
    refine aw_aload_n dX0_let_5 rfl ?_
    refine xx_call0 dX0_let_6 sX0_91 rfl hW hX (hq.mv hs hX0).xh hs xo_many rfl (hX.1 0 (by decide)) rfl rfl ⟨Nat.le_of_ble_eq_true rfl, Nat.le_of_ble_eq_true rfl⟩ (by exact Nat.le_of_ble_eq_true rfl) (fun h hX hs => ?_)
    try simp only [mm_n_N, mm_n_A, mm_n_V, mm_n_Fp, mm_n_W, mm_n_Nm, mm_a_N, mm_a_A, mm_a_V, mm_a_Fp, mm_a_W, mm_a_Nm, mm_v_N, mm_v_A, mm_v_V, mm_fp_N, mm_fp_A, mm_fp_Fp, mm_w_N, mm_w_W, Nat.reduceEqDiff, reduceIte, if_true, if_false, mm_H_45, mm_H_46, mm_H_47, mm_H_50, mm_H_53, mm_H_54, mm_H_55, mm_H_56, mm_H_57, mm_H_58, mm_H_66, mm_H_67, mm_H_68, eq_self]
    refine aw_if_neN (tgt := 14) dX0_let_9 (by decide) (by omega) (fun c_9 => by exfalso; omega) (fun c_9 => ?_)
    refine aw_iconst (v := -1) dX0_let_12 rfl ?_
    refine aw_ireturn dX0_let_13 rfl ?_
    refine ⟨by rw [op_let, if_pos z], _, ?_, hX, hs⟩
    rw [op_letS, e42, if_pos z]
    exact mm_core.rf
  · obtain ⟨s1, hs1'⟩ : ∃ s1, s1 = mm_setN s 52 0 := ⟨_, rfl⟩
    have cal := xo_gt (H := H) (u := u) hOK (sp_hn H) 0 0 0 0 s1 (Nat.zero_add _) (by decide) (Nat.le_refl _) (Nat.zero_le _) (by rw [hs1']; exact ⟨fun q => absurd q (Nat.lt_irrefl 0), Nat.zero_le 8⟩)
    have i0 : sp_tI H s (sp_bef 0 (fun _ => 0)) s1 := by
      rw [hs1']
      refine ⟨⟨fun k hk => rfl, rfl, fun k hk => rfl, fun k hk => ?_⟩, Or.inl ⟨rfl, rfl, fun g _ hq => ?_⟩⟩
      · show (if k = 51 then mm_v s 51 else mm_v s k) = mm_v s k
        split
        · rename_i e; rw [e]
        · rfl
      · obtain ⟨p, p1, _⟩ := hq
        exact Nat.not_lt_zero p p1
    have u0 : sp_us H 0 0 (fun _ => 0) := by
      have e0 : ∀ n (f : Nat → Nat), (∀ j, f j = 0) → sp_sum f n = 0 := by
        intro n f hf
        induction n with
        | zero => rfl
        | succ n ih => unfold sp_sum; rw [ih, hf]
      refine ⟨fun v => ?_, ?_⟩
      · show 0 = _
        exact (e0 _ _ (fun j => by rw [Nat.zero_div]; exact if_neg (fun q => absurd q.1 (by decide)))).symm
      · exact e0 _ _ (fun j => by rw [Nat.zero_div])
    have law := (sp_gt_law (s0 := s) (by omega) (fun i hi => hlv i (by omega)) hhs hs20 (fun i hi => how i (by omega)) (sp_hn H) 0 0 0 0 (fun _ => 0) s1 (Nat.zero_add _) u0 (fun q => absurd q (Nat.lt_irrefl 0)) (fun j hj => absurd hj (Nat.not_lt_zero _)) i0).1
    generalize sp_gt H (sp_hn H) 0 0 0 0 s1 = s2 at cal law
    rw [hs1'] at cal
    obtain ⟨L, l1, l2, l3, l4, l5⟩ : ∃ L, mm_n s2 52 = sp_hn H ∧ sp_pm (sp_hn H) (sp_lv H) L ∧ mm_n s2 71 = sp_unev H L ∧ (mm_v s2 51 = fun j => if j < sp_hn H then nI (L j) else mm_v s 51 j) ∧ ∀ g, sp_pm (sp_hn H) (sp_lv H) g → sp_unev H L ≤ sp_unev H g ∧ (sp_unev H g = sp_unev H L → sp_cd L (sp_hn H) ≤ sp_cd g (sp_hn H)) := by
      rcases law.2 with ⟨a1, a2, a3⟩ | ⟨a1, L, a2, a3, a4, a5, a6⟩
      · exact absurd (Or.inr (fun j hj => absurd hj (Nat.not_lt_zero _))) (a3 (sp_lv H) sp_pm.rf)
      · exact ⟨L, a1, a3, a4, a5, fun g hg => a6 g hg (Or.inr (fun j hj => absurd hj (Nat.not_lt_zero _)))⟩
    have eL : sp_let (sp_hn H) (sp_unev H) (sp_lv H) = sp_trim (sp_hn H) L := by
      refine sp_let_eq (fun i hi => hlv i (by omega)) ⟨sp_pm_c l2 (fun i hi => (sp_trim_at hi).symm), fun g hg => ?_, fun j hj => if_neg (by omega)⟩
      rw [sp_unev_c (H := H) (f := sp_trim (sp_hn H) L) (g := L) (fun k hk => sp_trim_at hk), sp_cd_c (f := sp_trim (sp_hn H) L) (g := L) (fun k hk => sp_trim_at hk)]
      exact l5 g hg
    have eU : sp_unev H (sp_let (sp_hn H) (sp_unev H) (sp_lv H)) = sp_unev H L := by
      rw [eL]
      exact sp_unev_c (fun k hk => sp_trim_at hk)
    have c9 := law.1
    rw [l1, l4] at c9
    have e0 : nI 0 = 0 := rfl
    refine aw_aload_n dX0_let_0 rfl ?_
    refine aw_iconst (v := nI 0) dX0_let_1 rfl ?_
    refine xx_put0 (k := 52) hW hX hs dX0_let_2 (pX0_132 _) rfl rfl (by decide) (by decide) (by decide) rfl (fun h hX hs => ?_)
    refine aw_aload_n dX0_let_5 rfl ?_
    refine xx_call0 dX0_let_6 sX0_91 rfl hW hX (hq.mv hs hX0).xh hs xo_many rfl (hX.1 0 (by decide)) rfl rfl ⟨Nat.le_of_ble_eq_true rfl, Nat.le_of_ble_eq_true rfl⟩ (by exact Nat.le_of_ble_eq_true rfl) (fun h hX hs => ?_)
    try simp only [mm_n_N, mm_n_A, mm_n_V, mm_n_Fp, mm_n_W, mm_n_Nm, mm_a_N, mm_a_A, mm_a_V, mm_a_Fp, mm_a_W, mm_a_Nm, mm_v_N, mm_v_A, mm_v_V, mm_fp_N, mm_fp_A, mm_fp_Fp, mm_w_N, mm_w_W, Nat.reduceEqDiff, reduceIte, if_true, if_false, mm_H_45, mm_H_46, mm_H_47, mm_H_50, mm_H_53, mm_H_54, mm_H_55, mm_H_56, mm_H_57, mm_H_58, mm_H_66, mm_H_67, mm_H_68, eq_self]
    refine aw_if_neN (tgt := 14) dX0_let_9 (by decide) (by omega) (fun c_9 => ?_) (fun c_9 => by exfalso; omega)
    refine aw_aload_n dX0_let_14 rfl ?_
    refine aw_iconst (v := nI 0) dX0_let_15 rfl ?_
    refine aw_iconst (v := nI 0) dX0_let_16 rfl ?_
    refine aw_iconst (v := nI 0) dX0_let_17 rfl ?_
    refine aw_iconst (v := nI 0) dX0_let_18 rfl ?_
    refine xx_call0 dX0_let_19 sX0_308 rfl hW hX (hq.mv hs hX0).xh hs cal rfl (hX.1 0 (by decide)) rfl rfl ⟨by show _ ≤ 15; omega, by show _ ≤ 64 * 15; omega⟩ (by exact Nat.le_of_ble_eq_true rfl) (fun h hX hs => ?_)
    refine aw_aload_n dX0_let_22 rfl ?_
    refine aw_get dX0_let_23 fX0_302 rfl (hX.1 0 (by decide)) (by rfl) ?_
    try simp only [mm_n_N, mm_n_A, mm_n_V, mm_n_Fp, mm_n_W, mm_n_Nm, mm_a_N, mm_a_A, mm_a_V, mm_a_Fp, mm_a_W, mm_a_Nm, mm_v_N, mm_v_A, mm_v_V, mm_fp_N, mm_fp_A, mm_fp_Fp, mm_w_N, mm_w_W, Nat.reduceEqDiff, reduceIte, if_true, if_false, mm_H_45, mm_H_46, mm_H_47, mm_H_50, mm_H_53, mm_H_54, mm_H_55, mm_H_56, mm_H_57, mm_H_58, mm_H_66, mm_H_67, mm_H_68, eq_self]
    refine aw_ireturn dX0_let_26 rfl ?_
    refine ⟨by rw [op_let, if_neg z, eU, l3], s2, ?_, hX, hs⟩
    rw [op_letS, e42, if_neg z, eH, e32]
    have e9 : (fun j => if j < sp_hn H then nI (sp_let (sp_hn H) (sp_unev H) (sp_lv H) j) else mm_v s 51 j) = fun j => if j < sp_hn H then nI (L j) else mm_v s 51 j := by
      funext j
      by_cases hj : j < sp_hn H
      · rw [if_pos hj, if_pos hj, eL, sp_trim_at hj]
      · rw [if_neg hj, if_neg hj]
    rw [e9]
    exact c9

