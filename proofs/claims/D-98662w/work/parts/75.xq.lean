set_option maxRecDepth 100000
/-! the component: calls that ask, the first ones -/
theorem aw_u_id {α : Type} (A : Nat → α) (k : Nat) : aw_u A k (A k) = A := by
  funext j
  unfold aw_u
  split
  · rename_i z; rw [z]
  · rfl
theorem sp_lk_b {a : Nat} (h : a ≤ 999) : (nI a + nI 0).toNatClampNeg = a := by rw [nI_add, Nat.add_zero, nI_clamp (by omega)]
set_option maxHeartbeats 4000000 in
theorem xo_lack {s : mm_S} {H : sp_H} {u : Nat} {t N : Nat} (hOK : sp_okH H) (hA : sp_okA N (mm_a s 45)) (hN : N ≤ 10000000) (ht : t < sp_hn H) : xx_Met yX0_lackOf cX0_lackOf 2 (some .int) 5 0 0 (fun w => [.ref (w.1 0), .int (nI (t))]) s H u (some (.int (nI (sp_lack H (mm_a s 45) t)))) (s) := by
  refine xx_Met.of (by decide +kernel) (fun _ => Nat.le_of_ble_eq_true rfl) (fun G w h0 hW hX hH => ?_)
  have hX0 := hX
  have hs : xx_same w h0 h0 := xx_same.rf
  obtain ⟨tl, te, cap, m9, f9, tn, nm9, c9, mo9, D9, hq⟩ := hH
  show AW G (aw_rm 5 0 0) yX0_lackOf cX0_lackOf 2 (some .int) (aw_N G (xx_Po G w h0 (some (.int (nI (sp_lack H (mm_a s 45) t)))) (s)) 0 0) 0 0 h0 0 [(0, .ref (w.1 0)), (1, .int (nI (t)))] []
  have hs1 : 1 ≤ sp_hs H := hOK.1.1; have hs20 : sp_hs H ≤ 20 := hOK.1.2; have hn : sp_hn H ≤ 8 := hOK.2.1; have hlv : ∀ t, t < 8 → sp_lv H t ≤ 20 := fun t ht => (hOK.2.2.1 t ht).1; have hsg : ∀ t, t < 8 → sp_sg8 H t ≤ 40 := fun t ht => (hOK.2.2.1 t ht).2.1; have hhv : ∀ t, t < 8 → sp_hv H t ≤ 9 := fun t ht => (hOK.2.2.1 t ht).2.2.1; have how : ∀ t, t < 8 → sp_ow H t ≤ 999 := fun t ht => (hOK.2.2.1 t ht).2.2.2.1; have hfl : ∀ t, t < 8 → sp_fl H t ≤ 100 := fun t ht => (hOK.2.2.1 t ht).2.2.2.2
  have hb : ∀ t, t < 8 → mm_a s 45 t ≤ 40 := fun t ht => (hA.1 t ht).1; have hp : ∀ t, t < 8 → mm_a s 45 (8 + t) ≤ 9999 := fun t ht => (hA.1 t ht).2.1; have hd : ∀ t, t < 8 → mm_a s 45 (16 + t) ≤ N := fun t ht => (hA.1 t ht).2.2; have h24 : mm_a s 45 24 ≤ N := hA.2.1; have h25 : mm_a s 45 25 ≤ 20 := hA.2.2.1; have h26 : mm_a s 45 26 ≤ N := hA.2.2.2.1; have h27 : mm_a s 45 27 ≤ 999 := hA.2.2.2.2
  have w1 := how t (by omega)
  have d1 := hd t (by omega)
  have p1 := hp t (by omega)
  refine aw_aload_n dX0_lackOf_0 rfl ?_
  refine aw_get dX0_lackOf_1 fX0_28 rfl (hX.1 0 (by decide)) (by rfl) ?_
  refine aw_aload_n dX0_lackOf_4 rfl ?_
  refine aw_get dX0_lackOf_5 fX0_19 rfl (hX.1 0 (by decide)) (by rfl) ?_
  refine aw_iload_n dX0_lackOf_8 rfl ?_
  refine aw_iconst (v := nI 0) dX0_lackOf_9 rfl ?_
  refine xx_call0 dX0_lackOf_10 sX0_184 rfl hW hX (hq.mv hs hX0).xh hs ((xs_lack (i := 0) (t := t) (m := nI 0) (by decide) hn ht (by rw [sp_lk_b w1]; show sp_ow H t + mm_a s 45 (16 + t) < _; omega) (by show mm_a s 45 (8 + t) < _; omega)).eqv (r' := some (.int (nI (sp_lack H (mm_a s 45) t)))) (by rw [sp_lk_0 w1]) rfl) rfl (hX.st (i := 0) (by decide)) rfl rfl ⟨Nat.le_of_ble_eq_true rfl, Nat.le_of_ble_eq_true rfl⟩ (by exact Nat.le_of_ble_eq_true rfl) (fun h hX hs => ?_)
  refine aw_ireturn dX0_lackOf_13 rfl ?_
  exact ⟨rfl, hX, hs⟩
set_option maxHeartbeats 4000000 in
theorem xh_hvc {s : mm_S} {H : sp_H} {u : Nat} {c : Nat} (hn : sp_hn H ≤ 8) (hc : c ≤ sp_hn H) : xx_Met yX1_heavyOf cX1_heavyOf 2 (some .int) 4 0 0 (fun w => [.ref (w.1 16), .int ((sp_cv c))]) s H u (some (.int (nI (sp_hvc H c)))) (s) := by
  refine xx_Met.of (by decide +kernel) (fun _ => Nat.le_of_ble_eq_true rfl) (fun G w h0 hW hX hH => ?_)
  have hX0 := hX
  have hs : xx_same w h0 h0 := xx_same.rf
  obtain ⟨tl, te, cap, m9, f9, tn, nm9, c9, mo9, D9, hq⟩ := hH
  show AW G (aw_rm 4 0 0) yX1_heavyOf cX1_heavyOf 2 (some .int) (aw_N G (xx_Po G w h0 (some (.int (nI (sp_hvc H c)))) (s)) 0 0) 0 0 h0 0 [(0, .ref (w.1 16)), (1, .int ((sp_cv c)))] []
  cases c with
  | zero =>
    refine aw_iload_n dX1_heavyOf_0 rfl ?_
    refine aw_if_ge (tgt := 8) dX1_heavyOf_1 (by decide) (fun c_1 => by exfalso; exact absurd c_1 (by decide)) (fun c_1 => ?_)
    refine aw_iconst (v := nI 0) dX1_heavyOf_4 rfl ?_
    refine aw_goto (tgt := 22) dX1_heavyOf_5 (by decide) ?_
    refine aw_ireturn dX1_heavyOf_22 rfl ?_
    exact ⟨rfl, hX, hs⟩
  | succ k =>
    simp only [sp_cv_s]
    refine aw_iload_n dX1_heavyOf_0 rfl ?_
    refine aw_if_geN (tgt := 8) dX1_heavyOf_1 (by decide) (by omega) ?_
    refine aw_aload_n dX1_heavyOf_8 rfl ?_
    refine aw_get dX1_heavyOf_9 fX1_12 rfl (hq.mv hs hX0).1 (by rfl) ?_
    refine aw_iload_n dX1_heavyOf_12 rfl ?_
    refine xx_get dX1_heavyOf_13 sX1_79 rfl (hq.mv hs hX0) (by omega) ⟨Nat.le_of_ble_eq_true rfl, Nat.le_of_ble_eq_true rfl⟩ (by exact Nat.le_of_ble_eq_true rfl) ?_
    refine aw_castS (y := yX1_heavyOf) dX1_heavyOf_16 q917 aw_cl7 ((hq.mv hs hX0).ten (by omega)) ?_
    refine aw_get dX1_heavyOf_19 fX1_76 rfl ((hq.mv hs hX0).ten (by omega)) (by rfl) ?_
    refine aw_ireturn dX1_heavyOf_22 rfl ?_
    exact ⟨rfl, hX, hs⟩
set_option maxHeartbeats 4000000 in
theorem xh_brc {s : mm_S} {H : sp_H} {u : Nat} {c : Nat} (hn : sp_hn H ≤ 8) (hv : ∀ t, t < 8 → sp_hv H t ≤ 9) (hc : c ≤ sp_hn H) : xx_Met yX1_breath cX1_breath 2 (some .int) 5 0 0 (fun w => [.ref (w.1 16), .int ((sp_cv c))]) s H u (some (.int (nI (sp_brc H c)))) (s) := by
  refine xx_Met.of (by decide +kernel) (fun _ => Nat.le_of_ble_eq_true rfl) (fun G w h0 hW hX hH => ?_)
  have hX0 := hX
  have hs : xx_same w h0 h0 := xx_same.rf
  obtain ⟨tl, te, cap, m9, f9, tn, nm9, c9, mo9, D9, hq⟩ := hH
  show AW G (aw_rm 5 0 0) yX1_breath cX1_breath 2 (some .int) (aw_N G (xx_Po G w h0 (some (.int (nI (sp_brc H c)))) (s)) 0 0) 0 0 h0 0 [(0, .ref (w.1 16)), (1, .int ((sp_cv c)))] []
  have b : sp_hvc H c ≤ 9 := by
    unfold sp_hvc
    split
    · omega
    · exact hv _ (by omega)
  refine aw_iconst (v := nI 1) dX1_breath_0 rfl ?_
  refine aw_aload_n dX1_breath_1 rfl ?_
  refine aw_iload_n dX1_breath_2 rfl ?_
  refine xx_call0 dX1_breath_3 sX1_83 rfl hW hX (hq.mv hs hX0).xh hs (xh_hvc hn hc) rfl (hq.mv hs hX0).1 rfl rfl ⟨Nat.le_of_ble_eq_true rfl, Nat.le_of_ble_eq_true rfl⟩ (by exact Nat.le_of_ble_eq_true rfl) (fun h hX hs => ?_)
  refine aw_iconst (v := nI 3) dX1_breath_6 rfl ?_
  refine aw_idivN dX1_breath_7 (by omega) (by omega) (by omega) ?_
  refine aw_iaddN dX1_breath_8 ?_
  refine aw_ireturn dX1_breath_9 rfl ?_
  refine ⟨?_, hX, hs⟩
  unfold sp_brc sp_hvc
  by_cases z : c = 0
  · rw [if_pos z, if_pos z]
  · rw [if_neg z, if_neg z]
set_option maxHeartbeats 4000000 in
theorem xo_can {s : mm_S} {H : sp_H} {u : Nat} {t a c nt : Int32} {dc : Decidable (sp_can H (mm_a s 45) t a c nt)} {N : Nat} (hOK : sp_okH H) (hA : sp_okA N (mm_a s 45)) : xx_Met yX0_canClimb cX0_canClimb 5 (some .boolean) 6 0 0 (fun w => [.ref (w.1 0), .int (t), .int (a), .int (c), .int (nt)]) s H u (some (.int (nI (aw_t (sp_can H (mm_a s 45) t a c nt))))) (s) := by
  refine xx_Met.of (by decide +kernel) (fun _ => Nat.le_of_ble_eq_true rfl) (fun G w h0 hW hX hH => ?_)
  have hX0 := hX
  have hs : xx_same w h0 h0 := xx_same.rf
  obtain ⟨tl, te, cap, m9, f9, tn, nm9, c9, mo9, D9, hq⟩ := hH
  show AW G (aw_rm 6 0 0) yX0_canClimb cX0_canClimb 5 (some .boolean) (aw_N G (xx_Po G w h0 (some (.int (nI (aw_t (sp_can H (mm_a s 45) t a c nt))))) (s)) 0 0) 0 0 h0 0 [(0, .ref (w.1 0)), (1, .int (t)), (2, .int (a)), (3, .int (c)), (4, .int (nt))] []
  have hs1 : 1 ≤ sp_hs H := hOK.1.1; have hs20 : sp_hs H ≤ 20 := hOK.1.2; have hn : sp_hn H ≤ 8 := hOK.2.1; have hlv : ∀ t, t < 8 → sp_lv H t ≤ 20 := fun t ht => (hOK.2.2.1 t ht).1; have hsg : ∀ t, t < 8 → sp_sg8 H t ≤ 40 := fun t ht => (hOK.2.2.1 t ht).2.1; have hhv : ∀ t, t < 8 → sp_hv H t ≤ 9 := fun t ht => (hOK.2.2.1 t ht).2.2.1; have how : ∀ t, t < 8 → sp_ow H t ≤ 999 := fun t ht => (hOK.2.2.1 t ht).2.2.2.1; have hfl : ∀ t, t < 8 → sp_fl H t ≤ 100 := fun t ht => (hOK.2.2.1 t ht).2.2.2.2
  have hb : ∀ t, t < 8 → mm_a s 45 t ≤ 40 := fun t ht => (hA.1 t ht).1; have hp : ∀ t, t < 8 → mm_a s 45 (8 + t) ≤ 9999 := fun t ht => (hA.1 t ht).2.1; have hd : ∀ t, t < 8 → mm_a s 45 (16 + t) ≤ N := fun t ht => (hA.1 t ht).2.2; have h24 : mm_a s 45 24 ≤ N := hA.2.1; have h25 : mm_a s 45 25 ≤ 20 := hA.2.2.1; have h26 : mm_a s 45 26 ≤ N := hA.2.2.2.1; have h27 : mm_a s 45 27 ≤ 999 := hA.2.2.2.2
  have e41 : (nI (sp_hs H)).toInt = sp_hs H := aw_ti (by omega)
  have e1 : (nI 1).toInt = 1 := rfl
  have e0 : (nI 0).toInt = 0 := rfl
  have em : (-1 : Int32).toInt = -1 := rfl
  have e42 : (nI (sp_hn H) - nI 1).toInt = (sp_hn H : Int) - 1 := pk_sub_toInt (by omega) (by omega)
  have no : ∀ (h : aw_H), XC G w h s → xx_same w h0 h → ¬ sp_can H (mm_a s 45) t a c nt → xx_Po G w h0 (some (.int (nI (aw_t (sp_can H (mm_a s 45) t a c nt))))) s (some (.int (nI 0))) h := fun h hX hs q => ⟨by rw [aw_t0 q], hX, hs⟩
  have go : ∀ (h : aw_H), XC G w h s → xx_same w h0 h → (0 ≤ t.toInt ∧ t.toInt < (sp_hn H : Int)) → (1 ≤ a.toInt ∧ a.toInt ≤ (sp_hs H : Int)) → (0 ≤ nt.toInt ∧ nt.toInt ≤ 1) → (-1 ≤ c.toInt ∧ c.toInt < (sp_hn H : Int)) → c ≠ t → AW G (aw_rm 6 0 0) yX0_canClimb cX0_canClimb 5 (some .boolean) (aw_N G (xx_Po G w h0 (some (.int (nI (aw_t (sp_can H (mm_a s 45) t a c nt))))) (s)) 0 0) 0 0 h 54 [(0, .ref (w.1 0)), (1, .int t), (2, .int a), (3, .int c), (4, .int nt)] [] := by
    intro h hX hs g1 g2 g3 g4 hne
    obtain ⟨t', ht, rfl, t1, t2⟩ := aw_ofN g1.1
    obtain ⟨a', ha, rfl, a1, a2⟩ := aw_ofN (x := a) (by omega)
    obtain ⟨c', hc', rfl, hc2⟩ : ∃ c' : Nat, c' ≤ sp_hn H ∧ c = sp_cv c' ∧ c' = (c.toInt + 1).toNat := by
      refine ⟨(c.toInt + 1).toNat, by omega, ?_, rfl⟩
      unfold sp_cv
      by_cases z : (c.toInt + 1).toNat = 0
      · rw [if_pos z]
        exact Int32.toInt_inj.mp (by rw [em]; omega)
      · rw [if_neg z, aw_eqi (by omega)]
        omega
    have hb9 : a' * sp_brc H c' < 2147483648 := by
      have : sp_brc H c' ≤ 4 := (sp_brc_le hhv (by omega)).2
      have : a' * sp_brc H c' ≤ 20 * 4 := Nat.mul_le_mul (by omega) this
      omega
    have hA' := hb t' (by omega)
    have hP : sp_can H (mm_a s 45) (nI t') (nI a') (sp_cv c') nt ↔ a' * sp_brc H c' ≤ mm_a s 45 t' := by
      unfold sp_can
      rw [a2, t2, ← hc2]
      exact ⟨fun q => q.2.2.2.2.2, fun q => ⟨g1, g2, g3, g4, hne, q⟩⟩
    refine aw_iload_n dX0_canClimb_54 rfl ?_
    refine aw_aload_n dX0_canClimb_55 rfl ?_
    refine aw_get dX0_canClimb_56 fX0_19 rfl (hX.1 0 (by decide)) (by rfl) ?_
    refine aw_iload_n dX0_canClimb_59 rfl ?_
    refine xx_call0 dX0_canClimb_60 sX0_211 rfl hW hX (hq.mv hs hX0).xh hs (xh_brc hn hhv hc') rfl (hq.mv hs hX0).1 rfl rfl ⟨Nat.le_of_ble_eq_true rfl, Nat.le_of_ble_eq_true rfl⟩ (by exact Nat.le_of_ble_eq_true rfl) (fun h hX hs => ?_)
    refine aw_imulN dX0_canClimb_63 ?_
    refine aw_aload_n dX0_canClimb_64 rfl ?_
    refine aw_get dX0_canClimb_65 fX0_28 rfl (hX.1 0 (by decide)) (by rfl) ?_
    refine aw_get dX0_canClimb_68 fX0_88 rfl (hX.st (i := 0) (by decide)) (by rfl) ?_
    refine aw_iload_n dX0_canClimb_71 rfl ?_
    refine xx_ialdS (i := 0) (b := 0) dX0_canClimb_72 hX (by decide) (by decide) (by omega) ?_
    try simp only [Nat.reduceMul, Nat.reduceAdd, Nat.zero_add]
    refine aw_icmp_gtN (tgt := 80) dX0_canClimb_73 (by decide) (by omega) (by omega) (fun c_73 => ?_) (fun c_73 => ?_)
    · refine aw_iconst (v := nI 0) dX0_canClimb_80 rfl ?_
      refine aw_zreturn dX0_canClimb_81 rfl rfl ?_
      exact ⟨by first | rw [aw_t0 (fun q => absurd (hP.mp q) (by omega))] | rw [aw_t1 (hP.mpr (by omega))], hX, hs⟩
    · refine aw_iconst (v := nI 1) dX0_canClimb_76 rfl ?_
      refine aw_goto (tgt := 81) dX0_canClimb_77 (by decide) ?_
      refine aw_zreturn dX0_canClimb_81 rfl rfl ?_
      exact ⟨by first | rw [aw_t0 (fun q => absurd (hP.mp q) (by omega))] | rw [aw_t1 (hP.mpr (by omega))], hX, hs⟩
  refine aw_aload_n dX0_canClimb_0 rfl ?_
  refine aw_iload_n dX0_canClimb_1 rfl ?_
  refine xx_call0 dX0_canClimb_2 sX0_188 rfl hW hX (hq.mv hs hX0).xh hs (xo_isT hn) rfl (hX.1 0 (by decide)) rfl rfl ⟨Nat.le_of_ble_eq_true rfl, Nat.le_of_ble_eq_true rfl⟩ (by exact Nat.le_of_ble_eq_true rfl) (fun h hX hs => ?_)
  refine aw_if_eqB (tgt := 52) dX0_canClimb_5 (by decide) (fun c_5 => ?_) (fun c_5 => ?_)
  · refine aw_iconst (v := nI 0) dX0_canClimb_52 rfl ?_
    refine aw_zreturn dX0_canClimb_53 rfl rfl ?_
    exact no h hX hs (fun q => by unfold sp_can at q; first | exact c_5 q.1 | exact q.2.2.2.2.1 c_39 | omega)
  · refine aw_iload_n dX0_canClimb_8 rfl ?_
    refine aw_iconst (v := nI 1) dX0_canClimb_9 rfl ?_
    refine aw_aload_n dX0_canClimb_10 rfl ?_
    refine aw_get dX0_canClimb_11 fX0_19 rfl (hX.1 0 (by decide)) (by rfl) ?_
    refine aw_get dX0_canClimb_14 fX0_208 rfl (hq.mv hs hX0).1 (by rfl) ?_
    refine aw_callP (r := _) dX0_canClimb_17 sX0_155 rfl (xp_isIn) rfl rfl ⟨Nat.le_of_ble_eq_true rfl, Nat.le_of_ble_eq_true rfl⟩ (Nat.le_of_ble_eq_true rfl) ?_
    refine aw_if_eqB (tgt := 52) dX0_canClimb_20 (by decide) (fun c_20 => ?_) (fun c_20 => ?_)
    · refine aw_iconst (v := nI 0) dX0_canClimb_52 rfl ?_
      refine aw_zreturn dX0_canClimb_53 rfl rfl ?_
      exact no h hX hs (fun q => by unfold sp_can at q; first | exact c_5 q.1 | exact q.2.2.2.2.1 c_39 | omega)
    · refine aw_iload_n dX0_canClimb_23 rfl ?_
      refine aw_iconst (v := -1) dX0_canClimb_24 rfl ?_
      refine aw_aload_n dX0_canClimb_25 rfl ?_
      refine xx_call0 dX0_canClimb_26 sX0_91 rfl hW hX (hq.mv hs hX0).xh hs (xo_many) rfl (hX.1 0 (by decide)) rfl rfl ⟨Nat.le_of_ble_eq_true rfl, Nat.le_of_ble_eq_true rfl⟩ (by exact Nat.le_of_ble_eq_true rfl) (fun h hX hs => ?_)
      refine aw_iconst (v := nI 1) dX0_canClimb_29 rfl ?_
      refine aw_isub dX0_canClimb_30 ?_
      refine aw_callP (r := _) dX0_canClimb_31 sX0_155 rfl (xp_isIn) rfl rfl ⟨Nat.le_of_ble_eq_true rfl, Nat.le_of_ble_eq_true rfl⟩ (Nat.le_of_ble_eq_true rfl) ?_
      refine aw_if_eqB (tgt := 52) dX0_canClimb_34 (by decide) (fun c_34 => ?_) (fun c_34 => ?_)
      · refine aw_iconst (v := nI 0) dX0_canClimb_52 rfl ?_
        refine aw_zreturn dX0_canClimb_53 rfl rfl ?_
        exact no h hX hs (fun q => by unfold sp_can at q; first | exact c_5 q.1 | exact q.2.2.2.2.1 c_39 | omega)
      · refine aw_iload_n dX0_canClimb_37 rfl ?_
        refine aw_iload_n dX0_canClimb_38 rfl ?_
        refine aw_icmp_eq (tgt := 52) dX0_canClimb_39 (by decide) (fun c_39 => ?_) (fun c_39 => ?_)
        · refine aw_iconst (v := nI 0) dX0_canClimb_52 rfl ?_
          refine aw_zreturn dX0_canClimb_53 rfl rfl ?_
          exact no h hX hs (fun q => by unfold sp_can at q; first | exact c_5 q.1 | exact q.2.2.2.2.1 c_39 | omega)
        · refine aw_iload dX0_canClimb_42 rfl ?_
          refine aw_iconst (v := nI 0) dX0_canClimb_44 rfl ?_
          refine aw_iconst (v := nI 1) dX0_canClimb_45 rfl ?_
          refine aw_callP (r := _) dX0_canClimb_46 sX0_155 rfl (xp_isIn) rfl rfl ⟨Nat.le_of_ble_eq_true rfl, Nat.le_of_ble_eq_true rfl⟩ (Nat.le_of_ble_eq_true rfl) ?_
          refine aw_if_neB (tgt := 54) dX0_canClimb_49 (by decide) (fun c_49 => ?_) (fun c_49 => ?_)
          · exact go h hX hs c_5 (by omega) (by omega) (by omega) c_39
          · refine aw_iconst (v := nI 0) dX0_canClimb_52 rfl ?_
            refine aw_zreturn dX0_canClimb_53 rfl rfl ?_
            exact no h hX hs (fun q => by unfold sp_can at q; first | exact c_5 q.1 | exact q.2.2.2.2.1 c_39 | omega)

