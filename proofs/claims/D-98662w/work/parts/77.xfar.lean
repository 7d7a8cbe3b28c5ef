set_option maxRecDepth 100000
/-! the component: weeks ahead -/
theorem xx_wkh {H : sp_H} {N : Nat} {A : Nat → Nat} (hH : sp_okH H) (hA : sp_okA N A) (hN : N ≤ 100000000) : A 24 < 2147483648 ∧ A 26 + 1 < 2147483648 ∧ ∀ t, t < 8 → A (16 + t) + sp_ow H t < 2147483648 ∧ A (8 + t) < 2147483648 := by
  obtain ⟨a1, a2, a3, a4, a5⟩ := hA
  refine ⟨by omega, by omega, fun t ht => ?_⟩
  have b := a1 t ht
  have c := (hH.2.2.1 t ht).2.2.2.1
  omega
/-- then goes on by a week -/
theorem xo_on {s : mm_S} {H : sp_H} {u N : Nat} {B : Nat → Nat} (hOK : sp_okH H) (hB : sp_okA N B) (hN : N ≤ 100000000) : xx_Met yX2_goOn cX2_goOn 3 none 604 1 4 (fun w => [.ref (w.1 (1 + 4 * 1)), .ref (w.1 16)]) (mm_setA s 46 B) H u none (mm_setA s 46 (sp_week H B)) := by
  obtain ⟨b1, b2, b3⟩ := xx_wkh hOK hB hN
  exact (xs_goOn (s := mm_setA s 46 B) (i := 1) (by decide) hOK.2.1 (fun t ht => (hOK.2.2.1 t ht).2.2.1) hOK.1.2 b1 b2 b3).eqv rfl (mm_A_A s 46 B (sp_week H B))
set_option maxHeartbeats 4000000 in
theorem xo_will {s : mm_S} {H : sp_H} {u : Nat} {n : Int32} {N : Nat} (hOK : sp_okH H) (hA : sp_okA N (mm_a s 45)) (hN : N ≤ 10000000) : xx_Op yX0_will cX0_will 3 (some .int) 605 60 240 (fun w => [.ref (w.1 0), .int (n)]) s H u (some (.int (op_will H (mm_a s 45) n))) (s) := by
  refine xx_Op.of (by decide +kernel) (fun _ => Nat.le_of_ble_eq_true rfl) (fun G w h0 hW hX hH => ?_)
  have hX0 := hX
  have hs : xx_same w h0 h0 := xx_same.rf
  obtain ⟨tl, te, cap, m9, f9, tn, nm9, c9, mo9, D9, hq⟩ := hH
  show AW G (aw_rm 605 60 240) yX0_will cX0_will 3 (some .int) (aw_N G (xx_PoC G w h0 (some (.int (op_will H (mm_a s 45) n))) (s)) 60 240) 60 240 h0 0 [(0, .ref (w.1 0)), (1, .int (n))] []
  have hs1 : 1 ≤ sp_hs H := hOK.1.1; have hs20 : sp_hs H ≤ 20 := hOK.1.2; have hn : sp_hn H ≤ 8 := hOK.2.1; have hlv : ∀ t, t < 8 → sp_lv H t ≤ 20 := fun t ht => (hOK.2.2.1 t ht).1; have hsg : ∀ t, t < 8 → sp_sg8 H t ≤ 40 := fun t ht => (hOK.2.2.1 t ht).2.1; have hhv : ∀ t, t < 8 → sp_hv H t ≤ 9 := fun t ht => (hOK.2.2.1 t ht).2.2.1; have how : ∀ t, t < 8 → sp_ow H t ≤ 999 := fun t ht => (hOK.2.2.1 t ht).2.2.2.1; have hfl : ∀ t, t < 8 → sp_fl H t ≤ 100 := fun t ht => (hOK.2.2.1 t ht).2.2.2.2
  by_cases z : 0 ≤ n.toInt ∧ n.toInt ≤ 60
  · have z2 := z
    obtain ⟨n', hn', rfl, n1, n2⟩ := aw_ofN z2.1
    have fin : op_will H (mm_a s 45) (nI n') = nI (sp_weeks H n' (mm_a s 45) 25) := by rw [op_will, aw_if1 z, n2]
    rw [fin]
    have n60 : n' ≤ 60 := by omega
    have loop : ∀ (d k : Nat) (h : aw_H), n' - k = d → k ≤ n' → sp_okA (N + 1000 * k) (sp_weeks H k (mm_a s 45)) → XC G w h (mm_setA s 46 (sp_weeks H k (mm_a s 45))) → xx_same w h0 h → AW G (aw_rm 605 60 240) yX0_will cX0_will 3 (some .int) (aw_N G (xx_PoC G w h0 (some (.int (nI (sp_weeks H n' (mm_a s 45) 25)))) (s)) 60 240) (n' - k)  (4 * (n' - k)) (h) 25 [(0, .ref (w.1 0)), (1, .int (nI n')), (2, .int (nI k))] [] := by
      intro d
      induction d using Nat.strongRecOn with
      | _ d ih =>
        intro k h hd hk hB hX hs
        by_cases hk9 : k < n'
        ·
          refine aw_iload_n dX0_will_25 rfl ?_
          refine aw_iload_n dX0_will_26 rfl ?_
          refine aw_icmp_geN (tgt := 47) dX0_will_27 (by decide) (by omega) (by omega) (fun c_27 => by exfalso; omega) (fun c_27 => ?_)
          refine aw_aload_n dX0_will_30 rfl ?_
          refine aw_get dX0_will_31 fX0_32 rfl (hX.1 0 (by decide)) (by rfl) ?_
          refine aw_aload_n dX0_will_34 rfl ?_
          refine aw_get dX0_will_35 fX0_19 rfl (hX.1 0 (by decide)) (by rfl) ?_
          refine AW_le (kc' := (n' - (k + 1)) + 1) (ks' := (4 * (n' - (k + 1))) + 4) (by omega) (by omega) ?_
          refine xx_call (kc := (n' - (k + 1))) (ks := (4 * (n' - (k + 1)))) dX0_will_38 sX0_227 rfl hW hX (hq.mv hs hX0).xh hs (xo_on hOK hB (by omega)) rfl (hX.st (i := 1) (by decide)) rfl rfl ⟨Nat.le_of_ble_eq_true rfl, Nat.le_of_ble_eq_true rfl⟩ (by exact Nat.le_of_ble_eq_true rfl) (fun h hX hs => ?_)
          refine aw_iincN (b := 1) dX0_will_41 rfl rfl (by decide) rfl rfl ?_
          refine aw_goto (tgt := 25) dX0_will_44 (by decide) ?_
          exact ih (n' - (k + 1)) (by omega) (k + 1) h rfl (by omega) ((sp_week_ok hOK hB).mono (by omega)) hX hs
        ·
          refine aw_iload_n dX0_will_25 rfl ?_
          refine aw_iload_n dX0_will_26 rfl ?_
          refine aw_icmp_geN (tgt := 47) dX0_will_27 (by decide) (by omega) (by omega) (fun c_27 => ?_) (fun c_27 => by exfalso; omega)
          refine aw_aload_n dX0_will_47 rfl ?_
          refine aw_get dX0_will_48 fX0_32 rfl (hX.1 0 (by decide)) (by rfl) ?_
          refine aw_get dX0_will_51 fX0_119 rfl (hX.st (i := 1) (by decide)) (by rfl) ?_
          try simp only [Nat.reduceMul, Nat.reduceAdd, Nat.zero_add]
          try simp only [mm_n_N, mm_n_A, mm_n_V, mm_n_Fp, mm_n_W, mm_n_Nm, mm_a_N, mm_a_A, mm_a_V, mm_a_Fp, mm_a_W, mm_a_Nm, mm_v_N, mm_v_A, mm_v_V, mm_fp_N, mm_fp_A, mm_fp_Fp, mm_w_N, mm_w_W, Nat.reduceEqDiff, reduceIte, if_true, if_false, mm_H_45, mm_H_46, mm_H_47, mm_H_50, mm_H_53, mm_H_54, mm_H_55, mm_H_56, mm_H_57, mm_H_58, mm_H_66, mm_H_67, mm_H_68, eq_self]
          refine aw_ireturn dX0_will_54 rfl ?_
          refine ⟨?_, _, mm_core.A rfl mm_core.rf, hX, hs⟩
          rw [show n' = k by omega]
    refine aw_iload_n dX0_will_0 rfl ?_
    refine aw_iconst (v := nI 0) dX0_will_1 rfl ?_
    refine aw_bipush (v := nI 60) dX0_will_2 rfl ?_
    refine aw_callP (r := _) dX0_will_4 sX0_155 rfl (xp_isIn) rfl rfl ⟨Nat.le_of_ble_eq_true rfl, Nat.le_of_ble_eq_true rfl⟩ (Nat.le_of_ble_eq_true rfl) ?_
    refine aw_if_neB (tgt := 12) dX0_will_7 (by decide) (fun c_7 => ?_) (fun c_7 => by exfalso; exact c_7 z)
    refine aw_aload_n dX0_will_12 rfl ?_
    refine aw_get dX0_will_13 fX0_32 rfl (hX.1 0 (by decide)) (by rfl) ?_
    refine aw_aload_n dX0_will_16 rfl ?_
    refine aw_get dX0_will_17 fX0_28 rfl (hX.1 0 (by decide)) (by rfl) ?_
    refine xx_call0 dX0_will_20 sX0_138 rfl hW hX (hq.mv hs hX0).xh hs xs_of10 rfl (hX.st (i := 1) (by decide)) rfl rfl ⟨Nat.le_of_ble_eq_true rfl, Nat.le_of_ble_eq_true rfl⟩ (by exact Nat.le_of_ble_eq_true rfl) (fun h hX hs => ?_)
    refine aw_iconst (v := nI 0) dX0_will_23 rfl ?_
    refine aw_istore_n dX0_will_24 (by decide) rfl rfl ?_
    refine AW_le (kc' := n' - 0) (ks' := 4 * (n' - 0)) (by omega) (by omega) (loop n' 0 h rfl (Nat.zero_le _) (hA.mono (by omega)) hX hs)
  ·
    refine aw_iload_n dX0_will_0 rfl ?_
    refine aw_iconst (v := nI 0) dX0_will_1 rfl ?_
    refine aw_bipush (v := nI 60) dX0_will_2 rfl ?_
    refine aw_callP (r := _) dX0_will_4 sX0_155 rfl (xp_isIn) rfl rfl ⟨Nat.le_of_ble_eq_true rfl, Nat.le_of_ble_eq_true rfl⟩ (Nat.le_of_ble_eq_true rfl) ?_
    refine aw_if_neB (tgt := 12) dX0_will_7 (by decide) (fun c_7 => by exfalso; exact z c_7) (fun c_7 => ?_)
    refine aw_iconst (v := -1) dX0_will_10 rfl ?_
    refine aw_ireturn dX0_will_11 rfl ?_
    exact ⟨by rw [op_will, aw_if0 z], _, mm_core.rf, hX, hs⟩
set_option maxHeartbeats 4000000 in
theorem xo_hover {s : mm_S} {H : sp_H} {u : Nat} {c : Int32} {N : Nat} (hOK : sp_okH H) (hA : sp_okA N (mm_a s 45)) (hN : N ≤ 10000000) : xx_Op yX0_hover cX0_hover 3 (some .int) 605 60 240 (fun w => [.ref (w.1 0), .int (c)]) s H u (some (.int (op_hover H (mm_a s 45) c))) (s) := by
  refine xx_Op.of (by decide +kernel) (fun _ => Nat.le_of_ble_eq_true rfl) (fun G w h0 hW hX hH => ?_)
  have hX0 := hX
  have hs : xx_same w h0 h0 := xx_same.rf
  obtain ⟨tl, te, cap, m9, f9, tn, nm9, c9, mo9, D9, hq⟩ := hH
  show AW G (aw_rm 605 60 240) yX0_hover cX0_hover 3 (some .int) (aw_N G (xx_PoC G w h0 (some (.int (op_hover H (mm_a s 45) c))) (s)) 60 240) 60 240 h0 0 [(0, .ref (w.1 0)), (1, .int (c))] []
  have hs1 : 1 ≤ sp_hs H := hOK.1.1; have hs20 : sp_hs H ≤ 20 := hOK.1.2; have hn : sp_hn H ≤ 8 := hOK.2.1; have hlv : ∀ t, t < 8 → sp_lv H t ≤ 20 := fun t ht => (hOK.2.2.1 t ht).1; have hsg : ∀ t, t < 8 → sp_sg8 H t ≤ 40 := fun t ht => (hOK.2.2.1 t ht).2.1; have hhv : ∀ t, t < 8 → sp_hv H t ≤ 9 := fun t ht => (hOK.2.2.1 t ht).2.2.1; have how : ∀ t, t < 8 → sp_ow H t ≤ 999 := fun t ht => (hOK.2.2.1 t ht).2.2.2.1; have hfl : ∀ t, t < 8 → sp_fl H t ≤ 100 := fun t ht => (hOK.2.2.1 t ht).2.2.2.2
  by_cases z : 0 ≤ c.toInt ∧ c.toInt ≤ 999
  · have z2 := z
    obtain ⟨c', hc', rfl, n1, n2⟩ := aw_ofN z2.1
    have fin : op_hover H (mm_a s 45) (nI c') = nI (sp_hov H c' 60 (mm_a s 45) 25) := by rw [op_hover, aw_if1 z, n2]
    rw [fin]
    have loop : ∀ (d k : Nat) (h : aw_H), 60 - k = d → k ≤ 60 → sp_okA (N + 1000 * k + 1000) (sp_hov H c' k (mm_a s 45)) → XC G w h (mm_setA s 46 (sp_hov H c' k (mm_a s 45))) → xx_same w h0 h → AW G (aw_rm 605 60 240) yX0_hover cX0_hover 3 (some .int) (aw_N G (xx_PoC G w h0 (some (.int (nI (sp_hov H c' 60 (mm_a s 45) 25)))) (s)) 60 240) (60 - k)  (4 * (60 - k)) (h) 26 [(0, .ref (w.1 0)), (1, .int (nI c')), (2, .int (nI k))] [] := by
      intro d
      induction d using Nat.strongRecOn with
      | _ d ih =>
        intro k h hd hk hB hX hs
        by_cases hk9 : k < 60
        · have hB2 := sp_u24_ok (c := c') hB (Nat.le_refl _) (by omega)
          refine aw_iload_n dX0_hover_26 rfl ?_
          refine aw_bipush (v := nI 60) dX0_hover_27 rfl ?_
          refine aw_icmp_geN (tgt := 57) dX0_hover_29 (by decide) (by omega) (by omega) (fun c_29 => by exfalso; omega) (fun c_29 => ?_)
          refine aw_aload_n dX0_hover_32 rfl ?_
          refine aw_get dX0_hover_33 fX0_32 rfl (hX.1 0 (by decide)) (by rfl) ?_
          refine aw_iload_n dX0_hover_36 rfl ?_
          refine xx_putS (i := 1) (k := 0) hW hX hs (by decide) (by decide) dX0_hover_37 (pX0_113 _) rfl rfl (fun h hX hs => ?_)
          have hX : XC G w h (mm_setA s 46 (aw_u (sp_hov H c' k (mm_a s 45)) 24 c')) := xx_AU (k := 46) hX rfl
          refine aw_aload_n dX0_hover_40 rfl ?_
          refine aw_get dX0_hover_41 fX0_32 rfl (hX.1 0 (by decide)) (by rfl) ?_
          refine aw_aload_n dX0_hover_44 rfl ?_
          refine aw_get dX0_hover_45 fX0_19 rfl (hX.1 0 (by decide)) (by rfl) ?_
          refine AW_le (kc' := (60 - (k + 1)) + 1) (ks' := (4 * (60 - (k + 1))) + 4) (by omega) (by omega) ?_
          refine xx_call (kc := (60 - (k + 1))) (ks := (4 * (60 - (k + 1)))) dX0_hover_48 sX0_227 rfl hW hX (hq.mv hs hX0).xh hs (xo_on hOK hB2 (by omega)) rfl (hX.st (i := 1) (by decide)) rfl rfl ⟨Nat.le_of_ble_eq_true rfl, Nat.le_of_ble_eq_true rfl⟩ (by exact Nat.le_of_ble_eq_true rfl) (fun h hX hs => ?_)
          refine aw_iincN (b := 1) dX0_hover_51 rfl rfl (by decide) rfl rfl ?_
          refine aw_goto (tgt := 26) dX0_hover_54 (by decide) ?_
          exact ih (60 - (k + 1)) (by omega) (k + 1) h rfl (by omega) ((sp_week_ok hOK hB2).mono (by omega)) hX hs
        ·
          refine aw_iload_n dX0_hover_26 rfl ?_
          refine aw_bipush (v := nI 60) dX0_hover_27 rfl ?_
          refine aw_icmp_geN (tgt := 57) dX0_hover_29 (by decide) (by omega) (by omega) (fun c_29 => ?_) (fun c_29 => by exfalso; omega)
          refine aw_aload_n dX0_hover_57 rfl ?_
          refine aw_get dX0_hover_58 fX0_32 rfl (hX.1 0 (by decide)) (by rfl) ?_
          refine aw_get dX0_hover_61 fX0_119 rfl (hX.st (i := 1) (by decide)) (by rfl) ?_
          try simp only [Nat.reduceMul, Nat.reduceAdd, Nat.zero_add]
          try simp only [mm_n_N, mm_n_A, mm_n_V, mm_n_Fp, mm_n_W, mm_n_Nm, mm_a_N, mm_a_A, mm_a_V, mm_a_Fp, mm_a_W, mm_a_Nm, mm_v_N, mm_v_A, mm_v_V, mm_fp_N, mm_fp_A, mm_fp_Fp, mm_w_N, mm_w_W, Nat.reduceEqDiff, reduceIte, if_true, if_false, mm_H_45, mm_H_46, mm_H_47, mm_H_50, mm_H_53, mm_H_54, mm_H_55, mm_H_56, mm_H_57, mm_H_58, mm_H_66, mm_H_67, mm_H_68, eq_self]
          refine aw_ireturn dX0_hover_64 rfl ?_
          refine ⟨?_, _, mm_core.A rfl mm_core.rf, hX, hs⟩
          rw [show k = 60 by omega]
    refine aw_iload_n dX0_hover_0 rfl ?_
    refine aw_iconst (v := nI 0) dX0_hover_1 rfl ?_
    refine aw_sipush (v := nI 999) dX0_hover_2 rfl ?_
    refine aw_callP (r := _) dX0_hover_5 sX0_155 rfl (xp_isIn) rfl rfl ⟨Nat.le_of_ble_eq_true rfl, Nat.le_of_ble_eq_true rfl⟩ (Nat.le_of_ble_eq_true rfl) ?_
    refine aw_if_neB (tgt := 13) dX0_hover_8 (by decide) (fun c_8 => ?_) (fun c_8 => by exfalso; exact c_8 z)
    refine aw_aload_n dX0_hover_13 rfl ?_
    refine aw_get dX0_hover_14 fX0_32 rfl (hX.1 0 (by decide)) (by rfl) ?_
    refine aw_aload_n dX0_hover_17 rfl ?_
    refine aw_get dX0_hover_18 fX0_28 rfl (hX.1 0 (by decide)) (by rfl) ?_
    refine xx_call0 dX0_hover_21 sX0_138 rfl hW hX (hq.mv hs hX0).xh hs xs_of10 rfl (hX.st (i := 1) (by decide)) rfl rfl ⟨Nat.le_of_ble_eq_true rfl, Nat.le_of_ble_eq_true rfl⟩ (by exact Nat.le_of_ble_eq_true rfl) (fun h hX hs => ?_)
    refine aw_iconst (v := nI 0) dX0_hover_24 rfl ?_
    refine aw_istore_n dX0_hover_25 (by decide) rfl rfl ?_
    refine AW_le (kc' := 60 - 0) (ks' := 4 * (60 - 0)) (by omega) (by omega) (loop 60 0 h rfl (Nat.zero_le _) (hA.mono (by omega)) hX hs)
  ·
    refine aw_iload_n dX0_hover_0 rfl ?_
    refine aw_iconst (v := nI 0) dX0_hover_1 rfl ?_
    refine aw_sipush (v := nI 999) dX0_hover_2 rfl ?_
    refine aw_callP (r := _) dX0_hover_5 sX0_155 rfl (xp_isIn) rfl rfl ⟨Nat.le_of_ble_eq_true rfl, Nat.le_of_ble_eq_true rfl⟩ (Nat.le_of_ble_eq_true rfl) ?_
    refine aw_if_neB (tgt := 13) dX0_hover_8 (by decide) (fun c_8 => by exfalso; exact z c_8) (fun c_8 => ?_)
    refine aw_iconst (v := -1) dX0_hover_11 rfl ?_
    refine aw_ireturn dX0_hover_12 rfl ?_
    exact ⟨by rw [op_hover, aw_if0 z], _, mm_core.rf, hX, hs⟩
set_option maxHeartbeats 4000000 in
theorem xo_rest {s : mm_S} {H : sp_H} {u : Nat} {N : Nat} (hOK : sp_okH H) (hA : sp_okA N (mm_a s 45)) (hN : N ≤ 10000000) : xx_Op yX0_rest cX0_rest 3 (some .int) 605 61 244 (fun w => [.ref (w.1 0)]) s H u (some (.int (op_rest H (mm_a s 45)))) (s) := by
  refine xx_Op.of (by decide +kernel) (fun _ => Nat.le_of_ble_eq_true rfl) (fun G w h0 hW hX hH => ?_)
  have hX0 := hX
  have hs : xx_same w h0 h0 := xx_same.rf
  obtain ⟨tl, te, cap, m9, f9, tn, nm9, c9, mo9, D9, hq⟩ := hH
  show AW G (aw_rm 605 61 244) yX0_rest cX0_rest 3 (some .int) (aw_N G (xx_PoC G w h0 (some (.int (op_rest H (mm_a s 45)))) (s)) 61 244) 61 244 h0 0 [(0, .ref (w.1 0))] []
  have hs1 : 1 ≤ sp_hs H := hOK.1.1; have hs20 : sp_hs H ≤ 20 := hOK.1.2; have hn : sp_hn H ≤ 8 := hOK.2.1; have hlv : ∀ t, t < 8 → sp_lv H t ≤ 20 := fun t ht => (hOK.2.2.1 t ht).1; have hsg : ∀ t, t < 8 → sp_sg8 H t ≤ 40 := fun t ht => (hOK.2.2.1 t ht).2.1; have hhv : ∀ t, t < 8 → sp_hv H t ≤ 9 := fun t ht => (hOK.2.2.1 t ht).2.2.1; have how : ∀ t, t < 8 → sp_ow H t ≤ 999 := fun t ht => (hOK.2.2.1 t ht).2.2.2.1; have hfl : ∀ t, t < 8 → sp_fl H t ≤ 100 := fun t ht => (hOK.2.2.1 t ht).2.2.2.2
  have loop : ∀ (d k : Nat) (h : aw_H) (B : Nat → Nat), 61 - k = d → k ≤ 61 → sp_okA (N + 1000 * k) B → sp_rst H (61 - k) k B = sp_rst H 61 0 (mm_a s 45) → XC G w h (mm_setA s 46 B) → xx_same w h0 h → AW G (aw_rm 605 61 244) yX0_rest cX0_rest 3 (some .int) (aw_N G (xx_PoC G w h0 (some (.int (op_rest H (mm_a s 45)))) (s)) 61 244) (61 - k)  (4 * (61 - k)) (h) 13 [(0, .ref (w.1 0)), (1, .int (nI k))] [] := by
    intro d
    induction d using Nat.strongRecOn with
    | _ d ih =>
      intro k h B hd hk hB hr hX hs
      by_cases hk9 : k < 61
      · have b25 := hB.2.2.1
        have w25 := (sp_week_ok hOK hB).2.2.1
        have eS : sp_rst H (61 - k) k B = if sp_week H B 25 = B 25 then k + 1 else sp_rst H (61 - (k + 1)) (k + 1) (sp_week H B) := by
          rw [show 61 - k = 61 - (k + 1) + 1 by omega]
          rfl
        refine aw_iload_n dX0_rest_13 rfl ?_
        refine aw_bipush (v := nI 60) dX0_rest_14 rfl ?_
        refine aw_icmp_gtN (tgt := 57) dX0_rest_16 (by decide) (by omega) (by omega) (fun c_16 => by exfalso; omega) (fun c_16 => ?_)
        refine aw_aload_n dX0_rest_19 rfl ?_
        refine aw_get dX0_rest_20 fX0_32 rfl (hX.1 0 (by decide)) (by rfl) ?_
        refine aw_get dX0_rest_23 fX0_119 rfl (hX.st (i := 1) (by decide)) (by rfl) ?_
        try simp only [Nat.reduceMul, Nat.reduceAdd, Nat.zero_add]
        try simp only [mm_n_N, mm_n_A, mm_n_V, mm_n_Fp, mm_n_W, mm_n_Nm, mm_a_N, mm_a_A, mm_a_V, mm_a_Fp, mm_a_W, mm_a_Nm, mm_v_N, mm_v_A, mm_v_V, mm_fp_N, mm_fp_A, mm_fp_Fp, mm_w_N, mm_w_W, Nat.reduceEqDiff, reduceIte, if_true, if_false, mm_H_45, mm_H_46, mm_H_47, mm_H_50, mm_H_53, mm_H_54, mm_H_55, mm_H_56, mm_H_57, mm_H_58, mm_H_66, mm_H_67, mm_H_68, eq_self]
        refine aw_istore_n dX0_rest_26 (by decide) rfl rfl ?_
        refine aw_aload_n dX0_rest_27 rfl ?_
        refine aw_get dX0_rest_28 fX0_32 rfl (hX.1 0 (by decide)) (by rfl) ?_
        refine aw_aload_n dX0_rest_31 rfl ?_
        refine aw_get dX0_rest_32 fX0_19 rfl (hX.1 0 (by decide)) (by rfl) ?_
        refine AW_le (kc' := (61 - (k + 1)) + 1) (ks' := (4 * (61 - (k + 1))) + 4) (by omega) (by omega) ?_
        refine xx_call (kc := (61 - (k + 1))) (ks := (4 * (61 - (k + 1)))) dX0_rest_35 sX0_227 rfl hW hX (hq.mv hs hX0).xh hs (xo_on hOK hB (by omega)) rfl (hX.st (i := 1) (by decide)) rfl rfl ⟨Nat.le_of_ble_eq_true rfl, Nat.le_of_ble_eq_true rfl⟩ (by exact Nat.le_of_ble_eq_true rfl) (fun h hX hs => ?_)
        refine aw_aload_n dX0_rest_38 rfl ?_
        refine aw_get dX0_rest_39 fX0_32 rfl (hX.1 0 (by decide)) (by rfl) ?_
        refine aw_get dX0_rest_42 fX0_119 rfl (hX.st (i := 1) (by decide)) (by rfl) ?_
        try simp only [Nat.reduceMul, Nat.reduceAdd, Nat.zero_add]
        try simp only [mm_n_N, mm_n_A, mm_n_V, mm_n_Fp, mm_n_W, mm_n_Nm, mm_a_N, mm_a_A, mm_a_V, mm_a_Fp, mm_a_W, mm_a_Nm, mm_v_N, mm_v_A, mm_v_V, mm_fp_N, mm_fp_A, mm_fp_Fp, mm_w_N, mm_w_W, Nat.reduceEqDiff, reduceIte, if_true, if_false, mm_H_45, mm_H_46, mm_H_47, mm_H_50, mm_H_53, mm_H_54, mm_H_55, mm_H_56, mm_H_57, mm_H_58, mm_H_66, mm_H_67, mm_H_68, eq_self]
        refine aw_iload_n dX0_rest_45 rfl ?_
        refine aw_icmp_neN (tgt := 51) dX0_rest_46 (by decide) (by omega) (by omega) (fun c_46 => ?_) (fun c_46 => ?_)
        · refine aw_iincN (b := 1) dX0_rest_51 rfl rfl (by decide) rfl rfl ?_
          refine aw_goto (tgt := 13) dX0_rest_54 (by decide) ?_
          refine AW_dr (ih (61 - (k + 1)) (by omega) (k + 1) h (sp_week H B) rfl (by omega) ((sp_week_ok hOK hB).mono (by omega)) ?_ hX hs)
          rw [← hr, eS, if_neg c_46]
        · refine aw_iload_n dX0_rest_49 rfl ?_
          refine aw_ireturn dX0_rest_50 rfl ?_
          refine ⟨?_, _, mm_core.A rfl mm_core.rf, hX, hs⟩
          rw [op_rest, ← hr, eS, if_pos c_46, sp_cv_s]
      ·
        refine aw_iload_n dX0_rest_13 rfl ?_
        refine aw_bipush (v := nI 60) dX0_rest_14 rfl ?_
        refine aw_icmp_gtN (tgt := 57) dX0_rest_16 (by decide) (by omega) (by omega) (fun c_16 => ?_) (fun c_16 => by exfalso; omega)
        refine aw_iconst (v := -1) dX0_rest_57 rfl ?_
        refine aw_ireturn dX0_rest_58 rfl ?_
        refine ⟨?_, _, mm_core.A rfl mm_core.rf, hX, hs⟩
        rw [op_rest, ← hr, show 61 - k = 0 by omega]
        rfl
  refine aw_aload_n dX0_rest_0 rfl ?_
  refine aw_get dX0_rest_1 fX0_32 rfl (hX.1 0 (by decide)) (by rfl) ?_
  refine aw_aload_n dX0_rest_4 rfl ?_
  refine aw_get dX0_rest_5 fX0_28 rfl (hX.1 0 (by decide)) (by rfl) ?_
  refine xx_call0 dX0_rest_8 sX0_138 rfl hW hX (hq.mv hs hX0).xh hs xs_of10 rfl (hX.st (i := 1) (by decide)) rfl rfl ⟨Nat.le_of_ble_eq_true rfl, Nat.le_of_ble_eq_true rfl⟩ (by exact Nat.le_of_ble_eq_true rfl) (fun h hX hs => ?_)
  refine aw_iconst (v := nI 0) dX0_rest_11 rfl ?_
  refine aw_istore_n dX0_rest_12 (by decide) rfl rfl ?_
  refine AW_le (kc' := 61 - 0) (ks' := 4 * (61 - 0)) (by omega) (by omega) (loop 61 0 h _ rfl (Nat.zero_le _) (hA.mono (by omega)) rfl hX hs)
set_option maxHeartbeats 4000000 in
theorem xo_lever {s : mm_S} {H : sp_H} {u : Nat} {N : Nat} (hOK : sp_okH H) (hA : sp_okA N (mm_a s 45)) (hN : N ≤ 10000000) : xx_Op yX0_lever cX0_lever 2 (some .int) 604 100 400 (fun w => [.ref (w.1 0)]) s H u (some (.int (op_lever H (mm_a s 45)))) (s) := by
  refine xx_Op.of (by decide +kernel) (fun _ => Nat.le_of_ble_eq_true rfl) (fun G w h0 hW hX hH => ?_)
  have hX0 := hX
  have hs : xx_same w h0 h0 := xx_same.rf
  obtain ⟨tl, te, cap, m9, f9, tn, nm9, c9, mo9, D9, hq⟩ := hH
  show AW G (aw_rm 604 100 400) yX0_lever cX0_lever 2 (some .int) (aw_N G (xx_PoC G w h0 (some (.int (op_lever H (mm_a s 45)))) (s)) 100 400) 100 400 h0 0 [(0, .ref (w.1 0))] []
  have hs1 : 1 ≤ sp_hs H := hOK.1.1; have hs20 : sp_hs H ≤ 20 := hOK.1.2; have hn : sp_hn H ≤ 8 := hOK.2.1; have hlv : ∀ t, t < 8 → sp_lv H t ≤ 20 := fun t ht => (hOK.2.2.1 t ht).1; have hsg : ∀ t, t < 8 → sp_sg8 H t ≤ 40 := fun t ht => (hOK.2.2.1 t ht).2.1; have hhv : ∀ t, t < 8 → sp_hv H t ≤ 9 := fun t ht => (hOK.2.2.1 t ht).2.2.1; have how : ∀ t, t < 8 → sp_ow H t ≤ 999 := fun t ht => (hOK.2.2.1 t ht).2.2.2.1; have hfl : ∀ t, t < 8 → sp_fl H t ≤ 100 := fun t ht => (hOK.2.2.1 t ht).2.2.2.2
  have hb : ∀ t, t < 8 → mm_a s 45 t ≤ 40 := fun t ht => (hA.1 t ht).1; have hp : ∀ t, t < 8 → mm_a s 45 (8 + t) ≤ 9999 := fun t ht => (hA.1 t ht).2.1; have hd : ∀ t, t < 8 → mm_a s 45 (16 + t) ≤ N := fun t ht => (hA.1 t ht).2.2; have h24 : mm_a s 45 24 ≤ N := hA.2.1; have h25 : mm_a s 45 25 ≤ 20 := hA.2.2.1; have h26 : mm_a s 45 26 ≤ N := hA.2.2.2.1; have h27 : mm_a s 45 27 ≤ 999 := hA.2.2.2.2
  have loop : ∀ (d k : Nat) (h : aw_H), 100 - k = d → k ≤ 100 → (∀ j, j < k → sp_lev H (mm_a s 45) j = false) → XC G w h s → xx_same w h0 h → AW G (aw_rm 604 100 400) yX0_lever cX0_lever 2 (some .int) (aw_N G (xx_PoC G w h0 (some (.int (op_lever H (mm_a s 45)))) (s)) 100 400) (100 - k)  (4 * (100 - k)) (h) 2 [(0, .ref (w.1 0)), (1, .int (nI k))] [] := by
    intro d
    induction d using Nat.strongRecOn with
    | _ d ih =>
      intro k h hd hk hno hX hs
      by_cases hk9 : k < 100
      · have ll : sp_lift H (aw_u (mm_a s 45) 24 (mm_a s 45 24 + k)) ≤ 20 := Nat.le_trans (Nat.min_le_right _ _) hs20
        refine aw_iload_n dX0_lever_2 rfl ?_
        refine aw_bipush (v := nI 99) dX0_lever_3 rfl ?_
        refine aw_icmp_gtN (tgt := 38) dX0_lever_5 (by decide) (by omega) (by omega) (fun c_5 => by exfalso; omega) (fun c_5 => ?_)
        refine aw_aload_n dX0_lever_8 rfl ?_
        refine aw_get dX0_lever_9 fX0_28 rfl (hX.1 0 (by decide)) (by rfl) ?_
        refine aw_aload_n dX0_lever_12 rfl ?_
        refine aw_get dX0_lever_13 fX0_19 rfl (hX.1 0 (by decide)) (by rfl) ?_
        refine aw_iload_n dX0_lever_16 rfl ?_
        refine AW_le (kc' := (100 - (k + 1)) + 1) (ks' := (4 * (100 - (k + 1))) + 4) (by omega) (by omega) ?_
        refine xx_call (kc := (100 - (k + 1))) (ks := (4 * (100 - (k + 1)))) dX0_lever_17 sX0_316 rfl hW hX (hq.mv hs hX0).xh hs ((xs_lift (i := 0) (k := k) (by decide) hn hhv hs20 (by show mm_a s 45 24 + k < _; omega)).eqv (r' := some (.int (nI (sp_lift H (aw_u (mm_a s 45) 24 (mm_a s 45 24 + k)))))) rfl rfl) rfl (hX.st (i := 0) (by decide)) rfl rfl ⟨Nat.le_of_ble_eq_true rfl, Nat.le_of_ble_eq_true rfl⟩ (by exact Nat.le_of_ble_eq_true rfl) (fun h hX hs => ?_)
        refine aw_aload_n dX0_lever_20 rfl ?_
        refine aw_get dX0_lever_21 fX0_28 rfl (hX.1 0 (by decide)) (by rfl) ?_
        refine aw_get dX0_lever_24 fX0_119 rfl (hX.st (i := 0) (by decide)) (by rfl) ?_
        try simp only [Nat.reduceMul, Nat.reduceAdd, Nat.zero_add]
        refine aw_icmp_leN (tgt := 32) dX0_lever_27 (by decide) (by omega) (by omega) (fun c_27 => ?_) (fun c_27 => ?_)
        · refine aw_iincN (b := 1) dX0_lever_32 rfl rfl (by decide) rfl rfl ?_
          refine aw_goto (tgt := 2) dX0_lever_35 (by decide) ?_
          refine ih (100 - (k + 1)) (by omega) (k + 1) h rfl (by omega) (fun j hj => ?_) hX hs
          by_cases e : j = k
          · subst e
            exact decide_eq_false (by omega)
          · exact hno j (by omega)
        · refine aw_iload_n dX0_lever_30 rfl ?_
          refine aw_ireturn dX0_lever_31 rfl ?_
          refine ⟨?_, _, mm_core.rf, hX, hs⟩
          rw [op_lever, sp_fst_yes (show k < 100 by omega) hno (decide_eq_true (by omega)), sp_cv_s]
      ·
        refine aw_iload_n dX0_lever_2 rfl ?_
        refine aw_bipush (v := nI 99) dX0_lever_3 rfl ?_
        refine aw_icmp_gtN (tgt := 38) dX0_lever_5 (by decide) (by omega) (by omega) (fun c_5 => ?_) (fun c_5 => by exfalso; omega)
        refine aw_iconst (v := -1) dX0_lever_38 rfl ?_
        refine aw_ireturn dX0_lever_39 rfl ?_
        refine ⟨?_, _, mm_core.rf, hX, hs⟩
        rw [op_lever, sp_fst_no (fun j hj => hno j (by omega))]
        rfl
  refine aw_iconst (v := nI 0) dX0_lever_0 rfl ?_
  refine aw_istore_n dX0_lever_1 (by decide) rfl rfl ?_
  refine AW_le (kc' := 100 - 0) (ks' := 4 * (100 - 0)) (by omega) (by omega) (loop 100 0 h0 rfl (Nat.zero_le _) (fun j hj => absurd hj (Nat.not_lt_zero _)) hX hs)
set_option maxHeartbeats 4000000 in
theorem xo_ruin {s : mm_S} {H : sp_H} {u : Nat} {n : Int32} {N : Nat} (hOK : sp_okH H) (hA : sp_okA N (mm_a s 45)) (hN : N ≤ 10000000) : xx_Op yX0_ruin cX0_ruin 4 (some .int) 605 60 240 (fun w => [.ref (w.1 0), .int (n)]) s H u (some (.int (op_ruin H (mm_a s 45) n))) (s) := by
  refine xx_Op.of (by decide +kernel) (fun _ => Nat.le_of_ble_eq_true rfl) (fun G w h0 hW hX hH => ?_)
  have hX0 := hX
  have hs : xx_same w h0 h0 := xx_same.rf
  obtain ⟨tl, te, cap, m9, f9, tn, nm9, c9, mo9, D9, hq⟩ := hH
  show AW G (aw_rm 605 60 240) yX0_ruin cX0_ruin 4 (some .int) (aw_N G (xx_PoC G w h0 (some (.int (op_ruin H (mm_a s 45) n))) (s)) 60 240) 60 240 h0 0 [(0, .ref (w.1 0)), (1, .int (n))] []
  have hs1 : 1 ≤ sp_hs H := hOK.1.1; have hs20 : sp_hs H ≤ 20 := hOK.1.2; have hn : sp_hn H ≤ 8 := hOK.2.1; have hlv : ∀ t, t < 8 → sp_lv H t ≤ 20 := fun t ht => (hOK.2.2.1 t ht).1; have hsg : ∀ t, t < 8 → sp_sg8 H t ≤ 40 := fun t ht => (hOK.2.2.1 t ht).2.1; have hhv : ∀ t, t < 8 → sp_hv H t ≤ 9 := fun t ht => (hOK.2.2.1 t ht).2.2.1; have how : ∀ t, t < 8 → sp_ow H t ≤ 999 := fun t ht => (hOK.2.2.1 t ht).2.2.2.1; have hfl : ∀ t, t < 8 → sp_fl H t ≤ 100 := fun t ht => (hOK.2.2.1 t ht).2.2.2.2
  by_cases z : 0 ≤ n.toInt ∧ n.toInt ≤ 60
  · have z2 := z
    obtain ⟨n', hn', rfl, n1, n2⟩ := aw_ofN z2.1
    have fin : op_ruin H (mm_a s 45) (nI n') = nI (sp_sum (fun t => sp_weeks H n' (mm_a s 45) (16 + t)) (sp_hn H)) := by rw [op_ruin, aw_if1 z, n2]
    rw [fin]
    have n60 : n' ≤ 60 := by omega
    have sum : ∀ (d k : Nat) (h : aw_H), sp_hn H - k = d → k ≤ sp_hn H → XC G w h (mm_setA s 46 (sp_weeks H n' (mm_a s 45))) → xx_same w h0 h → AW G (aw_rm 605 60 240) yX0_ruin cX0_ruin 4 (some .int) (aw_N G (xx_PoC G w h0 (some (.int (nI (sp_sum (fun t => sp_weeks H n' (mm_a s 45) (16 + t)) (sp_hn H))))) (s)) 60 240) 0  0 (h) 51 [(0, .ref (w.1 0)), (1, .int (nI n')), (2, .int (nI (sp_sum (fun t => sp_weeks H n' (mm_a s 45) (16 + t)) k))), (3, .int (nI k))] [] := by
      intro d
      induction d using Nat.strongRecOn with
      | _ d ih =>
        intro k h hd hk hX hs
        by_cases hk9 : k < sp_hn H
        ·
          refine aw_iload_n dX0_ruin_51 rfl ?_
          refine aw_aload_n dX0_ruin_52 rfl ?_
          refine xx_call0 dX0_ruin_53 sX0_91 rfl hW hX (hq.mv hs hX0).xh hs xo_many rfl (hX.1 0 (by decide)) rfl rfl ⟨Nat.le_of_ble_eq_true rfl, Nat.le_of_ble_eq_true rfl⟩ (by exact Nat.le_of_ble_eq_true rfl) (fun h hX hs => ?_)
          try simp only [mm_n_N, mm_n_A, mm_n_V, mm_n_Fp, mm_n_W, mm_n_Nm, mm_a_N, mm_a_A, mm_a_V, mm_a_Fp, mm_a_W, mm_a_Nm, mm_v_N, mm_v_A, mm_v_V, mm_fp_N, mm_fp_A, mm_fp_Fp, mm_w_N, mm_w_W, Nat.reduceEqDiff, reduceIte, if_true, if_false, mm_H_45, mm_H_46, mm_H_47, mm_H_50, mm_H_53, mm_H_54, mm_H_55, mm_H_56, mm_H_57, mm_H_58, mm_H_66, mm_H_67, mm_H_68, eq_self]
          refine aw_icmp_geN (tgt := 77) dX0_ruin_56 (by decide) (by omega) (by omega) (fun c_56 => by exfalso; omega) (fun c_56 => ?_)
          refine aw_iload_n dX0_ruin_59 rfl ?_
          refine aw_aload_n dX0_ruin_60 rfl ?_
          refine aw_get dX0_ruin_61 fX0_32 rfl (hX.1 0 (by decide)) (by rfl) ?_
          refine aw_get dX0_ruin_64 fX0_110 rfl (hX.st (i := 1) (by decide)) (by rfl) ?_
          refine aw_iload_n dX0_ruin_67 rfl ?_
          refine xx_ialdS (i := 1) (b := 2) dX0_ruin_68 hX (by decide) (by decide) (by omega) ?_
          try simp only [Nat.reduceMul, Nat.reduceAdd, Nat.zero_add]
          try simp only [mm_n_N, mm_n_A, mm_n_V, mm_n_Fp, mm_n_W, mm_n_Nm, mm_a_N, mm_a_A, mm_a_V, mm_a_Fp, mm_a_W, mm_a_Nm, mm_v_N, mm_v_A, mm_v_V, mm_fp_N, mm_fp_A, mm_fp_Fp, mm_w_N, mm_w_W, Nat.reduceEqDiff, reduceIte, if_true, if_false, mm_H_45, mm_H_46, mm_H_47, mm_H_50, mm_H_53, mm_H_54, mm_H_55, mm_H_56, mm_H_57, mm_H_58, mm_H_66, mm_H_67, mm_H_68, eq_self]
          refine aw_iaddN dX0_ruin_69 ?_
          refine aw_istore_n dX0_ruin_70 (by decide) rfl rfl ?_
          refine aw_iincN (b := 1) dX0_ruin_71 rfl rfl (by decide) rfl rfl ?_
          refine aw_goto (tgt := 51) dX0_ruin_74 (by decide) ?_
          exact ih (sp_hn H - (k + 1)) (by omega) (k + 1) h rfl (by omega) hX hs
        ·
          refine aw_iload_n dX0_ruin_51 rfl ?_
          refine aw_aload_n dX0_ruin_52 rfl ?_
          refine xx_call0 dX0_ruin_53 sX0_91 rfl hW hX (hq.mv hs hX0).xh hs xo_many rfl (hX.1 0 (by decide)) rfl rfl ⟨Nat.le_of_ble_eq_true rfl, Nat.le_of_ble_eq_true rfl⟩ (by exact Nat.le_of_ble_eq_true rfl) (fun h hX hs => ?_)
          refine aw_icmp_geN (tgt := 77) dX0_ruin_56 (by decide) (by omega) (by omega) (fun c_56 => ?_) (fun c_56 => by exfalso; omega)
          refine aw_iload_n dX0_ruin_77 rfl ?_
          refine aw_ireturn dX0_ruin_78 rfl ?_
          refine ⟨?_, _, mm_core.A rfl mm_core.rf, hX, hs⟩
          rw [show sp_hn H = k by omega]
    have loop : ∀ (d k : Nat) (h : aw_H), n' - k = d → k ≤ n' → sp_okA (N + 1000 * k) (sp_weeks H k (mm_a s 45)) → XC G w h (mm_setA s 46 (sp_weeks H k (mm_a s 45))) → xx_same w h0 h → AW G (aw_rm 605 60 240) yX0_ruin cX0_ruin 4 (some .int) (aw_N G (xx_PoC G w h0 (some (.int (nI (sp_sum (fun t => sp_weeks H n' (mm_a s 45) (16 + t)) (sp_hn H))))) (s)) 60 240) (n' - k)  (4 * (n' - k)) (h) 25 [(0, .ref (w.1 0)), (1, .int (nI n')), (2, .int (nI k))] [] := by
      intro d
      induction d using Nat.strongRecOn with
      | _ d ih =>
        intro k h hd hk hB hX hs
        by_cases hk9 : k < n'
        ·
          refine aw_iload_n dX0_ruin_25 rfl ?_
          refine aw_iload_n dX0_ruin_26 rfl ?_
          refine aw_icmp_geN (tgt := 47) dX0_ruin_27 (by decide) (by omega) (by omega) (fun c_27 => by exfalso; omega) (fun c_27 => ?_)
          refine aw_aload_n dX0_ruin_30 rfl ?_
          refine aw_get dX0_ruin_31 fX0_32 rfl (hX.1 0 (by decide)) (by rfl) ?_
          refine aw_aload_n dX0_ruin_34 rfl ?_
          refine aw_get dX0_ruin_35 fX0_19 rfl (hX.1 0 (by decide)) (by rfl) ?_
          refine AW_le (kc' := (n' - (k + 1)) + 1) (ks' := (4 * (n' - (k + 1))) + 4) (by omega) (by omega) ?_
          refine xx_call (kc := (n' - (k + 1))) (ks := (4 * (n' - (k + 1)))) dX0_ruin_38 sX0_227 rfl hW hX (hq.mv hs hX0).xh hs (xo_on hOK hB (by omega)) rfl (hX.st (i := 1) (by decide)) rfl rfl ⟨Nat.le_of_ble_eq_true rfl, Nat.le_of_ble_eq_true rfl⟩ (by exact Nat.le_of_ble_eq_true rfl) (fun h hX hs => ?_)
          refine aw_iincN (b := 1) dX0_ruin_41 rfl rfl (by decide) rfl rfl ?_
          refine aw_goto (tgt := 25) dX0_ruin_44 (by decide) ?_
          exact ih (n' - (k + 1)) (by omega) (k + 1) h rfl (by omega) ((sp_week_ok hOK hB).mono (by omega)) hX hs
        ·
          refine aw_iload_n dX0_ruin_25 rfl ?_
          refine aw_iload_n dX0_ruin_26 rfl ?_
          refine aw_icmp_geN (tgt := 47) dX0_ruin_27 (by decide) (by omega) (by omega) (fun c_27 => ?_) (fun c_27 => by exfalso; omega)
          refine aw_iconst (v := nI 0) dX0_ruin_47 rfl ?_
          refine aw_istore_n dX0_ruin_48 (by decide) rfl rfl ?_
          refine aw_iconst (v := nI 0) dX0_ruin_49 rfl ?_
          refine aw_istore_n dX0_ruin_50 (by decide) rfl rfl ?_
          refine AW_le (kc' := 0) (ks' := 0) (Nat.zero_le _) (Nat.zero_le _) (sum _ 0 h rfl (Nat.zero_le _) (hX.eqv (by rw [show k = n' by omega])) hs)
    refine aw_iload_n dX0_ruin_0 rfl ?_
    refine aw_iconst (v := nI 0) dX0_ruin_1 rfl ?_
    refine aw_bipush (v := nI 60) dX0_ruin_2 rfl ?_
    refine aw_callP (r := _) dX0_ruin_4 sX0_155 rfl (xp_isIn) rfl rfl ⟨Nat.le_of_ble_eq_true rfl, Nat.le_of_ble_eq_true rfl⟩ (Nat.le_of_ble_eq_true rfl) ?_
    refine aw_if_neB (tgt := 12) dX0_ruin_7 (by decide) (fun c_7 => ?_) (fun c_7 => by exfalso; exact c_7 z)
    refine aw_aload_n dX0_ruin_12 rfl ?_
    refine aw_get dX0_ruin_13 fX0_32 rfl (hX.1 0 (by decide)) (by rfl) ?_
    refine aw_aload_n dX0_ruin_16 rfl ?_
    refine aw_get dX0_ruin_17 fX0_28 rfl (hX.1 0 (by decide)) (by rfl) ?_
    refine xx_call0 dX0_ruin_20 sX0_138 rfl hW hX (hq.mv hs hX0).xh hs xs_of10 rfl (hX.st (i := 1) (by decide)) rfl rfl ⟨Nat.le_of_ble_eq_true rfl, Nat.le_of_ble_eq_true rfl⟩ (by exact Nat.le_of_ble_eq_true rfl) (fun h hX hs => ?_)
    refine aw_iconst (v := nI 0) dX0_ruin_23 rfl ?_
    refine aw_istore_n dX0_ruin_24 (by decide) rfl rfl ?_
    refine AW_le (kc' := n' - 0) (ks' := 4 * (n' - 0)) (by omega) (by omega) (loop n' 0 h rfl (Nat.zero_le _) (hA.mono (by omega)) hX hs)
  ·
    refine aw_iload_n dX0_ruin_0 rfl ?_
    refine aw_iconst (v := nI 0) dX0_ruin_1 rfl ?_
    refine aw_bipush (v := nI 60) dX0_ruin_2 rfl ?_
    refine aw_callP (r := _) dX0_ruin_4 sX0_155 rfl (xp_isIn) rfl rfl ⟨Nat.le_of_ble_eq_true rfl, Nat.le_of_ble_eq_true rfl⟩ (Nat.le_of_ble_eq_true rfl) ?_
    refine aw_if_neB (tgt := 12) dX0_ruin_7 (by decide) (fun c_7 => by exfalso; exact z c_7) (fun c_7 => ?_)
    refine aw_iconst (v := -1) dX0_ruin_10 rfl ?_
    refine aw_ireturn dX0_ruin_11 rfl ?_
    exact ⟨by rw [op_ruin, aw_if0 z], _, mm_core.rf, hX, hs⟩

