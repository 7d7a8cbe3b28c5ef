set_option maxRecDepth 100000
/-! the component: spread, stride, settle -/
set_option maxHeartbeats 4000000 in
theorem xo_monN {s : mm_S} {H : sp_H} {u : Nat} {t : Nat} (hn : sp_hn H ≤ 8) (ht : t < sp_hn H) : xx_Met yX0_month cX0_month 2 (some .int) 6 0 0 (fun w => [.ref (w.1 0), .int (nI (t))]) s H u (some (.int (nI (sp_mon H (sp_lv H) t)))) (s) := by
  refine xx_Met.of (by decide +kernel) (fun _ => Nat.le_of_ble_eq_true rfl) (fun G w h0 hW hX hH => ?_)
  have hX0 := hX
  have hs : xx_same w h0 h0 := xx_same.rf
  obtain ⟨tl, te, cap, m9, f9, tn, nm9, c9, mo9, D9, hq⟩ := hH
  show AW G (aw_rm 6 0 0) yX0_month cX0_month 2 (some .int) (aw_N G (xx_Po G w h0 (some (.int (nI (sp_mon H (sp_lv H) t)))) (s)) 0 0) 0 0 h0 0 [(0, .ref (w.1 0)), (1, .int (nI (t)))] []
  have T1 : 0 ≤ (nI t).toInt ∧ (nI t).toInt < (sp_hn H : Int) := by rw [aw_ti (by omega)]; omega
  refine aw_aload_n dX0_month_0 rfl ?_
  refine aw_iload_n dX0_month_1 rfl ?_
  refine xx_call0 dX0_month_2 sX0_188 rfl hW hX (hq.mv hs hX0).xh hs (xo_isT hn) rfl (hX.1 0 (by decide)) rfl rfl ⟨Nat.le_of_ble_eq_true rfl, Nat.le_of_ble_eq_true rfl⟩ (by exact Nat.le_of_ble_eq_true rfl) (fun h hX hs => ?_)
  refine aw_if_eqB (tgt := 33) dX0_month_5 (by decide) (fun c_5 => by exfalso; exact c_5 T1) (fun c_5 => ?_)
  refine aw_aload_n dX0_month_8 rfl ?_
  refine aw_iload_n dX0_month_9 rfl ?_
  refine aw_aload_n dX0_month_10 rfl ?_
  refine aw_get dX0_month_11 fX0_19 rfl (hX.1 0 (by decide)) (by rfl) ?_
  refine aw_get dX0_month_14 fX0_95 rfl (hq.mv hs hX0).1 (by rfl) ?_
  refine aw_iload_n dX0_month_17 rfl ?_
  refine xx_get dX0_month_18 sX0_98 rfl (hq.mv hs hX0) (by omega) ⟨Nat.le_of_ble_eq_true rfl, Nat.le_of_ble_eq_true rfl⟩ (by exact Nat.le_of_ble_eq_true rfl) ?_
  refine aw_castS (y := yX0_month) dX0_month_21 q378 aw_cl7 ((hq.mv hs hX0).ten (by omega)) ?_
  refine aw_get dX0_month_24 fX0_192 rfl ((hq.mv hs hX0).ten (by omega)) (by rfl) ?_
  refine xx_call0 dX0_month_27 sX0_305 rfl hW hX (hq.mv hs hX0).xh hs (xo_costs hn ht) rfl (hX.1 0 (by decide)) rfl rfl ⟨Nat.le_of_ble_eq_true rfl, Nat.le_of_ble_eq_true rfl⟩ (by exact Nat.le_of_ble_eq_true rfl) (fun h hX hs => ?_)
  refine aw_goto (tgt := 34) dX0_month_30 (by decide) ?_
  refine aw_ireturn dX0_month_34 rfl ?_
  exact ⟨rfl, hX, hs⟩
set_option maxHeartbeats 4000000 in
theorem xo_spread {s : mm_S} {H : sp_H} {u : Nat} (hOK : sp_okH H) : xx_Op yX0_spread cX0_spread 4 (some .int) 7 0 0 (fun w => [.ref (w.1 0)]) s H u (some (.int (op_spread H))) (s) := by
  refine xx_Op.of (by decide +kernel) (fun _ => Nat.le_of_ble_eq_true rfl) (fun G w h0 hW hX hH => ?_)
  have hX0 := hX
  have hs : xx_same w h0 h0 := xx_same.rf
  obtain ⟨tl, te, cap, m9, f9, tn, nm9, c9, mo9, D9, hq⟩ := hH
  show AW G (aw_rm 7 0 0) yX0_spread cX0_spread 4 (some .int) (aw_N G (xx_PoC G w h0 (some (.int (op_spread H))) (s)) 0 0) 0 0 h0 0 [(0, .ref (w.1 0))] []
  have hs1 : 1 ≤ sp_hs H := hOK.1.1; have hs20 : sp_hs H ≤ 20 := hOK.1.2; have hn : sp_hn H ≤ 8 := hOK.2.1; have hlv : ∀ t, t < 8 → sp_lv H t ≤ 20 := fun t ht => (hOK.2.2.1 t ht).1; have hsg : ∀ t, t < 8 → sp_sg8 H t ≤ 40 := fun t ht => (hOK.2.2.1 t ht).2.1; have hhv : ∀ t, t < 8 → sp_hv H t ≤ 9 := fun t ht => (hOK.2.2.1 t ht).2.2.1; have how : ∀ t, t < 8 → sp_ow H t ≤ 999 := fun t ht => (hOK.2.2.1 t ht).2.2.2.1; have hfl : ∀ t, t < 8 → sp_fl H t ≤ 100 := fun t ht => (hOK.2.2.1 t ht).2.2.2.2
  have mb : ∀ t, t < 8 → sp_mon H (sp_lv H) t ≤ 1599 := fun t ht => by
    have h1 := hlv t ht
    have h2 := how t ht
    unfold sp_mon
    omega
  by_cases z : sp_hn H = 0
  ·
    refine aw_aload_n dX0_spread_0 rfl ?_
    refine xx_call0 dX0_spread_1 sX0_91 rfl hW hX (hq.mv hs hX0).xh hs xo_many rfl (hX.1 0 (by decide)) rfl rfl ⟨Nat.le_of_ble_eq_true rfl, Nat.le_of_ble_eq_true rfl⟩ (by exact Nat.le_of_ble_eq_true rfl) (fun h hX hs => ?_)
    refine aw_if_neN (tgt := 9) dX0_spread_4 (by decide) (by omega) (fun c_4 => by exfalso; omega) (fun c_4 => ?_)
    refine aw_iconst (v := -1) dX0_spread_7 rfl ?_
    refine aw_ireturn dX0_spread_8 rfl ?_
    exact ⟨by rw [op_spread, if_pos z], _, mm_core.rf, hX, hs⟩
  · have m0 := mb 0 (by decide)
    have i1 : sp_mn (sp_mon H (sp_lv H)) 1 = sp_mon H (sp_lv H) 0 := by
      rw [sp_mn_s, if_pos (by show _ < 1000000; omega)]
    have i2 : sp_mx (sp_mon H (sp_lv H)) 1 = sp_mon H (sp_lv H) 0 := by
      rw [sp_mx_s]
      show (if 0 < sp_mon H (sp_lv H) 0 then sp_mon H (sp_lv H) 0 else 0) = sp_mon H (sp_lv H) 0
      split <;> omega
    have loop : ∀ (d k : Nat) (h : aw_H), sp_hn H - k = d → 1 ≤ k → k ≤ sp_hn H → XC G w h s → xx_same w h0 h → AW G (aw_rm 7 0 0) yX0_spread cX0_spread 4 (some .int) (aw_N G (xx_PoC G w h0 (some (.int (op_spread H))) (s)) 0 0) 0 0 (h) 19 [(0, .ref (w.1 0)), (1, .int (nI (sp_mn (sp_mon H (sp_lv H)) k))), (2, .int (nI (sp_mx (sp_mon H (sp_lv H)) k))), (3, .int (nI k))] [] := by
      intro d
      induction d using Nat.strongRecOn with
      | _ d ih =>
        intro k h hd hk1 hk hX hs
        have b1 : sp_mn (sp_mon H (sp_lv H)) k ≤ 1000000 := sp_mn_le k
        have b2 : sp_mx (sp_mon H (sp_lv H)) k ≤ 1599 := sp_mx_le2 k (fun j hj => mb j (by omega))
        by_cases hk9 : k < sp_hn H
        · have mk := mb k (by omega)
          refine aw_iload_n dX0_spread_19 rfl ?_
          refine aw_aload_n dX0_spread_20 rfl ?_
          refine xx_call0 dX0_spread_21 sX0_91 rfl hW hX (hq.mv hs hX0).xh hs xo_many rfl (hX.1 0 (by decide)) rfl rfl ⟨Nat.le_of_ble_eq_true rfl, Nat.le_of_ble_eq_true rfl⟩ (by exact Nat.le_of_ble_eq_true rfl) (fun h hX hs => ?_)
          refine aw_icmp_geN (tgt := 53) dX0_spread_24 (by decide) (by omega) (by omega) (fun c_24 => by exfalso; omega) (fun c_24 => ?_)
          refine aw_iload_n dX0_spread_27 rfl ?_
          refine aw_aload_n dX0_spread_28 rfl ?_
          refine aw_iload_n dX0_spread_29 rfl ?_
          refine xx_call0 dX0_spread_30 sX0_299 rfl hW hX (hq.mv hs hX0).xh hs (xo_monN hn hk9) rfl (hX.1 0 (by decide)) rfl rfl ⟨Nat.le_of_ble_eq_true rfl, Nat.le_of_ble_eq_true rfl⟩ (by exact Nat.le_of_ble_eq_true rfl) (fun h hX hs => ?_)
          refine aw_mminN dX0_spread_33 q951 (by omega) (by omega) (Nat.le_of_ble_eq_true rfl) (Nat.le_of_ble_eq_true rfl) (Nat.le_of_ble_eq_true rfl) ?_
          refine aw_istore_n dX0_spread_36 (by decide) rfl rfl ?_
          refine aw_iload_n dX0_spread_37 rfl ?_
          refine aw_aload_n dX0_spread_38 rfl ?_
          refine aw_iload_n dX0_spread_39 rfl ?_
          refine xx_call0 dX0_spread_40 sX0_299 rfl hW hX (hq.mv hs hX0).xh hs (xo_monN hn hk9) rfl (hX.1 0 (by decide)) rfl rfl ⟨Nat.le_of_ble_eq_true rfl, Nat.le_of_ble_eq_true rfl⟩ (by exact Nat.le_of_ble_eq_true rfl) (fun h hX hs => ?_)
          refine aw_mmaxN dX0_spread_43 q952 (by omega) (by omega) (Nat.le_of_ble_eq_true rfl) (Nat.le_of_ble_eq_true rfl) (Nat.le_of_ble_eq_true rfl) ?_
          refine aw_istore_n dX0_spread_46 (by decide) rfl rfl ?_
          refine aw_iincN (b := 1) dX0_spread_47 rfl rfl (by decide) rfl rfl ?_
          refine aw_goto (tgt := 19) dX0_spread_50 (by decide) ?_
          refine AW_ls ?_ (ih (sp_hn H - (k + 1)) (by omega) (k + 1) h rfl (by omega) (by omega) hX hs)
          rw [show sp_mn (sp_mon H (sp_lv H)) (k + 1) = min (sp_mn (sp_mon H (sp_lv H)) k) (sp_mon H (sp_lv H) k) by rw [sp_mn_s]; split <;> omega, show sp_mx (sp_mon H (sp_lv H)) (k + 1) = max (sp_mx (sp_mon H (sp_lv H)) k) (sp_mon H (sp_lv H) k) by rw [sp_mx_s]; split <;> omega]
          rfl
        · have mm := sp_mnx (f := sp_mon H (sp_lv H)) (n := k) (k := 0) (by omega)
          refine aw_iload_n dX0_spread_19 rfl ?_
          refine aw_aload_n dX0_spread_20 rfl ?_
          refine xx_call0 dX0_spread_21 sX0_91 rfl hW hX (hq.mv hs hX0).xh hs xo_many rfl (hX.1 0 (by decide)) rfl rfl ⟨Nat.le_of_ble_eq_true rfl, Nat.le_of_ble_eq_true rfl⟩ (by exact Nat.le_of_ble_eq_true rfl) (fun h hX hs => ?_)
          refine aw_icmp_geN (tgt := 53) dX0_spread_24 (by decide) (by omega) (by omega) (fun c_24 => ?_) (fun c_24 => by exfalso; omega)
          refine aw_iload_n dX0_spread_53 rfl ?_
          refine aw_iload_n dX0_spread_54 rfl ?_
          refine aw_isubN dX0_spread_55 (by omega) ?_
          refine aw_ireturn dX0_spread_56 rfl ?_
          refine ⟨?_, _, mm_core.rf, hX, hs⟩
          rw [op_spread, if_neg z]
          unfold sp_unev
          rw [show sp_hn H = k by omega]
    refine aw_aload_n dX0_spread_0 rfl ?_
    refine xx_call0 dX0_spread_1 sX0_91 rfl hW hX (hq.mv hs hX0).xh hs xo_many rfl (hX.1 0 (by decide)) rfl rfl ⟨Nat.le_of_ble_eq_true rfl, Nat.le_of_ble_eq_true rfl⟩ (by exact Nat.le_of_ble_eq_true rfl) (fun h hX hs => ?_)
    refine aw_if_neN (tgt := 9) dX0_spread_4 (by decide) (by omega) (fun c_4 => ?_) (fun c_4 => by exfalso; omega)
    refine aw_aload_n dX0_spread_9 rfl ?_
    refine aw_iconst (v := nI 0) dX0_spread_10 rfl ?_
    refine xx_call0 dX0_spread_11 sX0_299 rfl hW hX (hq.mv hs hX0).xh hs (xo_monN (t := 0) hn (by omega)) rfl (hX.1 0 (by decide)) rfl rfl ⟨Nat.le_of_ble_eq_true rfl, Nat.le_of_ble_eq_true rfl⟩ (by exact Nat.le_of_ble_eq_true rfl) (fun h hX hs => ?_)
    refine aw_istore_n dX0_spread_14 (by decide) rfl rfl ?_
    refine aw_iload_n dX0_spread_15 rfl ?_
    refine aw_istore_n dX0_spread_16 (by decide) rfl rfl ?_
    refine aw_iconst (v := nI 1) dX0_spread_17 rfl ?_
    refine aw_istore_n dX0_spread_18 (by decide) rfl rfl ?_
    refine AW_ls ?_ (loop _ 1 h rfl (Nat.le_refl _) (by omega) hX hs)
    rw [i1, i2]
    rfl
set_option maxHeartbeats 4000000 in
theorem xo_stride {s : mm_S} {H : sp_H} {u : Nat} {t nt : Int32} {N : Nat} (hOK : sp_okH H) (hA : sp_okA N (mm_a s 45)) : xx_Op yX0_stride cX0_stride 7 (some .int) 603 0 0 (fun w => [.ref (w.1 0), .int (t), .int (nt)]) s H u (some (.int (op_stride H (mm_a s 45) t nt))) (s) := by
  refine xx_Op.of (by decide +kernel) (fun _ => Nat.le_of_ble_eq_true rfl) (fun G w h0 hW hX hH => ?_)
  have hX0 := hX
  have hs : xx_same w h0 h0 := xx_same.rf
  obtain ⟨tl, te, cap, m9, f9, tn, nm9, c9, mo9, D9, hq⟩ := hH
  show AW G (aw_rm 603 0 0) yX0_stride cX0_stride 7 (some .int) (aw_N G (xx_PoC G w h0 (some (.int (op_stride H (mm_a s 45) t nt))) (s)) 0 0) 0 0 h0 0 [(0, .ref (w.1 0)), (1, .int (t)), (2, .int (nt))] []
  have hs1 : 1 ≤ sp_hs H := hOK.1.1; have hs20 : sp_hs H ≤ 20 := hOK.1.2; have hn : sp_hn H ≤ 8 := hOK.2.1; have hlv : ∀ t, t < 8 → sp_lv H t ≤ 20 := fun t ht => (hOK.2.2.1 t ht).1; have hsg : ∀ t, t < 8 → sp_sg8 H t ≤ 40 := fun t ht => (hOK.2.2.1 t ht).2.1; have hhv : ∀ t, t < 8 → sp_hv H t ≤ 9 := fun t ht => (hOK.2.2.1 t ht).2.2.1; have how : ∀ t, t < 8 → sp_ow H t ≤ 999 := fun t ht => (hOK.2.2.1 t ht).2.2.2.1; have hfl : ∀ t, t < 8 → sp_fl H t ≤ 100 := fun t ht => (hOK.2.2.1 t ht).2.2.2.2
  have hb : ∀ t, t < 8 → mm_a s 45 t ≤ 40 := fun t ht => (hA.1 t ht).1; have hp : ∀ t, t < 8 → mm_a s 45 (8 + t) ≤ 9999 := fun t ht => (hA.1 t ht).2.1; have hd : ∀ t, t < 8 → mm_a s 45 (16 + t) ≤ N := fun t ht => (hA.1 t ht).2.2; have h24 : mm_a s 45 24 ≤ N := hA.2.1; have h25 : mm_a s 45 25 ≤ 20 := hA.2.2.1; have h26 : mm_a s 45 26 ≤ N := hA.2.2.2.1; have h27 : mm_a s 45 27 ≤ 999 := hA.2.2.2.2
  have e0 : (nI 0).toInt = 0 := rfl
  have e1 : (nI 1).toInt = 1 := rfl
  have no : ¬ (sp_isT H t ∧ 0 ≤ nt.toInt ∧ nt.toInt ≤ 1) → op_stride H (mm_a s 45) t nt = -1 := fun z => by rw [op_stride, aw_if0 z]
  by_cases z : sp_isT H t ∧ 0 ≤ nt.toInt ∧ nt.toInt ≤ 1
  · obtain ⟨z1, z2, z3⟩ := z
    have y1 := z1
    obtain ⟨t', ht, rfl, t1, t2⟩ := aw_ofN y1.1
    obtain ⟨n', hn', rfl, n1, n2⟩ := aw_ofN z2
    have ht9 : t' < sp_hn H := by have := z1.2; omega
    have hb9 := hb t' (by omega)
    obtain ⟨c, hc⟩ : ∃ c, c = (fun a => sp_cnt H (mm_a s 45) a 0 n') := ⟨_, rfl⟩
    obtain ⟨L, hL⟩ : ∃ L, L = min (sp_hs H) (mm_a s 45 t') := ⟨_, rfl⟩
    have fin : op_stride H (mm_a s 45) (nI t') (nI n') = sp_cz (sp_str c L) := by rw [op_stride, aw_if1 ⟨z1, z2, z3⟩, t2, n2, hc, hL]
    rw [fin]
    have loop : ∀ (d k : Nat) (h : aw_H) (m9 : Nat), L - k = d → k ≤ L → (sp_str c k ≠ 0 → m9 = c (sp_str c k)) → m9 ≤ 999 → XC G w h s → xx_same w h0 h → AW G (aw_rm 603 0 0) yX0_stride cX0_stride 7 (some .int) (aw_N G (xx_PoC G w h0 (some (.int (sp_cz (sp_str c L)))) (s)) 0 0) 0 0 (h) 27 [(0, .ref (w.1 0)), (1, .int (nI t')), (2, .int (nI n')), (3, .int (sp_cz (sp_str c k))), (4, .int (nI m9)), (5, .int (nI (k + 1)))] [] := by
      intro d
      induction d using Nat.strongRecOn with
      | _ d ih =>
        intro k h m9 hd hk hm hm9 hX hs
        by_cases hk9 : k < L
        · have eS : sp_str c (k + 1) = if sp_str c k = 0 ∨ c (sp_str c k) * (k + 1) < c (k + 1) * sp_str c k then k + 1 else sp_str c k := rfl
          have le := sp_str_le c k
          have cb : ∀ j, c j ≤ 999 := fun j => by rw [hc]; exact sp_cnt_le
          have next : ∀ (h : aw_H) (b v : Nat) (q : Int32), b = sp_str c (k + 1) → (sp_str c (k + 1) ≠ 0 → v = c (sp_str c (k + 1))) → v ≤ 999 → XC G w h s → xx_same w h0 h → AW G (aw_rm 603 0 0) yX0_stride cX0_stride 7 (some .int) (aw_N G (xx_PoC G w h0 (some (.int (sp_cz (sp_str c L)))) (s)) 0 0) 0 0 (h) 101 [(0, .ref (w.1 0)), (1, .int (nI t')), (2, .int (nI n')), (3, .int (sp_cz b)), (4, .int (nI v)), (5, .int (nI (k + 1))), (6, .int q)] [] := by
            intro h b v q eb ev hv hX hs
            subst eb
            refine aw_iincN (b := 1) dX0_stride_101 rfl rfl (by decide) rfl rfl ?_
            refine aw_goto (tgt := 27) dX0_stride_104 (by decide) ?_
            exact AW_dr (ih (L - (k + 1)) (by omega) (k + 1) h v rfl (by omega) ev hv hX hs)
          have c1 : sp_cnt H (mm_a s 45) (k + 1) 0 n' = c (k + 1) := by rw [hc]
          have cc := cb (k + 1)
          generalize hb8 : sp_str c k = b at *
          by_cases hb0 : b = 0
          · subst hb0
            refine aw_iload dX0_stride_27 rfl ?_
            refine aw_aload_n dX0_stride_29 rfl ?_
            refine aw_get dX0_stride_30 fX0_19 rfl (hX.1 0 (by decide)) (by rfl) ?_
            refine aw_get dX0_stride_33 fX0_208 rfl (hq.mv hs hX0).1 (by rfl) ?_
            refine aw_aload_n dX0_stride_36 rfl ?_
            refine aw_get dX0_stride_37 fX0_28 rfl (hX.1 0 (by decide)) (by rfl) ?_
            refine aw_get dX0_stride_40 fX0_88 rfl (hX.st (i := 0) (by decide)) (by rfl) ?_
            refine aw_iload_n dX0_stride_43 rfl ?_
            refine xx_ialdS (i := 0) (b := 0) dX0_stride_44 hX (by decide) (by decide) (by omega) ?_
            try simp only [Nat.reduceMul, Nat.reduceAdd, Nat.zero_add]
            refine aw_mminN dX0_stride_45 q951 (by omega) (by omega) (Nat.le_of_ble_eq_true rfl) (Nat.le_of_ble_eq_true rfl) (Nat.le_of_ble_eq_true rfl) ?_
            refine aw_icmp_gtN (tgt := 107) dX0_stride_48 (by decide) (by omega) (by omega) (fun c_48 => by exfalso; omega) (fun c_48 => ?_)
            refine aw_aload_n dX0_stride_51 rfl ?_
            refine aw_get dX0_stride_52 fX0_19 rfl (hX.1 0 (by decide)) (by rfl) ?_
            refine aw_aload_n dX0_stride_55 rfl ?_
            refine aw_get dX0_stride_56 fX0_28 rfl (hX.1 0 (by decide)) (by rfl) ?_
            refine aw_iload dX0_stride_59 rfl ?_
            refine aw_iconst (v := nI 0) dX0_stride_61 rfl ?_
            refine aw_iload_n dX0_stride_62 rfl ?_
            refine aw_aload_n dX0_stride_63 rfl ?_
            refine aw_get dX0_stride_64 fX0_28 rfl (hX.1 0 (by decide)) (by rfl) ?_
            refine aw_get dX0_stride_67 fX0_113 rfl (hX.st (i := 0) (by decide)) (by rfl) ?_
            try simp only [Nat.reduceMul, Nat.reduceAdd, Nat.zero_add]
            refine xx_call0 dX0_stride_70 sX0_220 rfl hW hX (hq.mv hs hX0).xh hs ((xh_cntS (i := 0) (a := k + 1) (b := 0) (n := n') (by decide) (by omega)).eqv (r' := some (.int (nI (c (k + 1))))) (congrArg (fun x => some (Value.int (nI x))) c1) rfl) rfl (hq.mv hs hX0).1 rfl rfl ⟨Nat.le_of_ble_eq_true rfl, Nat.le_of_ble_eq_true rfl⟩ (by exact Nat.le_of_ble_eq_true rfl) (fun h hX hs => ?_)
            refine aw_istore dX0_stride_73 (by decide) rfl rfl ?_
            refine aw_iload_n dX0_stride_75 rfl ?_
            refine aw_if_lt (tgt := 94) dX0_stride_76 (by decide) (fun c_76 => ?_) (fun c_76 => by exfalso; exact c_76 (by decide))
            refine aw_iload dX0_stride_94 rfl ?_
            refine aw_istore_n dX0_stride_96 (by decide) rfl rfl ?_
            refine aw_iload dX0_stride_97 rfl ?_
            refine aw_istore dX0_stride_99 (by decide) rfl rfl ?_
            exact next h (k + 1) (c (k + 1)) _ (by rw [eS, if_pos (Or.inl rfl)]) (fun _ => by rw [eS, if_pos (Or.inl rfl)]) cc hX hs
          · rw [show sp_cz b = nI b from if_neg hb0]
            have hm2 := hm hb0
            have m1 : m9 * (k + 1) ≤ 999 * 41 := Nat.mul_le_mul hm9 (by omega)
            have m2 : c (k + 1) * b ≤ 999 * 41 := Nat.mul_le_mul cc (by omega)
            refine aw_iload dX0_stride_27 rfl ?_
            refine aw_aload_n dX0_stride_29 rfl ?_
            refine aw_get dX0_stride_30 fX0_19 rfl (hX.1 0 (by decide)) (by rfl) ?_
            refine aw_get dX0_stride_33 fX0_208 rfl (hq.mv hs hX0).1 (by rfl) ?_
            refine aw_aload_n dX0_stride_36 rfl ?_
            refine aw_get dX0_stride_37 fX0_28 rfl (hX.1 0 (by decide)) (by rfl) ?_
            refine aw_get dX0_stride_40 fX0_88 rfl (hX.st (i := 0) (by decide)) (by rfl) ?_
            refine aw_iload_n dX0_stride_43 rfl ?_
            refine xx_ialdS (i := 0) (b := 0) dX0_stride_44 hX (by decide) (by decide) (by omega) ?_
            try simp only [Nat.reduceMul, Nat.reduceAdd, Nat.zero_add]
            refine aw_mminN dX0_stride_45 q951 (by omega) (by omega) (Nat.le_of_ble_eq_true rfl) (Nat.le_of_ble_eq_true rfl) (Nat.le_of_ble_eq_true rfl) ?_
            refine aw_icmp_gtN (tgt := 107) dX0_stride_48 (by decide) (by omega) (by omega) (fun c_48 => by exfalso; omega) (fun c_48 => ?_)
            refine aw_aload_n dX0_stride_51 rfl ?_
            refine aw_get dX0_stride_52 fX0_19 rfl (hX.1 0 (by decide)) (by rfl) ?_
            refine aw_aload_n dX0_stride_55 rfl ?_
            refine aw_get dX0_stride_56 fX0_28 rfl (hX.1 0 (by decide)) (by rfl) ?_
            refine aw_iload dX0_stride_59 rfl ?_
            refine aw_iconst (v := nI 0) dX0_stride_61 rfl ?_
            refine aw_iload_n dX0_stride_62 rfl ?_
            refine aw_aload_n dX0_stride_63 rfl ?_
            refine aw_get dX0_stride_64 fX0_28 rfl (hX.1 0 (by decide)) (by rfl) ?_
            refine aw_get dX0_stride_67 fX0_113 rfl (hX.st (i := 0) (by decide)) (by rfl) ?_
            try simp only [Nat.reduceMul, Nat.reduceAdd, Nat.zero_add]
            refine xx_call0 dX0_stride_70 sX0_220 rfl hW hX (hq.mv hs hX0).xh hs ((xh_cntS (i := 0) (a := k + 1) (b := 0) (n := n') (by decide) (by omega)).eqv (r' := some (.int (nI (c (k + 1))))) (congrArg (fun x => some (Value.int (nI x))) c1) rfl) rfl (hq.mv hs hX0).1 rfl rfl ⟨Nat.le_of_ble_eq_true rfl, Nat.le_of_ble_eq_true rfl⟩ (by exact Nat.le_of_ble_eq_true rfl) (fun h hX hs => ?_)
            refine aw_istore dX0_stride_73 (by decide) rfl rfl ?_
            refine aw_iload_n dX0_stride_75 rfl ?_
            refine aw_if_ltN (tgt := 94) dX0_stride_76 (by decide) (by omega) ?_
            refine aw_iload dX0_stride_79 rfl ?_
            refine aw_iload_n dX0_stride_81 rfl ?_
            refine aw_imulN dX0_stride_82 ?_
            refine aw_iload dX0_stride_83 rfl ?_
            refine aw_iload dX0_stride_85 rfl ?_
            refine aw_imulN dX0_stride_87 ?_
            refine aw_icmp_gtN (tgt := 94) dX0_stride_88 (by decide) (by omega) (by omega) (fun c_88 => ?_) (fun c_88 => ?_)
            · refine aw_iload dX0_stride_94 rfl ?_
              refine aw_istore_n dX0_stride_96 (by decide) rfl rfl ?_
              refine aw_iload dX0_stride_97 rfl ?_
              refine aw_istore dX0_stride_99 (by decide) rfl rfl ?_
              first
              | (have z9 : c b * (k + 1) < c (k + 1) * b := by rw [← hm2]; omega
                 exact next h (k + 1) (c (k + 1)) _ (by rw [eS, if_pos (Or.inr z9)]) (fun _ => by rw [eS, if_pos (Or.inr z9)]) cc hX hs)
              | (have z9 : ¬ c b * (k + 1) < c (k + 1) * b := by rw [← hm2]; omega
                 have ez : sp_cz b = nI b := if_neg hb0
                 refine AW_ls ?_ (next h b m9 (nI (c (k + 1))) (by rw [eS, if_neg (fun q => q.elim hb0 z9)]) (fun _ => by rw [eS, if_neg (fun q => q.elim hb0 z9)]; exact hm2) hm9 hX hs)
                 rw [ez]
                 rfl)
            · refine aw_goto (tgt := 101) dX0_stride_91 (by decide) ?_
              first
              | (have z9 : c b * (k + 1) < c (k + 1) * b := by rw [← hm2]; omega
                 exact next h (k + 1) (c (k + 1)) _ (by rw [eS, if_pos (Or.inr z9)]) (fun _ => by rw [eS, if_pos (Or.inr z9)]) cc hX hs)
              | (have z9 : ¬ c b * (k + 1) < c (k + 1) * b := by rw [← hm2]; omega
                 have ez : sp_cz b = nI b := if_neg hb0
                 refine AW_ls ?_ (next h b m9 (nI (c (k + 1))) (by rw [eS, if_neg (fun q => q.elim hb0 z9)]) (fun _ => by rw [eS, if_neg (fun q => q.elim hb0 z9)]; exact hm2) hm9 hX hs)
                 rw [ez]
                 rfl)
        ·
          refine aw_iload dX0_stride_27 rfl ?_
          refine aw_aload_n dX0_stride_29 rfl ?_
          refine aw_get dX0_stride_30 fX0_19 rfl (hX.1 0 (by decide)) (by rfl) ?_
          refine aw_get dX0_stride_33 fX0_208 rfl (hq.mv hs hX0).1 (by rfl) ?_
          refine aw_aload_n dX0_stride_36 rfl ?_
          refine aw_get dX0_stride_37 fX0_28 rfl (hX.1 0 (by decide)) (by rfl) ?_
          refine aw_get dX0_stride_40 fX0_88 rfl (hX.st (i := 0) (by decide)) (by rfl) ?_
          refine aw_iload_n dX0_stride_43 rfl ?_
          refine xx_ialdS (i := 0) (b := 0) dX0_stride_44 hX (by decide) (by decide) (by omega) ?_
          try simp only [Nat.reduceMul, Nat.reduceAdd, Nat.zero_add]
          refine aw_mminN dX0_stride_45 q951 (by omega) (by omega) (Nat.le_of_ble_eq_true rfl) (Nat.le_of_ble_eq_true rfl) (Nat.le_of_ble_eq_true rfl) ?_
          refine aw_icmp_gtN (tgt := 107) dX0_stride_48 (by decide) (by omega) (by omega) (fun c_48 => ?_) (fun c_48 => by exfalso; omega)
          refine aw_iload_n dX0_stride_107 rfl ?_
          refine aw_ireturn dX0_stride_108 rfl ?_
          exact ⟨by rw [show L = k by omega], _, mm_core.rf, hX, hs⟩
    refine aw_aload_n dX0_stride_0 rfl ?_
    refine aw_iload_n dX0_stride_1 rfl ?_
    refine xx_call0 dX0_stride_2 sX0_188 rfl hW hX (hq.mv hs hX0).xh hs (xo_isT hn) rfl (hX.1 0 (by decide)) rfl rfl ⟨Nat.le_of_ble_eq_true rfl, Nat.le_of_ble_eq_true rfl⟩ (by exact Nat.le_of_ble_eq_true rfl) (fun h hX hs => ?_)
    refine aw_if_eqB (tgt := 17) dX0_stride_5 (by decide) (fun c_5 => by exfalso; exact c_5 z1) (fun c_5 => ?_)
    refine aw_iload_n dX0_stride_8 rfl ?_
    refine aw_iconst (v := nI 0) dX0_stride_9 rfl ?_
    refine aw_iconst (v := nI 1) dX0_stride_10 rfl ?_
    refine aw_callP (r := _) dX0_stride_11 sX0_155 rfl (xp_isIn) rfl rfl ⟨Nat.le_of_ble_eq_true rfl, Nat.le_of_ble_eq_true rfl⟩ (Nat.le_of_ble_eq_true rfl) ?_
    refine aw_if_neB (tgt := 19) dX0_stride_14 (by decide) (fun c_14 => ?_) (fun c_14 => by exfalso; exact c_14 (by omega))
    refine aw_iconst (v := -1) dX0_stride_19 rfl ?_
    refine aw_istore_n dX0_stride_20 (by decide) rfl rfl ?_
    refine aw_iconst (v := nI 0) dX0_stride_21 rfl ?_
    refine aw_istore dX0_stride_22 (by decide) rfl rfl ?_
    refine aw_iconst (v := nI 1) dX0_stride_24 rfl ?_
    refine aw_istore dX0_stride_25 (by decide) rfl rfl ?_
    exact loop L 0 h 0 rfl (Nat.zero_le _) (fun q => absurd rfl q) (Nat.zero_le _) hX hs
  ·
    refine aw_aload_n dX0_stride_0 rfl ?_
    refine aw_iload_n dX0_stride_1 rfl ?_
    refine xx_call0 dX0_stride_2 sX0_188 rfl hW hX (hq.mv hs hX0).xh hs (xo_isT hn) rfl (hX.1 0 (by decide)) rfl rfl ⟨Nat.le_of_ble_eq_true rfl, Nat.le_of_ble_eq_true rfl⟩ (by exact Nat.le_of_ble_eq_true rfl) (fun h hX hs => ?_)
    refine aw_if_eqB (tgt := 17) dX0_stride_5 (by decide) (fun c_5 => ?_) (fun c_5 => ?_)
    · refine aw_iconst (v := -1) dX0_stride_17 rfl ?_
      refine aw_ireturn dX0_stride_18 rfl ?_
      exact ⟨by rw [no z], _, mm_core.rf, hX, hs⟩
    · refine aw_iload_n dX0_stride_8 rfl ?_
      refine aw_iconst (v := nI 0) dX0_stride_9 rfl ?_
      refine aw_iconst (v := nI 1) dX0_stride_10 rfl ?_
      refine aw_callP (r := _) dX0_stride_11 sX0_155 rfl (xp_isIn) rfl rfl ⟨Nat.le_of_ble_eq_true rfl, Nat.le_of_ble_eq_true rfl⟩ (Nat.le_of_ble_eq_true rfl) ?_
      refine aw_if_neB (tgt := 19) dX0_stride_14 (by decide) (fun c_14 => ?_) (fun c_14 => ?_)
      · exact absurd ⟨c_5, by omega⟩ z
      · refine aw_iconst (v := -1) dX0_stride_17 rfl ?_
        refine aw_ireturn dX0_stride_18 rfl ?_
        exact ⟨by rw [no z], _, mm_core.rf, hX, hs⟩
theorem sp_climb_u {H : sp_H} {A : Nat → Nat} {t a n : Nat} (ht : t < 8) : aw_u (aw_u (aw_u A (8 + t) (min 9999 (A (8 + t) + n))) t (A t - a)) 24 (A 24 + a) = sp_climb H A t a 0 n := by
  have e1 : sp_brc H 0 = 1 := rfl
  funext j
  unfold sp_climb aw_u
  by_cases h1 : j = 24
  · rw [if_pos h1, if_neg (by omega), if_neg (by omega), if_pos h1]
  · rw [if_neg h1]
    by_cases h2 : j = t
    · rw [if_pos h2, if_pos h2, e1, Nat.mul_one]
    · rw [if_neg h2, if_neg h2]
      by_cases h3 : j = 8 + t
      · rw [if_pos h3, if_pos h3, Nat.min_comm]
      · rw [if_neg h3, if_neg h3, if_neg h1]
theorem xo_lackT {s : mm_S} {H : sp_H} {u N t : Nat} {B : Nat → Nat} (hOK : sp_okH H) (hB : sp_okA N B) (hN : N ≤ 100000000) (ht : t < sp_hn H) : xx_Met yX2_lack cX2_lack 4 (some .int) 4 0 0 (fun w => [.ref (w.1 (1 + 4 * 1)), .ref (w.1 16), .int (nI t), .int (nI 0)]) (mm_setA s 46 B) H u (some (.int (nI (sp_lack H B t)))) (mm_setA s 46 B) := by
  have hn := hOK.2.1
  have w1 := (hOK.2.2.1 t (by omega)).2.2.2.1
  have b1 := hB.1 t (by omega)
  exact (xs_lack (s := mm_setA s 46 B) (i := 1) (t := t) (m := nI 0) (by decide) hn ht (by rw [sp_lk_b w1]; show sp_ow H t + B (16 + t) < _; omega) (by show B (8 + t) < _; omega)).eqv (congrArg (fun x => some (Value.int (nI x))) (sp_lk_0 w1)) rfl
set_option maxHeartbeats 4000000 in
theorem xo_settle {s : mm_S} {H : sp_H} {u : Nat} {t a : Int32} {N : Nat} (hOK : sp_okH H) (hA : sp_okA N (mm_a s 45)) (hN : N ≤ 10000000) : xx_Op yX0_settle cX0_settle 4 (some .int) 606 61 244 (fun w => [.ref (w.1 0), .int (t), .int (a)]) s H u (some (.int (op_settle H (mm_a s 45) t a))) (s) := by
  refine xx_Op.of (by decide +kernel) (fun _ => Nat.le_of_ble_eq_true rfl) (fun G w h0 hW hX hH => ?_)
  have hX0 := hX
  have hs : xx_same w h0 h0 := xx_same.rf
  obtain ⟨tl, te, cap, m9, f9, tn, nm9, c9, mo9, D9, hq⟩ := hH
  show AW G (aw_rm 606 61 244) yX0_settle cX0_settle 4 (some .int) (aw_N G (xx_PoC G w h0 (some (.int (op_settle H (mm_a s 45) t a))) (s)) 61 244) 61 244 h0 0 [(0, .ref (w.1 0)), (1, .int (t)), (2, .int (a))] []
  have hs1 : 1 ≤ sp_hs H := hOK.1.1; have hs20 : sp_hs H ≤ 20 := hOK.1.2; have hn : sp_hn H ≤ 8 := hOK.2.1; have hlv : ∀ t, t < 8 → sp_lv H t ≤ 20 := fun t ht => (hOK.2.2.1 t ht).1; have hsg : ∀ t, t < 8 → sp_sg8 H t ≤ 40 := fun t ht => (hOK.2.2.1 t ht).2.1; have hhv : ∀ t, t < 8 → sp_hv H t ≤ 9 := fun t ht => (hOK.2.2.1 t ht).2.2.1; have how : ∀ t, t < 8 → sp_ow H t ≤ 999 := fun t ht => (hOK.2.2.1 t ht).2.2.2.1; have hfl : ∀ t, t < 8 → sp_fl H t ≤ 100 := fun t ht => (hOK.2.2.1 t ht).2.2.2.2
  have e20 : (nI (sp_hs H)).toInt = sp_hs H := aw_ti (by omega)
  have e1 : (nI 1).toInt = 1 := rfl
  have no : ¬ (sp_isT H t ∧ 1 ≤ a.toInt ∧ a.toInt ≤ (sp_hs H : Int)) → op_settle H (mm_a s 45) t a = -1 := fun z => by rw [op_settle, aw_if0 z]
  by_cases z : sp_isT H t ∧ 1 ≤ a.toInt ∧ a.toInt ≤ (sp_hs H : Int)
  · obtain ⟨z1, z2, z3⟩ := z
    have y1 := z1
    obtain ⟨t', ht, rfl, t1, t2⟩ := aw_ofN y1.1
    obtain ⟨a', ha, rfl, a1, a2⟩ := aw_ofN (x := a) (by omega)
    have ht9 : t' < sp_hn H := by have := z1.2; omega
    have ht8 : t' < 8 := by omega
    have fin0 : op_settle H (mm_a s 45) (nI t') (nI a') = sp_cv (sp_so H t' a' 61 0 (mm_a s 45)) := by rw [op_settle, aw_if1 ⟨z1, z2, z3⟩, t2, a2]
    rw [fin0]
    obtain ⟨Rz, hRz⟩ : ∃ Rz, Rz = sp_cv (sp_so H t' a' 61 0 (mm_a s 45)) := ⟨_, rfl⟩
    rw [← hRz]
    have inner : ∀ (k M KC KS : Nat), M ≤ 20000000 → ∀ (f : Nat) (B : Nat → Nat) (h : aw_H), f ≤ 41 → B t' < f → sp_okA (M + 20 * (41 - f)) B → (∀ (h : aw_H), XC G w h (mm_setA s 46 (sp_si H t' a' f B)) → xx_same w h0 h → AW G (aw_rm 606 61 244) yX0_settle cX0_settle 4 (some .int) (aw_N G (xx_PoC G w h0 (some (.int (Rz))) (s)) 61 244) KC  KS (h) 148 [(0, .ref (w.1 0)), (1, .int (nI t')), (2, .int (nI a')), (3, .int (nI k))] []) → XC G w h (mm_setA s 46 B) → xx_same w h0 h → AW G (aw_rm 606 61 244) yX0_settle cX0_settle 4 (some .int) (aw_N G (xx_PoC G w h0 (some (.int (Rz))) (s)) 61 244) KC  KS (h) 44 [(0, .ref (w.1 0)), (1, .int (nI t')), (2, .int (nI a')), (3, .int (nI k))] [] := by
      intro k M KC KS hM f
      induction f with
      | zero => intro B h hf hb; omega
      | succ f ih =>
        intro B h hf hb hB hgo hX hs
        have hp := (hB.1 t' ht8).2.1
        have hb9 := (hB.1 t' ht8).1
        have h24 := hB.2.1
        have lb : sp_lack H B t' < 2147483648 := by
          have := (hB.1 t' ht8).2.2
          have := how t' ht8
          have : sp_lack H B t' ≤ sp_ow H t' + B (16 + t') := Nat.sub_le _ _
          omega
        by_cases z : 0 < sp_lack H B t' ∧ a' ≤ B t'
        · have esi : sp_si H t' a' (f + 1) B = sp_si H t' a' f (sp_climb H B t' a' 0 (sp_cnt H B a' 0 0)) := by
            show (if _ then _ else _) = _
            rw [if_pos z]
          have hcl := sp_climb_ok (c := 0) (n := sp_cnt H B a' 0 0) (H := H) (a := a') ht8 (by omega) hB
          have ect : sp_climb H B t' a' 0 (sp_cnt H B a' 0 0) t' = B t' - a' := by
            rw [← sp_climb_u ht8, aw_u_n (by omega), aw_u_s]
          have hcn := @sp_cnt_le H B a' 0 0
          obtain ⟨B1, hB1⟩ : ∃ B1, B1 = aw_u B (8 + t') (min 9999 (B (8 + t') + sp_cnt H B a' 0 0)) := ⟨_, rfl⟩
          obtain ⟨B2, hB2⟩ : ∃ B2, B2 = aw_u B1 t' (B t' - a') := ⟨_, rfl⟩
          have b1t : B1 t' = B t' := by rw [hB1, aw_u_n (by omega)]
          have b2c : B2 24 = B 24 := by rw [hB2, aw_u_n (by omega), hB1, aw_u_n (by omega)]
          have e3 : sp_climb H B t' a' 0 (sp_cnt H B a' 0 0) = aw_u B2 24 (B 24 + a') := by rw [← sp_climb_u ht8, hB2, hB1]
          refine aw_aload_n dX0_settle_44 rfl ?_
          refine aw_get dX0_settle_45 fX0_32 rfl (hX.1 0 (by decide)) (by rfl) ?_
          refine aw_aload_n dX0_settle_48 rfl ?_
          refine aw_get dX0_settle_49 fX0_19 rfl (hX.1 0 (by decide)) (by rfl) ?_
          refine aw_iload_n dX0_settle_52 rfl ?_
          refine aw_iconst (v := nI 0) dX0_settle_53 rfl ?_
          refine xx_call0 dX0_settle_54 sX0_184 rfl hW hX (hq.mv hs hX0).xh hs (xo_lackT hOK hB (by omega) ht9) rfl (hX.st (i := 1) (by decide)) rfl rfl ⟨Nat.le_of_ble_eq_true rfl, Nat.le_of_ble_eq_true rfl⟩ (by exact Nat.le_of_ble_eq_true rfl) (fun h hX hs => ?_)
          try simp only [mm_n_N, mm_n_A, mm_n_V, mm_n_Fp, mm_n_W, mm_n_Nm, mm_a_N, mm_a_A, mm_a_V, mm_a_Fp, mm_a_W, mm_a_Nm, mm_v_N, mm_v_A, mm_v_V, mm_fp_N, mm_fp_A, mm_fp_Fp, mm_w_N, mm_w_W, Nat.reduceEqDiff, reduceIte, if_true, if_false, mm_H_45, mm_H_46, mm_H_47, mm_H_50, mm_H_53, mm_H_54, mm_H_55, mm_H_56, mm_H_57, mm_H_58, mm_H_66, mm_H_67, mm_H_68, eq_self]
          refine aw_if_leN (tgt := 148) dX0_settle_57 (by decide) (by omega) (fun c_57 => by exfalso; omega) (fun c_57 => ?_)
          refine aw_aload_n dX0_settle_60 rfl ?_
          refine aw_get dX0_settle_61 fX0_32 rfl (hX.1 0 (by decide)) (by rfl) ?_
          refine aw_get dX0_settle_64 fX0_88 rfl (hX.st (i := 1) (by decide)) (by rfl) ?_
          refine aw_iload_n dX0_settle_67 rfl ?_
          refine xx_ialdS (i := 1) (b := 0) dX0_settle_68 hX (by decide) (by decide) (by omega) ?_
          try simp only [Nat.reduceMul, Nat.reduceAdd, Nat.zero_add]
          try simp only [mm_n_N, mm_n_A, mm_n_V, mm_n_Fp, mm_n_W, mm_n_Nm, mm_a_N, mm_a_A, mm_a_V, mm_a_Fp, mm_a_W, mm_a_Nm, mm_v_N, mm_v_A, mm_v_V, mm_fp_N, mm_fp_A, mm_fp_Fp, mm_w_N, mm_w_W, Nat.reduceEqDiff, reduceIte, if_true, if_false, mm_H_45, mm_H_46, mm_H_47, mm_H_50, mm_H_53, mm_H_54, mm_H_55, mm_H_56, mm_H_57, mm_H_58, mm_H_66, mm_H_67, mm_H_68, eq_self]
          refine aw_iload_n dX0_settle_69 rfl ?_
          refine aw_icmp_ltN (tgt := 148) dX0_settle_70 (by decide) (by omega) (by omega) (fun c_70 => by exfalso; omega) (fun c_70 => ?_)
          refine aw_aload_n dX0_settle_73 rfl ?_
          refine aw_get dX0_settle_74 fX0_32 rfl (hX.1 0 (by decide)) (by rfl) ?_
          refine aw_get dX0_settle_77 fX0_107 rfl (hX.st (i := 1) (by decide)) (by rfl) ?_
          refine aw_iload_n dX0_settle_80 rfl ?_
          refine aw_sipush (v := nI 9999) dX0_settle_81 rfl ?_
          refine aw_aload_n dX0_settle_84 rfl ?_
          refine aw_get dX0_settle_85 fX0_32 rfl (hX.1 0 (by decide)) (by rfl) ?_
          refine aw_get dX0_settle_88 fX0_107 rfl (hX.st (i := 1) (by decide)) (by rfl) ?_
          refine aw_iload_n dX0_settle_91 rfl ?_
          refine xx_ialdS (i := 1) (b := 1) dX0_settle_92 hX (by decide) (by decide) (by omega) ?_
          try simp only [Nat.reduceMul, Nat.reduceAdd, Nat.zero_add]
          try simp only [mm_n_N, mm_n_A, mm_n_V, mm_n_Fp, mm_n_W, mm_n_Nm, mm_a_N, mm_a_A, mm_a_V, mm_a_Fp, mm_a_W, mm_a_Nm, mm_v_N, mm_v_A, mm_v_V, mm_fp_N, mm_fp_A, mm_fp_Fp, mm_w_N, mm_w_W, Nat.reduceEqDiff, reduceIte, if_true, if_false, mm_H_45, mm_H_46, mm_H_47, mm_H_50, mm_H_53, mm_H_54, mm_H_55, mm_H_56, mm_H_57, mm_H_58, mm_H_66, mm_H_67, mm_H_68, eq_self]
          refine aw_aload_n dX0_settle_93 rfl ?_
          refine aw_get dX0_settle_94 fX0_19 rfl (hX.1 0 (by decide)) (by rfl) ?_
          refine aw_aload_n dX0_settle_97 rfl ?_
          refine aw_get dX0_settle_98 fX0_32 rfl (hX.1 0 (by decide)) (by rfl) ?_
          refine aw_iload_n dX0_settle_101 rfl ?_
          refine aw_iconst (v := nI 0) dX0_settle_102 rfl ?_
          refine aw_iconst (v := nI 0) dX0_settle_103 rfl ?_
          refine aw_aload_n dX0_settle_104 rfl ?_
          refine aw_get dX0_settle_105 fX0_32 rfl (hX.1 0 (by decide)) (by rfl) ?_
          refine aw_get dX0_settle_108 fX0_113 rfl (hX.st (i := 1) (by decide)) (by rfl) ?_
          try simp only [Nat.reduceMul, Nat.reduceAdd, Nat.zero_add]
          try simp only [mm_n_N, mm_n_A, mm_n_V, mm_n_Fp, mm_n_W, mm_n_Nm, mm_a_N, mm_a_A, mm_a_V, mm_a_Fp, mm_a_W, mm_a_Nm, mm_v_N, mm_v_A, mm_v_V, mm_fp_N, mm_fp_A, mm_fp_Fp, mm_w_N, mm_w_W, Nat.reduceEqDiff, reduceIte, if_true, if_false, mm_H_45, mm_H_46, mm_H_47, mm_H_50, mm_H_53, mm_H_54, mm_H_55, mm_H_56, mm_H_57, mm_H_58, mm_H_66, mm_H_67, mm_H_68, eq_self]
          refine xx_call0 dX0_settle_111 sX0_220 rfl hW hX (hq.mv hs hX0).xh hs ((xh_cntS (s := mm_setA s 46 B) (i := 1) (a := a') (b := 0) (n := 0) (by decide) (by omega)).eqv (r' := some (.int (nI (sp_cnt H B a' 0 0)))) rfl rfl) rfl (hq.mv hs hX0).1 rfl rfl ⟨Nat.le_of_ble_eq_true rfl, Nat.le_of_ble_eq_true rfl⟩ (by exact Nat.le_of_ble_eq_true rfl) (fun h hX hs => ?_)
          try simp only [mm_n_N, mm_n_A, mm_n_V, mm_n_Fp, mm_n_W, mm_n_Nm, mm_a_N, mm_a_A, mm_a_V, mm_a_Fp, mm_a_W, mm_a_Nm, mm_v_N, mm_v_A, mm_v_V, mm_fp_N, mm_fp_A, mm_fp_Fp, mm_w_N, mm_w_W, Nat.reduceEqDiff, reduceIte, if_true, if_false, mm_H_45, mm_H_46, mm_H_47, mm_H_50, mm_H_53, mm_H_54, mm_H_55, mm_H_56, mm_H_57, mm_H_58, mm_H_66, mm_H_67, mm_H_68, eq_self]
          refine aw_iaddN dX0_settle_114 ?_
          refine aw_mminN dX0_settle_115 q951 (by omega) (by omega) (Nat.le_of_ble_eq_true rfl) (Nat.le_of_ble_eq_true rfl) (Nat.le_of_ble_eq_true rfl) ?_
          refine xx_stS (i := 1) (b := 1) hW hX hs dX0_settle_118 (by decide) (by decide) (by omega) (fun h hX hs => ?_)
          have hX : XC G w h (mm_setA s 46 B1) := xx_AU (k := 46) hX hB1
          refine aw_aload_n dX0_settle_119 rfl ?_
          refine aw_get dX0_settle_120 fX0_32 rfl (hX.1 0 (by decide)) (by rfl) ?_
          refine aw_get dX0_settle_123 fX0_88 rfl (hX.st (i := 1) (by decide)) (by rfl) ?_
          refine aw_iload_n dX0_settle_126 rfl ?_
          refine aw_dup2 dX0_settle_127 rfl rfl ?_
          refine xx_ialdS (i := 1) (b := 0) dX0_settle_128 hX (by decide) (by decide) (by omega) ?_
          try simp only [Nat.reduceMul, Nat.reduceAdd, Nat.zero_add]
          try simp only [mm_n_N, mm_n_A, mm_n_V, mm_n_Fp, mm_n_W, mm_n_Nm, mm_a_N, mm_a_A, mm_a_V, mm_a_Fp, mm_a_W, mm_a_Nm, mm_v_N, mm_v_A, mm_v_V, mm_fp_N, mm_fp_A, mm_fp_Fp, mm_w_N, mm_w_W, Nat.reduceEqDiff, reduceIte, if_true, if_false, mm_H_45, mm_H_46, mm_H_47, mm_H_50, mm_H_53, mm_H_54, mm_H_55, mm_H_56, mm_H_57, mm_H_58, mm_H_66, mm_H_67, mm_H_68, eq_self]
          rw [b1t]
          refine aw_iload_n dX0_settle_129 rfl ?_
          refine aw_isubN dX0_settle_130 (by omega) ?_
          refine xx_stS (i := 1) (b := 0) hW hX hs dX0_settle_131 (by decide) (by decide) (by omega) (fun h hX hs => ?_)
          have hX : XC G w h (mm_setA s 46 B2) := xx_AU (k := 46) hX (by rw [hB2, Nat.mul_zero, Nat.zero_add])
          refine aw_aload_n dX0_settle_132 rfl ?_
          refine aw_get dX0_settle_133 fX0_32 rfl (hX.1 0 (by decide)) (by rfl) ?_
          refine aw_dup dX0_settle_136 rfl ?_
          refine aw_get dX0_settle_137 fX0_113 rfl (hX.st (i := 1) (by decide)) (by rfl) ?_
          try simp only [Nat.reduceMul, Nat.reduceAdd, Nat.zero_add]
          try simp only [mm_n_N, mm_n_A, mm_n_V, mm_n_Fp, mm_n_W, mm_n_Nm, mm_a_N, mm_a_A, mm_a_V, mm_a_Fp, mm_a_W, mm_a_Nm, mm_v_N, mm_v_A, mm_v_V, mm_fp_N, mm_fp_A, mm_fp_Fp, mm_w_N, mm_w_W, Nat.reduceEqDiff, reduceIte, if_true, if_false, mm_H_45, mm_H_46, mm_H_47, mm_H_50, mm_H_53, mm_H_54, mm_H_55, mm_H_56, mm_H_57, mm_H_58, mm_H_66, mm_H_67, mm_H_68, eq_self]
          rw [b2c]
          refine aw_iload_n dX0_settle_140 rfl ?_
          refine aw_iaddN dX0_settle_141 ?_
          refine xx_putS (i := 1) (k := 0) hW hX hs (by decide) (by decide) dX0_settle_142 (pX0_113 _) rfl rfl (fun h hX hs => ?_)
          have hX : XC G w h (mm_setA s 46 (sp_climb H B t' a' 0 (sp_cnt H B a' 0 0))) := xx_AU (k := 46) hX e3
          refine aw_goto (tgt := 44) dX0_settle_145 (by decide) ?_
          refine ih _ h (by omega) (by rw [ect]; omega) (hcl.mono (by omega)) ?_ hX hs
          rw [← esi]
          exact hgo
        · have esi : sp_si H t' a' (f + 1) B = B := by
            show (if _ then _ else _) = _
            rw [if_neg z]
          rw [esi] at hgo
          refine aw_aload_n dX0_settle_44 rfl ?_
          refine aw_get dX0_settle_45 fX0_32 rfl (hX.1 0 (by decide)) (by rfl) ?_
          refine aw_aload_n dX0_settle_48 rfl ?_
          refine aw_get dX0_settle_49 fX0_19 rfl (hX.1 0 (by decide)) (by rfl) ?_
          refine aw_iload_n dX0_settle_52 rfl ?_
          refine aw_iconst (v := nI 0) dX0_settle_53 rfl ?_
          refine xx_call0 dX0_settle_54 sX0_184 rfl hW hX (hq.mv hs hX0).xh hs (xo_lackT hOK hB (by omega) ht9) rfl (hX.st (i := 1) (by decide)) rfl rfl ⟨Nat.le_of_ble_eq_true rfl, Nat.le_of_ble_eq_true rfl⟩ (by exact Nat.le_of_ble_eq_true rfl) (fun h hX hs => ?_)
          try simp only [mm_n_N, mm_n_A, mm_n_V, mm_n_Fp, mm_n_W, mm_n_Nm, mm_a_N, mm_a_A, mm_a_V, mm_a_Fp, mm_a_W, mm_a_Nm, mm_v_N, mm_v_A, mm_v_V, mm_fp_N, mm_fp_A, mm_fp_Fp, mm_w_N, mm_w_W, Nat.reduceEqDiff, reduceIte, if_true, if_false, mm_H_45, mm_H_46, mm_H_47, mm_H_50, mm_H_53, mm_H_54, mm_H_55, mm_H_56, mm_H_57, mm_H_58, mm_H_66, mm_H_67, mm_H_68, eq_self]
          refine aw_if_leN (tgt := 148) dX0_settle_57 (by decide) (by omega) (fun c_57 => ?_) (fun c_57 => ?_)
          · exact hgo h hX hs
          · refine aw_aload_n dX0_settle_60 rfl ?_
            refine aw_get dX0_settle_61 fX0_32 rfl (hX.1 0 (by decide)) (by rfl) ?_
            refine aw_get dX0_settle_64 fX0_88 rfl (hX.st (i := 1) (by decide)) (by rfl) ?_
            refine aw_iload_n dX0_settle_67 rfl ?_
            refine xx_ialdS (i := 1) (b := 0) dX0_settle_68 hX (by decide) (by decide) (by omega) ?_
            try simp only [Nat.reduceMul, Nat.reduceAdd, Nat.zero_add]
            try simp only [mm_n_N, mm_n_A, mm_n_V, mm_n_Fp, mm_n_W, mm_n_Nm, mm_a_N, mm_a_A, mm_a_V, mm_a_Fp, mm_a_W, mm_a_Nm, mm_v_N, mm_v_A, mm_v_V, mm_fp_N, mm_fp_A, mm_fp_Fp, mm_w_N, mm_w_W, Nat.reduceEqDiff, reduceIte, if_true, if_false, mm_H_45, mm_H_46, mm_H_47, mm_H_50, mm_H_53, mm_H_54, mm_H_55, mm_H_56, mm_H_57, mm_H_58, mm_H_66, mm_H_67, mm_H_68, eq_self]
            refine aw_iload_n dX0_settle_69 rfl ?_
            refine aw_icmp_ltN (tgt := 148) dX0_settle_70 (by decide) (by omega) (by omega) (fun c_70 => ?_) (fun c_70 => by exfalso; omega)
            exact hgo h hX hs
    have outer : ∀ (m k : Nat) (B : Nat → Nat) (h : aw_H), 61 - k = m → k ≤ 61 → sp_okA (N + 2000 * k) B → Rz = sp_cv (sp_so H t' a' m k B) → XC G w h (mm_setA s 46 B) → xx_same w h0 h → AW G (aw_rm 606 61 244) yX0_settle cX0_settle 4 (some .int) (aw_N G (xx_PoC G w h0 (some (.int (Rz))) (s)) 61 244) m  (4 * m) (h) 38 [(0, .ref (w.1 0)), (1, .int (nI t')), (2, .int (nI a')), (3, .int (nI k))] [] := by
      intro m
      induction m with
      | zero =>
        intro k B h hm hk hB fin hX hs
        refine aw_iload_n dX0_settle_38 rfl ?_
        refine aw_bipush (v := nI 60) dX0_settle_39 rfl ?_
        refine aw_icmp_gtN (tgt := 183) dX0_settle_41 (by decide) (by omega) (by omega) (fun c_41 => ?_) (fun c_41 => by exfalso; omega)
        refine aw_iconst (v := -1) dX0_settle_183 rfl ?_
        refine aw_ireturn dX0_settle_184 rfl ?_
        exact ⟨by rw [fin]; rfl, _, mm_core.A rfl mm_core.rf, hX, hs⟩
      | succ m ih =>
        intro k B h hm hk hB fin hX hs
        have hb9 := (hB.1 t' ht8).1
        have hB2 := sp_si_ok (H := H) (a := a') ht8 (by omega) (B t' + 1) _ _ hB
        have fin2 : Rz = sp_cv (if sp_lack H (sp_si H t' a' (B t' + 1) B) t' = 0 then k + 1 else sp_so H t' a' m (k + 1) (sp_week H (sp_si H t' a' (B t' + 1) B))) := fin
        have lb : sp_lack H (sp_si H t' a' (B t' + 1) B) t' < 2147483648 := by
          have := (hB2.1 t' ht8).2.2
          have := how t' ht8
          have : sp_lack H (sp_si H t' a' (B t' + 1) B) t' ≤ sp_ow H t' + (sp_si H t' a' (B t' + 1) B) (16 + t') := Nat.sub_le _ _
          omega
        have hgo : ∀ (h : aw_H), XC G w h (mm_setA s 46 (sp_si H t' a' (B t' + 1) B)) → xx_same w h0 h → AW G (aw_rm 606 61 244) yX0_settle cX0_settle 4 (some .int) (aw_N G (xx_PoC G w h0 (some (.int (Rz))) (s)) 61 244) (m + 1)  (4 * (m + 1)) (h) 148 [(0, .ref (w.1 0)), (1, .int (nI t')), (2, .int (nI a')), (3, .int (nI k))] [] := by
          intro h hX hs
          refine aw_aload_n dX0_settle_148 rfl ?_
          refine aw_get dX0_settle_149 fX0_32 rfl (hX.1 0 (by decide)) (by rfl) ?_
          refine aw_aload_n dX0_settle_152 rfl ?_
          refine aw_get dX0_settle_153 fX0_19 rfl (hX.1 0 (by decide)) (by rfl) ?_
          refine aw_iload_n dX0_settle_156 rfl ?_
          refine aw_iconst (v := nI 0) dX0_settle_157 rfl ?_
          refine xx_call0 dX0_settle_158 sX0_184 rfl hW hX (hq.mv hs hX0).xh hs (xo_lackT hOK hB2 (by omega) ht9) rfl (hX.st (i := 1) (by decide)) rfl rfl ⟨Nat.le_of_ble_eq_true rfl, Nat.le_of_ble_eq_true rfl⟩ (by exact Nat.le_of_ble_eq_true rfl) (fun h hX hs => ?_)
          try simp only [mm_n_N, mm_n_A, mm_n_V, mm_n_Fp, mm_n_W, mm_n_Nm, mm_a_N, mm_a_A, mm_a_V, mm_a_Fp, mm_a_W, mm_a_Nm, mm_v_N, mm_v_A, mm_v_V, mm_fp_N, mm_fp_A, mm_fp_Fp, mm_w_N, mm_w_W, Nat.reduceEqDiff, reduceIte, if_true, if_false, mm_H_45, mm_H_46, mm_H_47, mm_H_50, mm_H_53, mm_H_54, mm_H_55, mm_H_56, mm_H_57, mm_H_58, mm_H_66, mm_H_67, mm_H_68, eq_self]
          refine aw_if_neN (tgt := 166) dX0_settle_161 (by decide) (by omega) (fun c_161 => ?_) (fun c_161 => ?_)
          · refine aw_aload_n dX0_settle_166 rfl ?_
            refine aw_get dX0_settle_167 fX0_32 rfl (hX.1 0 (by decide)) (by rfl) ?_
            refine aw_aload_n dX0_settle_170 rfl ?_
            refine aw_get dX0_settle_171 fX0_19 rfl (hX.1 0 (by decide)) (by rfl) ?_
            refine AW_le (kc' := m + 1) (ks' := (4 * m) + 4) (by omega) (by omega) ?_
            refine xx_call (kc := m) (ks := (4 * m)) dX0_settle_174 sX0_227 rfl hW hX (hq.mv hs hX0).xh hs (xo_on hOK hB2 (by omega)) rfl (hX.st (i := 1) (by decide)) rfl rfl ⟨Nat.le_of_ble_eq_true rfl, Nat.le_of_ble_eq_true rfl⟩ (by exact Nat.le_of_ble_eq_true rfl) (fun h hX hs => ?_)
            refine aw_iincN (b := 1) dX0_settle_177 rfl rfl (by decide) rfl rfl ?_
            refine aw_goto (tgt := 38) dX0_settle_180 (by decide) ?_
            exact ih (k + 1) _ h (by omega) (by omega) ((sp_week_ok hOK hB2).mono (by omega)) (by rw [fin2, if_neg c_161]) hX hs
          · refine aw_iload_n dX0_settle_164 rfl ?_
            refine aw_ireturn dX0_settle_165 rfl ?_
            exact ⟨by rw [fin2, if_pos c_161, sp_cv_s], _, mm_core.A rfl mm_core.rf, hX, hs⟩
        refine aw_iload_n dX0_settle_38 rfl ?_
        refine aw_bipush (v := nI 60) dX0_settle_39 rfl ?_
        refine aw_icmp_gtN (tgt := 183) dX0_settle_41 (by decide) (by omega) (by omega) (fun c_41 => by exfalso; omega) (fun c_41 => ?_)
        exact inner k (N + 2000 * k) _ _ (by omega) (B t' + 1) B h (by omega) (by omega) (hB.mono (by omega)) hgo hX hs
    refine aw_aload_n dX0_settle_0 rfl ?_
    refine aw_iload_n dX0_settle_1 rfl ?_
    refine xx_call0 dX0_settle_2 sX0_188 rfl hW hX (hq.mv hs hX0).xh hs (xo_isT hn) rfl (hX.1 0 (by decide)) rfl rfl ⟨Nat.le_of_ble_eq_true rfl, Nat.le_of_ble_eq_true rfl⟩ (by exact Nat.le_of_ble_eq_true rfl) (fun h hX hs => ?_)
    refine aw_if_eqB (tgt := 23) dX0_settle_5 (by decide) (fun c_5 => by exfalso; exact c_5 z1) (fun c_5 => ?_)
    refine aw_iload_n dX0_settle_8 rfl ?_
    refine aw_iconst (v := nI 1) dX0_settle_9 rfl ?_
    refine aw_aload_n dX0_settle_10 rfl ?_
    refine aw_get dX0_settle_11 fX0_19 rfl (hX.1 0 (by decide)) (by rfl) ?_
    refine aw_get dX0_settle_14 fX0_208 rfl (hq.mv hs hX0).1 (by rfl) ?_
    refine aw_callP (r := _) dX0_settle_17 sX0_155 rfl (xp_isIn) rfl rfl ⟨Nat.le_of_ble_eq_true rfl, Nat.le_of_ble_eq_true rfl⟩ (Nat.le_of_ble_eq_true rfl) ?_
    refine aw_if_neB (tgt := 25) dX0_settle_20 (by decide) (fun c_20 => ?_) (fun c_20 => by exfalso; exact c_20 (by omega))
    refine aw_aload_n dX0_settle_25 rfl ?_
    refine aw_get dX0_settle_26 fX0_32 rfl (hX.1 0 (by decide)) (by rfl) ?_
    refine aw_aload_n dX0_settle_29 rfl ?_
    refine aw_get dX0_settle_30 fX0_28 rfl (hX.1 0 (by decide)) (by rfl) ?_
    refine xx_call0 dX0_settle_33 sX0_138 rfl hW hX (hq.mv hs hX0).xh hs xs_of10 rfl (hX.st (i := 1) (by decide)) rfl rfl ⟨Nat.le_of_ble_eq_true rfl, Nat.le_of_ble_eq_true rfl⟩ (by exact Nat.le_of_ble_eq_true rfl) (fun h hX hs => ?_)
    refine aw_iconst (v := nI 0) dX0_settle_36 rfl ?_
    refine aw_istore_n dX0_settle_37 (by decide) rfl rfl ?_
    exact outer 61 0 _ h rfl (by omega) (hA.mono (by omega)) hRz hX hs
  ·
    refine aw_aload_n dX0_settle_0 rfl ?_
    refine aw_iload_n dX0_settle_1 rfl ?_
    refine xx_call0 dX0_settle_2 sX0_188 rfl hW hX (hq.mv hs hX0).xh hs (xo_isT hn) rfl (hX.1 0 (by decide)) rfl rfl ⟨Nat.le_of_ble_eq_true rfl, Nat.le_of_ble_eq_true rfl⟩ (by exact Nat.le_of_ble_eq_true rfl) (fun h hX hs => ?_)
    refine aw_if_eqB (tgt := 23) dX0_settle_5 (by decide) (fun c_5 => ?_) (fun c_5 => ?_)
    · refine aw_iconst (v := -1) dX0_settle_23 rfl ?_
      refine aw_ireturn dX0_settle_24 rfl ?_
      exact ⟨by rw [no z], _, mm_core.rf, hX, hs⟩
    · refine aw_iload_n dX0_settle_8 rfl ?_
      refine aw_iconst (v := nI 1) dX0_settle_9 rfl ?_
      refine aw_aload_n dX0_settle_10 rfl ?_
      refine aw_get dX0_settle_11 fX0_19 rfl (hX.1 0 (by decide)) (by rfl) ?_
      refine aw_get dX0_settle_14 fX0_208 rfl (hq.mv hs hX0).1 (by rfl) ?_
      refine aw_callP (r := _) dX0_settle_17 sX0_155 rfl (xp_isIn) rfl rfl ⟨Nat.le_of_ble_eq_true rfl, Nat.le_of_ble_eq_true rfl⟩ (Nat.le_of_ble_eq_true rfl) ?_
      refine aw_if_neB (tgt := 25) dX0_settle_20 (by decide) (fun c_20 => ?_) (fun c_20 => ?_)
      · exact absurd ⟨c_5, by omega⟩ z
      · refine aw_iconst (v := -1) dX0_settle_23 rfl ?_
        refine aw_ireturn dX0_settle_24 rfl ?_
        exact ⟨by rw [no z], _, mm_core.rf, hX, hs⟩

