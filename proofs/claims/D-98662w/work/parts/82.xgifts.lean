set_option maxRecDepth 100000
/-! the component: gifts -/
theorem xo_overT {s : mm_S} {H : sp_H} {u N t : Nat} {B : Nat → Nat} (hOK : sp_okH H) (hB : sp_okA N B) (hN : N ≤ 100000000) (ht : t < sp_hn H) : xx_Met yX2_over cX2_over 3 (some .int) 4 0 0 (fun w => [.ref (w.1 (1 + 4 * 1)), .ref (w.1 16), .int (nI t)]) (mm_setA s 46 B) H u (some (.int (nI (B (8 + t) - sp_due H B t)))) (mm_setA s 46 B) := by
  have hn := hOK.2.1
  have w1 := (hOK.2.2.1 t (by omega)).2.2.2.1
  have b1 := hB.1 t (by omega)
  exact (xs_over (s := mm_setA s 46 B) (i := 1) (t := t) (by decide) hn ht (by show sp_ow H t + B (16 + t) < _; omega) (by show B (8 + t) < _; omega)).eqv rfl rfl
set_option maxHeartbeats 4000000 in
theorem xo_fo {s : mm_S} {H : sp_H} {u : Nat} {N : Nat} (hOK : sp_okH H) (hB : sp_okA N (mm_a s 46)) (hN : N ≤ 100000000) : xx_Met yX0_firstOver cX0_firstOver 2 (some .int) 5 0 0 (fun w => [.ref (w.1 0)]) s H u (some (.int (sp_cv (sp_gvr H (mm_a s 46))))) (s) := by
  refine xx_Met.of (by decide +kernel) (fun _ => Nat.le_of_ble_eq_true rfl) (fun G w h0 hW hX hH => ?_)
  have hX0 := hX
  have hs : xx_same w h0 h0 := xx_same.rf
  obtain ⟨tl, te, cap, m9, f9, tn, nm9, c9, mo9, D9, hq⟩ := hH
  show AW G (aw_rm 5 0 0) yX0_firstOver cX0_firstOver 2 (some .int) (aw_N G (xx_Po G w h0 (some (.int (sp_cv (sp_gvr H (mm_a s 46))))) (s)) 0 0) 0 0 h0 0 [(0, .ref (w.1 0))] []
  have hs1 : 1 ≤ sp_hs H := hOK.1.1; have hs20 : sp_hs H ≤ 20 := hOK.1.2; have hn : sp_hn H ≤ 8 := hOK.2.1; have hlv : ∀ t, t < 8 → sp_lv H t ≤ 20 := fun t ht => (hOK.2.2.1 t ht).1; have hsg : ∀ t, t < 8 → sp_sg8 H t ≤ 40 := fun t ht => (hOK.2.2.1 t ht).2.1; have hhv : ∀ t, t < 8 → sp_hv H t ≤ 9 := fun t ht => (hOK.2.2.1 t ht).2.2.1; have how : ∀ t, t < 8 → sp_ow H t ≤ 999 := fun t ht => (hOK.2.2.1 t ht).2.2.2.1; have hfl : ∀ t, t < 8 → sp_fl H t ≤ 100 := fun t ht => (hOK.2.2.1 t ht).2.2.2.2
  have eM : mm_setA s 46 (mm_a s 46) = s := mm_A_self s 46
  have loop : ∀ (d k : Nat) (h : aw_H), sp_hn H - k = d → k ≤ sp_hn H → (∀ j, j < k → decide (sp_due H (mm_a s 46) j < mm_a s 46 (8 + j)) = false) → XC G w h s → xx_same w h0 h → AW G (aw_rm 5 0 0) yX0_firstOver cX0_firstOver 2 (some .int) (aw_N G (xx_Po G w h0 (some (.int (sp_cv (sp_gvr H (mm_a s 46))))) (s)) 0 0) 0 0 (h) 2 [(0, .ref (w.1 0)), (1, .int (nI k))] [] := by
    intro d
    induction d using Nat.strongRecOn with
    | _ d ih =>
      intro k h hd hk hno hX hs
      by_cases hk9 : k < sp_hn H
      · have b1 := hB.1 k (by omega)
        have cov := xo_overT (s := s) (u := u) hOK hB hN hk9
        rw [eM] at cov
        refine aw_iload_n dX0_firstOver_2 rfl ?_
        refine aw_aload_n dX0_firstOver_3 rfl ?_
        refine xx_call0 dX0_firstOver_4 sX0_91 rfl hW hX (hq.mv hs hX0).xh hs xo_many rfl (hX.1 0 (by decide)) rfl rfl ⟨Nat.le_of_ble_eq_true rfl, Nat.le_of_ble_eq_true rfl⟩ (by exact Nat.le_of_ble_eq_true rfl) (fun h hX hs => ?_)
        refine aw_icmp_geN (tgt := 31) dX0_firstOver_7 (by decide) (by omega) (by omega) (fun c_7 => by exfalso; omega) (fun c_7 => ?_)
        refine aw_aload_n dX0_firstOver_10 rfl ?_
        refine aw_get dX0_firstOver_11 fX0_32 rfl (hX.1 0 (by decide)) (by rfl) ?_
        refine aw_aload_n dX0_firstOver_14 rfl ?_
        refine aw_get dX0_firstOver_15 fX0_19 rfl (hX.1 0 (by decide)) (by rfl) ?_
        refine aw_iload_n dX0_firstOver_18 rfl ?_
        refine xx_call0 dX0_firstOver_19 sX0_279 rfl hW hX (hq.mv hs hX0).xh hs cov rfl (hX.st (i := 1) (by decide)) rfl rfl ⟨Nat.le_of_ble_eq_true rfl, Nat.le_of_ble_eq_true rfl⟩ (by exact Nat.le_of_ble_eq_true rfl) (fun h hX hs => ?_)
        refine aw_if_neN (tgt := 31) dX0_firstOver_22 (by decide) (by omega) (fun c_22 => ?_) (fun c_22 => ?_)
        · refine aw_iload_n dX0_firstOver_31 rfl ?_
          refine aw_aload_n dX0_firstOver_32 rfl ?_
          refine xx_call0 dX0_firstOver_33 sX0_91 rfl hW hX (hq.mv hs hX0).xh hs xo_many rfl (hX.1 0 (by decide)) rfl rfl ⟨Nat.le_of_ble_eq_true rfl, Nat.le_of_ble_eq_true rfl⟩ (by exact Nat.le_of_ble_eq_true rfl) (fun h hX hs => ?_)
          refine aw_icmp_geN (tgt := 43) dX0_firstOver_36 (by decide) (by omega) (by omega) (fun c_36 => by exfalso; omega) (fun c_36 => ?_)
          refine aw_iload_n dX0_firstOver_39 rfl ?_
          refine aw_goto (tgt := 44) dX0_firstOver_40 (by decide) ?_
          refine aw_ireturn dX0_firstOver_44 rfl ?_
          refine ⟨?_, hX, hs⟩
          unfold sp_gvr
          rw [sp_fst_yes hk9 hno (decide_eq_true (by omega)), sp_cv_s]
        · refine aw_iincN (b := 1) dX0_firstOver_25 rfl rfl (by decide) rfl rfl ?_
          refine aw_goto (tgt := 2) dX0_firstOver_28 (by decide) ?_
          refine ih (sp_hn H - (k + 1)) (by omega) (k + 1) h rfl (by omega) (fun j hj => ?_) hX hs
          by_cases e : j = k
          · subst e
            exact decide_eq_false (by omega)
          · exact hno j (by omega)
      ·
        refine aw_iload_n dX0_firstOver_2 rfl ?_
        refine aw_aload_n dX0_firstOver_3 rfl ?_
        refine xx_call0 dX0_firstOver_4 sX0_91 rfl hW hX (hq.mv hs hX0).xh hs xo_many rfl (hX.1 0 (by decide)) rfl rfl ⟨Nat.le_of_ble_eq_true rfl, Nat.le_of_ble_eq_true rfl⟩ (by exact Nat.le_of_ble_eq_true rfl) (fun h hX hs => ?_)
        refine aw_icmp_geN (tgt := 31) dX0_firstOver_7 (by decide) (by omega) (by omega) (fun c_7 => ?_) (fun c_7 => by exfalso; omega)
        refine aw_iload_n dX0_firstOver_31 rfl ?_
        refine aw_aload_n dX0_firstOver_32 rfl ?_
        refine xx_call0 dX0_firstOver_33 sX0_91 rfl hW hX (hq.mv hs hX0).xh hs xo_many rfl (hX.1 0 (by decide)) rfl rfl ⟨Nat.le_of_ble_eq_true rfl, Nat.le_of_ble_eq_true rfl⟩ (by exact Nat.le_of_ble_eq_true rfl) (fun h hX hs => ?_)
        refine aw_icmp_geN (tgt := 43) dX0_firstOver_36 (by decide) (by omega) (by omega) (fun c_36 => ?_) (fun c_36 => by exfalso; omega)
        refine aw_iconst (v := -1) dX0_firstOver_43 rfl ?_
        refine aw_ireturn dX0_firstOver_44 rfl ?_
        refine ⟨?_, hX, hs⟩
        unfold sp_gvr
        rw [sp_fst_no (fun j hj => hno j (by omega))]
        rfl
  refine aw_iconst (v := nI 0) dX0_firstOver_0 rfl ?_
  refine aw_istore_n dX0_firstOver_1 (by decide) rfl rfl ?_
  exact loop _ 0 h0 rfl (Nat.zero_le _) (fun j hj => absurd hj (Nat.not_lt_zero _)) hX hs
set_option maxHeartbeats 4000000 in
theorem xo_fl {s : mm_S} {H : sp_H} {u : Nat} {N : Nat} (hOK : sp_okH H) (hB : sp_okA N (mm_a s 46)) (hN : N ≤ 100000000) : xx_Met yX0_firstLack cX0_firstLack 2 (some .int) 5 0 0 (fun w => [.ref (w.1 0)]) s H u (some (.int (sp_cv (sp_tkr H (mm_a s 46))))) (s) := by
  refine xx_Met.of (by decide +kernel) (fun _ => Nat.le_of_ble_eq_true rfl) (fun G w h0 hW hX hH => ?_)
  have hX0 := hX
  have hs : xx_same w h0 h0 := xx_same.rf
  obtain ⟨tl, te, cap, m9, f9, tn, nm9, c9, mo9, D9, hq⟩ := hH
  show AW G (aw_rm 5 0 0) yX0_firstLack cX0_firstLack 2 (some .int) (aw_N G (xx_Po G w h0 (some (.int (sp_cv (sp_tkr H (mm_a s 46))))) (s)) 0 0) 0 0 h0 0 [(0, .ref (w.1 0))] []
  have hs1 : 1 ≤ sp_hs H := hOK.1.1; have hs20 : sp_hs H ≤ 20 := hOK.1.2; have hn : sp_hn H ≤ 8 := hOK.2.1; have hlv : ∀ t, t < 8 → sp_lv H t ≤ 20 := fun t ht => (hOK.2.2.1 t ht).1; have hsg : ∀ t, t < 8 → sp_sg8 H t ≤ 40 := fun t ht => (hOK.2.2.1 t ht).2.1; have hhv : ∀ t, t < 8 → sp_hv H t ≤ 9 := fun t ht => (hOK.2.2.1 t ht).2.2.1; have how : ∀ t, t < 8 → sp_ow H t ≤ 999 := fun t ht => (hOK.2.2.1 t ht).2.2.2.1; have hfl : ∀ t, t < 8 → sp_fl H t ≤ 100 := fun t ht => (hOK.2.2.1 t ht).2.2.2.2
  have eM : mm_setA s 46 (mm_a s 46) = s := mm_A_self s 46
  have loop : ∀ (d k : Nat) (h : aw_H), sp_hn H - k = d → k ≤ sp_hn H → (∀ j, j < k → decide (0 < sp_lack H (mm_a s 46) j ∧ mm_a s 46 (8 + j) < 9999) = false) → XC G w h s → xx_same w h0 h → AW G (aw_rm 5 0 0) yX0_firstLack cX0_firstLack 2 (some .int) (aw_N G (xx_Po G w h0 (some (.int (sp_cv (sp_tkr H (mm_a s 46))))) (s)) 0 0) 0 0 (h) 2 [(0, .ref (w.1 0)), (1, .int (nI k))] [] := by
    intro d
    induction d using Nat.strongRecOn with
    | _ d ih =>
      intro k h hd hk hno hX hs
      by_cases hk9 : k < sp_hn H
      · have b1 := hB.1 k (by omega)
        have w1 := how k (by omega)
        have lb : sp_lack H (mm_a s 46) k < 2147483648 := by
          have : sp_lack H (mm_a s 46) k ≤ sp_ow H k + mm_a s 46 (16 + k) := Nat.sub_le _ _
          omega
        have clk := xo_lackT (s := s) (u := u) hOK hB hN hk9
        rw [eM] at clk
        have stop : ∀ h, (0 < sp_lack H (mm_a s 46) k ∧ mm_a s 46 (8 + k) < 9999) → XC G w h s → xx_same w h0 h → AW G (aw_rm 5 0 0) yX0_firstLack cX0_firstLack 2 (some .int) (aw_N G (xx_Po G w h0 (some (.int (sp_cv (sp_tkr H (mm_a s 46))))) (s)) 0 0) 0 0 (h) 47 [(0, .ref (w.1 0)), (1, .int (nI k))] [] := by
          intro h z hX hs
          refine aw_iload_n dX0_firstLack_47 rfl ?_
          refine aw_aload_n dX0_firstLack_48 rfl ?_
          refine xx_call0 dX0_firstLack_49 sX0_91 rfl hW hX (hq.mv hs hX0).xh hs xo_many rfl (hX.1 0 (by decide)) rfl rfl ⟨Nat.le_of_ble_eq_true rfl, Nat.le_of_ble_eq_true rfl⟩ (by exact Nat.le_of_ble_eq_true rfl) (fun h hX hs => ?_)
          refine aw_icmp_geN (tgt := 59) dX0_firstLack_52 (by decide) (by omega) (by omega) (fun c_52 => by exfalso; omega) (fun c_52 => ?_)
          refine aw_iload_n dX0_firstLack_55 rfl ?_
          refine aw_goto (tgt := 60) dX0_firstLack_56 (by decide) ?_
          refine aw_ireturn dX0_firstLack_60 rfl ?_
          refine ⟨?_, hX, hs⟩
          unfold sp_tkr
          rw [sp_fst_yes hk9 hno (decide_eq_true z), sp_cv_s]
        have next : ∀ h, ¬ (0 < sp_lack H (mm_a s 46) k ∧ mm_a s 46 (8 + k) < 9999) → XC G w h s → xx_same w h0 h → AW G (aw_rm 5 0 0) yX0_firstLack cX0_firstLack 2 (some .int) (aw_N G (xx_Po G w h0 (some (.int (sp_cv (sp_tkr H (mm_a s 46))))) (s)) 0 0) 0 0 (h) 41 [(0, .ref (w.1 0)), (1, .int (nI k))] [] := by
          intro h z hX hs
          refine aw_iincN (b := 1) dX0_firstLack_41 rfl rfl (by decide) rfl rfl ?_
          refine aw_goto (tgt := 2) dX0_firstLack_44 (by decide) ?_
          refine ih (sp_hn H - (k + 1)) (by omega) (k + 1) h rfl (by omega) (fun j hj => ?_) hX hs
          by_cases e : j = k
          · subst e
            exact decide_eq_false z
          · exact hno j (by omega)
        refine aw_iload_n dX0_firstLack_2 rfl ?_
        refine aw_aload_n dX0_firstLack_3 rfl ?_
        refine xx_call0 dX0_firstLack_4 sX0_91 rfl hW hX (hq.mv hs hX0).xh hs xo_many rfl (hX.1 0 (by decide)) rfl rfl ⟨Nat.le_of_ble_eq_true rfl, Nat.le_of_ble_eq_true rfl⟩ (by exact Nat.le_of_ble_eq_true rfl) (fun h hX hs => ?_)
        refine aw_icmp_geN (tgt := 47) dX0_firstLack_7 (by decide) (by omega) (by omega) (fun c_7 => by exfalso; omega) (fun c_7 => ?_)
        refine aw_aload_n dX0_firstLack_10 rfl ?_
        refine aw_get dX0_firstLack_11 fX0_32 rfl (hX.1 0 (by decide)) (by rfl) ?_
        refine aw_aload_n dX0_firstLack_14 rfl ?_
        refine aw_get dX0_firstLack_15 fX0_19 rfl (hX.1 0 (by decide)) (by rfl) ?_
        refine aw_iload_n dX0_firstLack_18 rfl ?_
        refine aw_iconst (v := nI 0) dX0_firstLack_19 rfl ?_
        refine xx_call0 dX0_firstLack_20 sX0_184 rfl hW hX (hq.mv hs hX0).xh hs clk rfl (hX.st (i := 1) (by decide)) rfl rfl ⟨Nat.le_of_ble_eq_true rfl, Nat.le_of_ble_eq_true rfl⟩ (by exact Nat.le_of_ble_eq_true rfl) (fun h hX hs => ?_)
        refine aw_if_eqN (tgt := 41) dX0_firstLack_23 (by decide) (by omega) (fun c_23 => ?_) (fun c_23 => ?_)
        · exact next h (by omega) hX hs
        · refine aw_aload_n dX0_firstLack_26 rfl ?_
          refine aw_get dX0_firstLack_27 fX0_32 rfl (hX.1 0 (by decide)) (by rfl) ?_
          refine aw_get dX0_firstLack_30 fX0_107 rfl (hX.st (i := 1) (by decide)) (by rfl) ?_
          refine aw_iload_n dX0_firstLack_33 rfl ?_
          refine xx_ialdS (i := 1) (b := 1) dX0_firstLack_34 hX (by decide) (by decide) (by omega) ?_
          try simp only [Nat.reduceMul, Nat.reduceAdd, Nat.zero_add]
          refine aw_sipush (v := nI 9999) dX0_firstLack_35 rfl ?_
          refine aw_icmp_neN (tgt := 47) dX0_firstLack_38 (by decide) (by omega) (by omega) (fun c_38 => ?_) (fun c_38 => ?_)
          · exact stop h (by omega) hX hs
          · exact next h (by omega) hX hs
      ·
        refine aw_iload_n dX0_firstLack_2 rfl ?_
        refine aw_aload_n dX0_firstLack_3 rfl ?_
        refine xx_call0 dX0_firstLack_4 sX0_91 rfl hW hX (hq.mv hs hX0).xh hs xo_many rfl (hX.1 0 (by decide)) rfl rfl ⟨Nat.le_of_ble_eq_true rfl, Nat.le_of_ble_eq_true rfl⟩ (by exact Nat.le_of_ble_eq_true rfl) (fun h hX hs => ?_)
        refine aw_icmp_geN (tgt := 47) dX0_firstLack_7 (by decide) (by omega) (by omega) (fun c_7 => ?_) (fun c_7 => by exfalso; omega)
        refine aw_iload_n dX0_firstLack_47 rfl ?_
        refine aw_aload_n dX0_firstLack_48 rfl ?_
        refine xx_call0 dX0_firstLack_49 sX0_91 rfl hW hX (hq.mv hs hX0).xh hs xo_many rfl (hX.1 0 (by decide)) rfl rfl ⟨Nat.le_of_ble_eq_true rfl, Nat.le_of_ble_eq_true rfl⟩ (by exact Nat.le_of_ble_eq_true rfl) (fun h hX hs => ?_)
        refine aw_icmp_geN (tgt := 59) dX0_firstLack_52 (by decide) (by omega) (by omega) (fun c_52 => ?_) (fun c_52 => by exfalso; omega)
        refine aw_iconst (v := -1) dX0_firstLack_59 rfl ?_
        refine aw_ireturn dX0_firstLack_60 rfl ?_
        refine ⟨?_, hX, hs⟩
        unfold sp_tkr
        rw [sp_fst_no (fun j hj => hno j (by omega))]
        rfl
  refine aw_iconst (v := nI 0) dX0_firstLack_0 rfl ?_
  refine aw_istore_n dX0_firstLack_1 (by decide) rfl rfl ?_
  exact loop _ 0 h0 rfl (Nat.zero_le _) (fun j hj => absurd hj (Nat.not_lt_zero _)) hX hs
set_option maxHeartbeats 4000000 in
theorem xo_gifts {s : mm_S} {H : sp_H} {u : Nat} {q : Int32} {N : Nat} (hOK : sp_okH H) (hA : sp_okA N (mm_a s 45)) (hN : N ≤ 10000000) : xx_Op yX0_gifts cX0_gifts 7 (some .int) 6 0 0 (fun w => [.ref (w.1 0), .int (q)]) s H u (some (.int (op_gifts H (mm_a s 45) q))) (s) := by
  refine xx_Op.of (by decide +kernel) (fun _ => Nat.le_of_ble_eq_true rfl) (fun G w h0 hW hX hH => ?_)
  have hX0 := hX
  have hs : xx_same w h0 h0 := xx_same.rf
  obtain ⟨tl, te, cap, m9, f9, tn, nm9, c9, mo9, D9, hq⟩ := hH
  show AW G (aw_rm 6 0 0) yX0_gifts cX0_gifts 7 (some .int) (aw_N G (xx_PoC G w h0 (some (.int (op_gifts H (mm_a s 45) q))) (s)) 0 0) 0 0 h0 0 [(0, .ref (w.1 0)), (1, .int (q))] []
  have hs1 : 1 ≤ sp_hs H := hOK.1.1; have hs20 : sp_hs H ≤ 20 := hOK.1.2; have hn : sp_hn H ≤ 8 := hOK.2.1; have hlv : ∀ t, t < 8 → sp_lv H t ≤ 20 := fun t ht => (hOK.2.2.1 t ht).1; have hsg : ∀ t, t < 8 → sp_sg8 H t ≤ 40 := fun t ht => (hOK.2.2.1 t ht).2.1; have hhv : ∀ t, t < 8 → sp_hv H t ≤ 9 := fun t ht => (hOK.2.2.1 t ht).2.2.1; have how : ∀ t, t < 8 → sp_ow H t ≤ 999 := fun t ht => (hOK.2.2.1 t ht).2.2.2.1; have hfl : ∀ t, t < 8 → sp_fl H t ≤ 100 := fun t ht => (hOK.2.2.1 t ht).2.2.2.2
  have e0 : (nI 0).toInt = 0 := rfl
  have e2 : (nI 2).toInt = 2 := rfl
  have no : ¬ (0 ≤ q.toInt ∧ q.toInt ≤ 2) → op_gifts H (mm_a s 45) q = -1 := fun z => by rw [op_gifts, aw_if0 z]
  have last : ∀ (B : Nat → Nat) (n9 a9 : Nat), 0 ≤ q.toInt → q.toInt ≤ 2 → sp_okA N B → sp_gfs H (sp_sum (sp_lack H (mm_a s 45)) (sp_hn H)) (mm_a s 45) = (B, n9, a9) → ∀ (m k : Nat) (h : aw_H), sp_hn H - k = m → k ≤ sp_hn H → XC G w h (mm_setA s 46 B) → xx_same w h0 h → AW G (aw_rm 6 0 0) yX0_gifts cX0_gifts 7 (some .int) (aw_N G (xx_PoC G w h0 (some (.int (op_gifts H (mm_a s 45) q))) (s)) 0 0) 0 0 (h) 148 [(0, .ref (w.1 0)), (1, .int q), (2, .int (nI n9)), (3, .int (nI a9)), (4, .int (nI (sp_sum (sp_lack H B) k))), (5, .int (nI k))] [] := by
    intro B n9 a9 q1 q2 hB eG m
    induction m using Nat.strongRecOn with
    | _ m ih =>
      intro k h hm hk hX hs
      have eop : op_gifts H (mm_a s 45) q = if q.toInt = 0 then nI n9 else if q.toInt = 1 then nI a9 else nI (sp_sum (sp_lack H B) (sp_hn H)) := by
        rw [op_gifts, aw_if1 ⟨q1, q2⟩, eG]
      by_cases hk9 : k < sp_hn H
      ·
        refine aw_iload dX0_gifts_148 rfl ?_
        refine aw_aload_n dX0_gifts_150 rfl ?_
        refine xx_call0 dX0_gifts_151 sX0_91 rfl hW hX (hq.mv hs hX0).xh hs xo_many rfl (hX.1 0 (by decide)) rfl rfl ⟨Nat.le_of_ble_eq_true rfl, Nat.le_of_ble_eq_true rfl⟩ (by exact Nat.le_of_ble_eq_true rfl) (fun h hX hs => ?_)
        try simp only [mm_n_N, mm_n_A, mm_n_V, mm_n_Fp, mm_n_W, mm_n_Nm, mm_a_N, mm_a_A, mm_a_V, mm_a_Fp, mm_a_W, mm_a_Nm, mm_v_N, mm_v_A, mm_v_V, mm_fp_N, mm_fp_A, mm_fp_Fp, mm_w_N, mm_w_W, Nat.reduceEqDiff, reduceIte, if_true, if_false, mm_H_45, mm_H_46, mm_H_47, mm_H_50, mm_H_53, mm_H_54, mm_H_55, mm_H_56, mm_H_57, mm_H_58, mm_H_66, mm_H_67, mm_H_68, eq_self]
        refine aw_icmp_geN (tgt := 182) dX0_gifts_154 (by decide) (by omega) (by omega) (fun c_154 => by exfalso; omega) (fun c_154 => ?_)
        refine aw_iload dX0_gifts_157 rfl ?_
        refine aw_aload_n dX0_gifts_159 rfl ?_
        refine aw_get dX0_gifts_160 fX0_32 rfl (hX.1 0 (by decide)) (by rfl) ?_
        refine aw_aload_n dX0_gifts_163 rfl ?_
        refine aw_get dX0_gifts_164 fX0_19 rfl (hX.1 0 (by decide)) (by rfl) ?_
        refine aw_iload dX0_gifts_167 rfl ?_
        refine aw_iconst (v := nI 0) dX0_gifts_169 rfl ?_
        refine xx_call0 dX0_gifts_170 sX0_184 rfl hW hX (hq.mv hs hX0).xh hs (xo_lackT hOK hB (by omega) hk9) rfl (hX.st (i := 1) (by decide)) rfl rfl ⟨Nat.le_of_ble_eq_true rfl, Nat.le_of_ble_eq_true rfl⟩ (by exact Nat.le_of_ble_eq_true rfl) (fun h hX hs => ?_)
        try simp only [mm_n_N, mm_n_A, mm_n_V, mm_n_Fp, mm_n_W, mm_n_Nm, mm_a_N, mm_a_A, mm_a_V, mm_a_Fp, mm_a_W, mm_a_Nm, mm_v_N, mm_v_A, mm_v_V, mm_fp_N, mm_fp_A, mm_fp_Fp, mm_w_N, mm_w_W, Nat.reduceEqDiff, reduceIte, if_true, if_false, mm_H_45, mm_H_46, mm_H_47, mm_H_50, mm_H_53, mm_H_54, mm_H_55, mm_H_56, mm_H_57, mm_H_58, mm_H_66, mm_H_67, mm_H_68, eq_self]
        refine aw_iaddN dX0_gifts_173 ?_
        refine aw_istore dX0_gifts_174 (by decide) rfl rfl ?_
        refine aw_iincN (b := 1) dX0_gifts_176 rfl rfl (by decide) rfl rfl ?_
        refine aw_goto (tgt := 148) dX0_gifts_179 (by decide) ?_
        exact ih (sp_hn H - (k + 1)) (by omega) (k + 1) h rfl (by omega) hX hs
      · obtain rfl : k = sp_hn H := by omega
        refine aw_iload dX0_gifts_148 rfl ?_
        refine aw_aload_n dX0_gifts_150 rfl ?_
        refine xx_call0 dX0_gifts_151 sX0_91 rfl hW hX (hq.mv hs hX0).xh hs xo_many rfl (hX.1 0 (by decide)) rfl rfl ⟨Nat.le_of_ble_eq_true rfl, Nat.le_of_ble_eq_true rfl⟩ (by exact Nat.le_of_ble_eq_true rfl) (fun h hX hs => ?_)
        try simp only [mm_n_N, mm_n_A, mm_n_V, mm_n_Fp, mm_n_W, mm_n_Nm, mm_a_N, mm_a_A, mm_a_V, mm_a_Fp, mm_a_W, mm_a_Nm, mm_v_N, mm_v_A, mm_v_V, mm_fp_N, mm_fp_A, mm_fp_Fp, mm_w_N, mm_w_W, Nat.reduceEqDiff, reduceIte, if_true, if_false, mm_H_45, mm_H_46, mm_H_47, mm_H_50, mm_H_53, mm_H_54, mm_H_55, mm_H_56, mm_H_57, mm_H_58, mm_H_66, mm_H_67, mm_H_68, eq_self]
        refine aw_icmp_geN (tgt := 182) dX0_gifts_154 (by decide) (by omega) (by omega) (fun c_154 => ?_) (fun c_154 => by exfalso; omega)
        refine aw_iload_n dX0_gifts_182 rfl ?_
        refine aw_if_ne (tgt := 190) dX0_gifts_183 (by decide) (fun c_183 => ?_) (fun c_183 => ?_)
        · refine aw_iload_n dX0_gifts_190 rfl ?_
          refine aw_iconst (v := nI 1) dX0_gifts_191 rfl ?_
          refine aw_icmp_ne (tgt := 199) dX0_gifts_192 (by decide) (fun c_192 => ?_) (fun c_192 => ?_)
          · refine aw_iload dX0_gifts_199 rfl ?_
            refine aw_ireturn dX0_gifts_201 rfl ?_
            refine ⟨?_, _, mm_core.A rfl mm_core.rf, hX, hs⟩
            rw [eop]
            first
              | (rw [c_183]; rfl)
              | (rw [if_neg (show ¬ q.toInt = 0 from fun z => c_183 (Int32.toInt_inj.mp z)), c_192]; rfl)
              | (rw [if_neg (show ¬ q.toInt = 0 from fun z => c_183 (Int32.toInt_inj.mp z)), if_neg (show ¬ q.toInt = 1 from fun z => c_192 (Int32.toInt_inj.mp z))])
          · refine aw_iload_n dX0_gifts_195 rfl ?_
            refine aw_goto (tgt := 201) dX0_gifts_196 (by decide) ?_
            refine aw_ireturn dX0_gifts_201 rfl ?_
            refine ⟨?_, _, mm_core.A rfl mm_core.rf, hX, hs⟩
            rw [eop]
            first
              | (rw [c_183]; rfl)
              | (rw [if_neg (show ¬ q.toInt = 0 from fun z => c_183 (Int32.toInt_inj.mp z)), c_192]; rfl)
              | (rw [if_neg (show ¬ q.toInt = 0 from fun z => c_183 (Int32.toInt_inj.mp z)), if_neg (show ¬ q.toInt = 1 from fun z => c_192 (Int32.toInt_inj.mp z))])
        · refine aw_iload_n dX0_gifts_186 rfl ?_
          refine aw_goto (tgt := 201) dX0_gifts_187 (by decide) ?_
          refine aw_ireturn dX0_gifts_201 rfl ?_
          refine ⟨?_, _, mm_core.A rfl mm_core.rf, hX, hs⟩
          rw [eop]
          first
            | (rw [c_183]; rfl)
            | (rw [if_neg (show ¬ q.toInt = 0 from fun z => c_183 (Int32.toInt_inj.mp z)), c_192]; rfl)
            | (rw [if_neg (show ¬ q.toInt = 0 from fun z => c_183 (Int32.toInt_inj.mp z)), if_neg (show ¬ q.toInt = 1 from fun z => c_192 (Int32.toInt_inj.mp z))])
  have loop : ∀ (f : Nat) (B : Nat → Nat) (n a : Nat) (h : aw_H), 0 ≤ q.toInt → q.toInt ≤ 2 → sp_sum (sp_lack H B) (sp_hn H) ≤ f → sp_okA N B → sp_gfs H (sp_sum (sp_lack H (mm_a s 45)) (sp_hn H)) (mm_a s 45) = ((sp_gfs H f B).1, n + (sp_gfs H f B).2.1, a + (sp_gfs H f B).2.2) → XC G w h (mm_setA s 46 B) → xx_same w h0 h → AW G (aw_rm 6 0 0) yX0_gifts cX0_gifts 7 (some .int) (aw_N G (xx_PoC G w h0 (some (.int (op_gifts H (mm_a s 45) q))) (s)) 0 0) 0 0 (h) 26 [(0, .ref (w.1 0)), (1, .int q), (2, .int (nI n)), (3, .int (nI a))] [] := by
    intro f
    induction f using Nat.strongRecOn with
    | _ f ih =>
      intro B n a h q1 q2 hf hB eG hX hs
      have out : ¬ (sp_gvr H B ≠ 0 ∧ sp_tkr H B ≠ 0) → ∀ h : aw_H, XC G w h (mm_setA s 46 B) → xx_same w h0 h → AW G (aw_rm 6 0 0) yX0_gifts cX0_gifts 7 (some .int) (aw_N G (xx_PoC G w h0 (some (.int (op_gifts H (mm_a s 45) q))) (s)) 0 0) 0 0 (h) 142 [(0, .ref (w.1 0)), (1, .int q), (2, .int (nI n)), (3, .int (nI a))] [] := by
        intro hz h hX hs
        rw [sp_gfs_0 (f := f) hz] at eG
        refine aw_iconst (v := nI 0) dX0_gifts_142 rfl ?_
        refine aw_istore dX0_gifts_143 (by decide) rfl rfl ?_
        refine aw_iconst (v := nI 0) dX0_gifts_145 rfl ?_
        refine aw_istore dX0_gifts_146 (by decide) rfl rfl ?_
        exact last B n a q1 q2 hB eG _ 0 h rfl (Nat.zero_le _) hX hs
      have neg1 : (-1 : Int32) < 0 := by decide
      have cgv : xx_Met yX0_firstOver cX0_firstOver 2 (some .int) 5 0 0 (fun w => [.ref (w.1 0)]) (mm_setA s 46 B) H u (some (.int (sp_cv (sp_gvr H B)))) (mm_setA s 46 B) := xo_fo (s := mm_setA s 46 B) (N := N) hOK hB (by omega)
      have ctk : xx_Met yX0_firstLack cX0_firstLack 2 (some .int) 5 0 0 (fun w => [.ref (w.1 0)]) (mm_setA s 46 B) H u (some (.int (sp_cv (sp_tkr H B)))) (mm_setA s 46 B) := xo_fl (s := mm_setA s 46 B) (N := N) hOK hB (by omega)
      by_cases hg0 : sp_gvr H B = 0
      · rw [hg0, sp_cv0] at cgv
        refine aw_aload_n dX0_gifts_26 rfl ?_
        refine xx_call0 dX0_gifts_27 sX0_283 rfl hW hX (hq.mv hs hX0).xh hs cgv rfl (hX.1 0 (by decide)) rfl rfl ⟨Nat.le_of_ble_eq_true rfl, Nat.le_of_ble_eq_true rfl⟩ (by exact Nat.le_of_ble_eq_true rfl) (fun h hX hs => ?_)
        refine aw_if_lt (tgt := 142) dX0_gifts_30 (by decide) (fun c_30 => ?_) (fun c_30 => by exfalso; exact c_30 neg1)
        exact out (fun z => z.1 hg0) h hX hs
      · obtain ⟨g, hg⟩ : ∃ g, sp_gvr H B = g + 1 := ⟨sp_gvr H B - 1, by omega⟩
        have hg9 := (sp_fst_some hg).1
        rw [hg, sp_cv_s] at cgv
        by_cases hb0 : sp_tkr H B = 0
        · rw [hb0, sp_cv0] at ctk
          refine aw_aload_n dX0_gifts_26 rfl ?_
          refine xx_call0 dX0_gifts_27 sX0_283 rfl hW hX (hq.mv hs hX0).xh hs cgv rfl (hX.1 0 (by decide)) rfl rfl ⟨Nat.le_of_ble_eq_true rfl, Nat.le_of_ble_eq_true rfl⟩ (by exact Nat.le_of_ble_eq_true rfl) (fun h hX hs => ?_)
          refine aw_if_ltN (tgt := 142) dX0_gifts_30 (by decide) (by omega) ?_
          refine aw_aload_n dX0_gifts_33 rfl ?_
          refine xx_call0 dX0_gifts_34 sX0_286 rfl hW hX (hq.mv hs hX0).xh hs ctk rfl (hX.1 0 (by decide)) rfl rfl ⟨Nat.le_of_ble_eq_true rfl, Nat.le_of_ble_eq_true rfl⟩ (by exact Nat.le_of_ble_eq_true rfl) (fun h hX hs => ?_)
          refine aw_if_lt (tgt := 142) dX0_gifts_37 (by decide) (fun c_37 => ?_) (fun c_37 => by exfalso; exact c_37 neg1)
          exact out (fun z => z.2 hb0) h hX hs
        · obtain ⟨b, hb⟩ : ∃ b, sp_tkr H B = b + 1 := ⟨sp_tkr H B - 1, by omega⟩
          have hb9 := (sp_fst_some hb).1
          have hg8 : g < 8 := by omega
          have hb8 : b < 8 := by omega
          rw [hb, sp_cv_s] at ctk
          obtain ⟨k1, k2⟩ := sp_gA_ok hn hB hg hb
          obtain ⟨f', rfl⟩ : ∃ f', f = f' + 1 := ⟨f - 1, by omega⟩
          obtain ⟨y, hy⟩ : ∃ y, y = sp_gift H B := ⟨_, rfl⟩
          have ey : y = min (B (8 + g) - sp_due H B g) (min (sp_lack H B b) (9999 - B (8 + b))) := by rw [hy]; unfold sp_gift; rw [hg, hb]; rfl
          have eA : sp_gA H B = aw_u (aw_u B (8 + g) (B (8 + g) - y)) (8 + b) (B (8 + b) + y) := by unfold sp_gA; rw [hg, hb, hy]; rfl
          have gb : g ≠ b := fun e => by
            subst e
            have g2 := of_decide_eq_true (sp_fst_some hg).2
            have b2 := of_decide_eq_true (sp_fst_some hb).2
            unfold sp_lack at b2
            omega
          rw [sp_gfs_s, if_pos ⟨hg0, hb0⟩] at eG
          have c1 := (hB.1 g hg8).2.1
          have c2 := (hB.1 b hb8).2.1
          have c3 : sp_lack H B b < 2147483648 := by
            have := (hB.1 b hb8).2.2
            have := how b hb8
            have : sp_lack H B b ≤ sp_ow H b + B (16 + b) := Nat.sub_le _ _
            omega
          obtain ⟨B1, hB1⟩ : ∃ B1, B1 = aw_u B (8 + g) (B (8 + g) - y) := ⟨_, rfl⟩
          have b1b : B1 (8 + b) = B (8 + b) := by rw [hB1, aw_u_n (by omega)]
          refine aw_aload_n dX0_gifts_26 rfl ?_
          refine xx_call0 dX0_gifts_27 sX0_283 rfl hW hX (hq.mv hs hX0).xh hs cgv rfl (hX.1 0 (by decide)) rfl rfl ⟨Nat.le_of_ble_eq_true rfl, Nat.le_of_ble_eq_true rfl⟩ (by exact Nat.le_of_ble_eq_true rfl) (fun h hX hs => ?_)
          try simp only [mm_n_N, mm_n_A, mm_n_V, mm_n_Fp, mm_n_W, mm_n_Nm, mm_a_N, mm_a_A, mm_a_V, mm_a_Fp, mm_a_W, mm_a_Nm, mm_v_N, mm_v_A, mm_v_V, mm_fp_N, mm_fp_A, mm_fp_Fp, mm_w_N, mm_w_W, Nat.reduceEqDiff, reduceIte, if_true, if_false, mm_H_45, mm_H_46, mm_H_47, mm_H_50, mm_H_53, mm_H_54, mm_H_55, mm_H_56, mm_H_57, mm_H_58, mm_H_66, mm_H_67, mm_H_68, eq_self]
          refine aw_if_ltN (tgt := 142) dX0_gifts_30 (by decide) (by omega) ?_
          refine aw_aload_n dX0_gifts_33 rfl ?_
          refine xx_call0 dX0_gifts_34 sX0_286 rfl hW hX (hq.mv hs hX0).xh hs ctk rfl (hX.1 0 (by decide)) rfl rfl ⟨Nat.le_of_ble_eq_true rfl, Nat.le_of_ble_eq_true rfl⟩ (by exact Nat.le_of_ble_eq_true rfl) (fun h hX hs => ?_)
          try simp only [mm_n_N, mm_n_A, mm_n_V, mm_n_Fp, mm_n_W, mm_n_Nm, mm_a_N, mm_a_A, mm_a_V, mm_a_Fp, mm_a_W, mm_a_Nm, mm_v_N, mm_v_A, mm_v_V, mm_fp_N, mm_fp_A, mm_fp_Fp, mm_w_N, mm_w_W, Nat.reduceEqDiff, reduceIte, if_true, if_false, mm_H_45, mm_H_46, mm_H_47, mm_H_50, mm_H_53, mm_H_54, mm_H_55, mm_H_56, mm_H_57, mm_H_58, mm_H_66, mm_H_67, mm_H_68, eq_self]
          refine aw_if_ltN (tgt := 142) dX0_gifts_37 (by decide) (by omega) ?_
          refine aw_aload_n dX0_gifts_40 rfl ?_
          refine xx_call0 dX0_gifts_41 sX0_283 rfl hW hX (hq.mv hs hX0).xh hs cgv rfl (hX.1 0 (by decide)) rfl rfl ⟨Nat.le_of_ble_eq_true rfl, Nat.le_of_ble_eq_true rfl⟩ (by exact Nat.le_of_ble_eq_true rfl) (fun h hX hs => ?_)
          try simp only [mm_n_N, mm_n_A, mm_n_V, mm_n_Fp, mm_n_W, mm_n_Nm, mm_a_N, mm_a_A, mm_a_V, mm_a_Fp, mm_a_W, mm_a_Nm, mm_v_N, mm_v_A, mm_v_V, mm_fp_N, mm_fp_A, mm_fp_Fp, mm_w_N, mm_w_W, Nat.reduceEqDiff, reduceIte, if_true, if_false, mm_H_45, mm_H_46, mm_H_47, mm_H_50, mm_H_53, mm_H_54, mm_H_55, mm_H_56, mm_H_57, mm_H_58, mm_H_66, mm_H_67, mm_H_68, eq_self]
          refine aw_istore dX0_gifts_44 (by decide) rfl rfl ?_
          refine aw_aload_n dX0_gifts_46 rfl ?_
          refine xx_call0 dX0_gifts_47 sX0_286 rfl hW hX (hq.mv hs hX0).xh hs ctk rfl (hX.1 0 (by decide)) rfl rfl ⟨Nat.le_of_ble_eq_true rfl, Nat.le_of_ble_eq_true rfl⟩ (by exact Nat.le_of_ble_eq_true rfl) (fun h hX hs => ?_)
          try simp only [mm_n_N, mm_n_A, mm_n_V, mm_n_Fp, mm_n_W, mm_n_Nm, mm_a_N, mm_a_A, mm_a_V, mm_a_Fp, mm_a_W, mm_a_Nm, mm_v_N, mm_v_A, mm_v_V, mm_fp_N, mm_fp_A, mm_fp_Fp, mm_w_N, mm_w_W, Nat.reduceEqDiff, reduceIte, if_true, if_false, mm_H_45, mm_H_46, mm_H_47, mm_H_50, mm_H_53, mm_H_54, mm_H_55, mm_H_56, mm_H_57, mm_H_58, mm_H_66, mm_H_67, mm_H_68, eq_self]
          refine aw_istore dX0_gifts_50 (by decide) rfl rfl ?_
          refine aw_aload_n dX0_gifts_52 rfl ?_
          refine aw_get dX0_gifts_53 fX0_32 rfl (hX.1 0 (by decide)) (by rfl) ?_
          refine aw_aload_n dX0_gifts_56 rfl ?_
          refine aw_get dX0_gifts_57 fX0_19 rfl (hX.1 0 (by decide)) (by rfl) ?_
          refine aw_iload dX0_gifts_60 rfl ?_
          refine xx_call0 dX0_gifts_62 sX0_279 rfl hW hX (hq.mv hs hX0).xh hs (xo_overT hOK hB (by omega) hg9) rfl (hX.st (i := 1) (by decide)) rfl rfl ⟨Nat.le_of_ble_eq_true rfl, Nat.le_of_ble_eq_true rfl⟩ (by exact Nat.le_of_ble_eq_true rfl) (fun h hX hs => ?_)
          try simp only [mm_n_N, mm_n_A, mm_n_V, mm_n_Fp, mm_n_W, mm_n_Nm, mm_a_N, mm_a_A, mm_a_V, mm_a_Fp, mm_a_W, mm_a_Nm, mm_v_N, mm_v_A, mm_v_V, mm_fp_N, mm_fp_A, mm_fp_Fp, mm_w_N, mm_w_W, Nat.reduceEqDiff, reduceIte, if_true, if_false, mm_H_45, mm_H_46, mm_H_47, mm_H_50, mm_H_53, mm_H_54, mm_H_55, mm_H_56, mm_H_57, mm_H_58, mm_H_66, mm_H_67, mm_H_68, eq_self]
          refine aw_aload_n dX0_gifts_65 rfl ?_
          refine aw_get dX0_gifts_66 fX0_32 rfl (hX.1 0 (by decide)) (by rfl) ?_
          refine aw_aload_n dX0_gifts_69 rfl ?_
          refine aw_get dX0_gifts_70 fX0_19 rfl (hX.1 0 (by decide)) (by rfl) ?_
          refine aw_iload dX0_gifts_73 rfl ?_
          refine aw_iconst (v := nI 0) dX0_gifts_75 rfl ?_
          refine xx_call0 dX0_gifts_76 sX0_184 rfl hW hX (hq.mv hs hX0).xh hs (xo_lackT hOK hB (by omega) hb9) rfl (hX.st (i := 1) (by decide)) rfl rfl ⟨Nat.le_of_ble_eq_true rfl, Nat.le_of_ble_eq_true rfl⟩ (by exact Nat.le_of_ble_eq_true rfl) (fun h hX hs => ?_)
          try simp only [mm_n_N, mm_n_A, mm_n_V, mm_n_Fp, mm_n_W, mm_n_Nm, mm_a_N, mm_a_A, mm_a_V, mm_a_Fp, mm_a_W, mm_a_Nm, mm_v_N, mm_v_A, mm_v_V, mm_fp_N, mm_fp_A, mm_fp_Fp, mm_w_N, mm_w_W, Nat.reduceEqDiff, reduceIte, if_true, if_false, mm_H_45, mm_H_46, mm_H_47, mm_H_50, mm_H_53, mm_H_54, mm_H_55, mm_H_56, mm_H_57, mm_H_58, mm_H_66, mm_H_67, mm_H_68, eq_self]
          refine aw_sipush (v := nI 9999) dX0_gifts_79 rfl ?_
          refine aw_aload_n dX0_gifts_82 rfl ?_
          refine aw_get dX0_gifts_83 fX0_32 rfl (hX.1 0 (by decide)) (by rfl) ?_
          refine aw_get dX0_gifts_86 fX0_107 rfl (hX.st (i := 1) (by decide)) (by rfl) ?_
          refine aw_iload dX0_gifts_89 rfl ?_
          refine xx_ialdS (i := 1) (b := 1) dX0_gifts_91 hX (by decide) (by decide) (by omega) ?_
          try simp only [Nat.reduceMul, Nat.reduceAdd, Nat.zero_add]
          try simp only [mm_n_N, mm_n_A, mm_n_V, mm_n_Fp, mm_n_W, mm_n_Nm, mm_a_N, mm_a_A, mm_a_V, mm_a_Fp, mm_a_W, mm_a_Nm, mm_v_N, mm_v_A, mm_v_V, mm_fp_N, mm_fp_A, mm_fp_Fp, mm_w_N, mm_w_W, Nat.reduceEqDiff, reduceIte, if_true, if_false, mm_H_45, mm_H_46, mm_H_47, mm_H_50, mm_H_53, mm_H_54, mm_H_55, mm_H_56, mm_H_57, mm_H_58, mm_H_66, mm_H_67, mm_H_68, eq_self]
          refine aw_isubN dX0_gifts_92 (by omega) ?_
          refine aw_mminN dX0_gifts_93 q951 (by omega) (by omega) (Nat.le_of_ble_eq_true rfl) (Nat.le_of_ble_eq_true rfl) (Nat.le_of_ble_eq_true rfl) ?_
          refine aw_mminN dX0_gifts_96 q951 (by omega) (by omega) (Nat.le_of_ble_eq_true rfl) (Nat.le_of_ble_eq_true rfl) (Nat.le_of_ble_eq_true rfl) ?_
          rw [← ey]
          refine aw_istore dX0_gifts_99 (by decide) rfl rfl ?_
          refine aw_aload_n dX0_gifts_101 rfl ?_
          refine aw_get dX0_gifts_102 fX0_32 rfl (hX.1 0 (by decide)) (by rfl) ?_
          refine aw_get dX0_gifts_105 fX0_107 rfl (hX.st (i := 1) (by decide)) (by rfl) ?_
          refine aw_iload dX0_gifts_108 rfl ?_
          refine aw_dup2 dX0_gifts_110 rfl rfl ?_
          refine xx_ialdS (i := 1) (b := 1) dX0_gifts_111 hX (by decide) (by decide) (by omega) ?_
          try simp only [Nat.reduceMul, Nat.reduceAdd, Nat.zero_add]
          try simp only [mm_n_N, mm_n_A, mm_n_V, mm_n_Fp, mm_n_W, mm_n_Nm, mm_a_N, mm_a_A, mm_a_V, mm_a_Fp, mm_a_W, mm_a_Nm, mm_v_N, mm_v_A, mm_v_V, mm_fp_N, mm_fp_A, mm_fp_Fp, mm_w_N, mm_w_W, Nat.reduceEqDiff, reduceIte, if_true, if_false, mm_H_45, mm_H_46, mm_H_47, mm_H_50, mm_H_53, mm_H_54, mm_H_55, mm_H_56, mm_H_57, mm_H_58, mm_H_66, mm_H_67, mm_H_68, eq_self]
          refine aw_iload dX0_gifts_112 rfl ?_
          refine aw_isubN dX0_gifts_114 (by omega) ?_
          refine xx_stS (i := 1) (b := 1) hW hX hs dX0_gifts_115 (by decide) (by decide) (by omega) (fun h hX hs => ?_)
          have hX : XC G w h (mm_setA s 46 B1) := xx_AU (k := 46) hX hB1
          refine aw_aload_n dX0_gifts_116 rfl ?_
          refine aw_get dX0_gifts_117 fX0_32 rfl (hX.1 0 (by decide)) (by rfl) ?_
          refine aw_get dX0_gifts_120 fX0_107 rfl (hX.st (i := 1) (by decide)) (by rfl) ?_
          refine aw_iload dX0_gifts_123 rfl ?_
          refine aw_dup2 dX0_gifts_125 rfl rfl ?_
          refine xx_ialdS (i := 1) (b := 1) dX0_gifts_126 hX (by decide) (by decide) (by omega) ?_
          try simp only [Nat.reduceMul, Nat.reduceAdd, Nat.zero_add]
          try simp only [mm_n_N, mm_n_A, mm_n_V, mm_n_Fp, mm_n_W, mm_n_Nm, mm_a_N, mm_a_A, mm_a_V, mm_a_Fp, mm_a_W, mm_a_Nm, mm_v_N, mm_v_A, mm_v_V, mm_fp_N, mm_fp_A, mm_fp_Fp, mm_w_N, mm_w_W, Nat.reduceEqDiff, reduceIte, if_true, if_false, mm_H_45, mm_H_46, mm_H_47, mm_H_50, mm_H_53, mm_H_54, mm_H_55, mm_H_56, mm_H_57, mm_H_58, mm_H_66, mm_H_67, mm_H_68, eq_self]
          rw [b1b]
          refine aw_iload dX0_gifts_127 rfl ?_
          refine aw_iaddN dX0_gifts_129 ?_
          refine xx_stS (i := 1) (b := 1) hW hX hs dX0_gifts_130 (by decide) (by decide) (by omega) (fun h hX hs => ?_)
          have hX : XC G w h (mm_setA s 46 (sp_gA H B)) := xx_AU (k := 46) hX (by rw [eA, hB1])
          refine aw_iload_n dX0_gifts_131 rfl ?_
          refine aw_iload dX0_gifts_132 rfl ?_
          refine aw_iaddN dX0_gifts_134 ?_
          refine aw_istore_n dX0_gifts_135 (by decide) rfl rfl ?_
          refine aw_iincN (b := 1) dX0_gifts_136 rfl rfl (by decide) rfl rfl ?_
          refine aw_goto (tgt := 26) dX0_gifts_139 (by decide) ?_
          refine AW_dr (ih f' (by omega) _ (n + 1) (a + y) h q1 q2 (by omega) k1 ?_ hX hs)
          rw [eG, hy]
          dsimp only
          congr 2 <;> omega
  by_cases z : 0 ≤ q.toInt ∧ q.toInt ≤ 2
  ·
    refine aw_iload_n dX0_gifts_0 rfl ?_
    refine aw_iconst (v := nI 0) dX0_gifts_1 rfl ?_
    refine aw_iconst (v := nI 2) dX0_gifts_2 rfl ?_
    refine aw_callP (r := _) dX0_gifts_3 sX0_155 rfl (xp_isIn) rfl rfl ⟨Nat.le_of_ble_eq_true rfl, Nat.le_of_ble_eq_true rfl⟩ (Nat.le_of_ble_eq_true rfl) ?_
    refine aw_if_neB (tgt := 11) dX0_gifts_6 (by decide) (fun c_6 => ?_) (fun c_6 => by exfalso; exact c_6 (by omega))
    refine aw_aload_n dX0_gifts_11 rfl ?_
    refine aw_get dX0_gifts_12 fX0_32 rfl (hX.1 0 (by decide)) (by rfl) ?_
    refine aw_aload_n dX0_gifts_15 rfl ?_
    refine aw_get dX0_gifts_16 fX0_28 rfl (hX.1 0 (by decide)) (by rfl) ?_
    refine xx_call0 dX0_gifts_19 sX0_138 rfl hW hX (hq.mv hs hX0).xh hs xs_of10 rfl (hX.st (i := 1) (by decide)) rfl rfl ⟨Nat.le_of_ble_eq_true rfl, Nat.le_of_ble_eq_true rfl⟩ (by exact Nat.le_of_ble_eq_true rfl) (fun h hX hs => ?_)
    refine aw_iconst (v := nI 0) dX0_gifts_22 rfl ?_
    refine aw_istore_n dX0_gifts_23 (by decide) rfl rfl ?_
    refine aw_iconst (v := nI 0) dX0_gifts_24 rfl ?_
    refine aw_istore_n dX0_gifts_25 (by decide) rfl rfl ?_
    exact loop _ (mm_a s 45) 0 0 h z.1 z.2 (Nat.le_refl _) hA (by rw [Nat.zero_add, Nat.zero_add]) hX hs
  ·
    refine aw_iload_n dX0_gifts_0 rfl ?_
    refine aw_iconst (v := nI 0) dX0_gifts_1 rfl ?_
    refine aw_iconst (v := nI 2) dX0_gifts_2 rfl ?_
    refine aw_callP (r := _) dX0_gifts_3 sX0_155 rfl (xp_isIn) rfl rfl ⟨Nat.le_of_ble_eq_true rfl, Nat.le_of_ble_eq_true rfl⟩ (Nat.le_of_ble_eq_true rfl) ?_
    refine aw_if_neB (tgt := 11) dX0_gifts_6 (by decide) (fun c_6 => by exfalso; exact z (by omega)) (fun c_6 => ?_)
    refine aw_iconst (v := -1) dX0_gifts_9 rfl ?_
    refine aw_ireturn dX0_gifts_10 rfl ?_
    exact ⟨by rw [no z], _, mm_core.rf, hX, hs⟩

