set_option maxRecDepth 100000
/-! the component: calls that ask, a third lot -/
theorem xh_cntS {s : mm_S} {H : sp_H} {u i a b n : Nat} (hi : i < 2) (ha : a < 100) : xx_Met yX1_counts cX1_counts 6 (some .int) 602 0 0 (fun w => [.ref (w.1 16), .ref (w.1 (1 + 4 * i)), .int (nI a), .int (nI b), .int (nI n), .int (nI (mm_a s (45 + i) 24))]) s H u (some (.int (nI (sp_cnt H (mm_a s (45 + i)) a b n)))) s := (xh_cnt (k := mm_a s (45 + i) 24) hi ha).eqv (by rw [aw_u_id]) rfl
set_option maxHeartbeats 4000000 in
theorem xo_live {s : mm_S} {H : sp_H} {u : Nat} {a : Int32} (hOK : sp_okH H) : xx_Op yX0_live cX0_live 4 (some .int) 5 0 0 (fun w => [.ref (w.1 0), .int (a)]) s H u (some (.int (op_live H a))) (s) := by
  refine xx_Op.of (by decide +kernel) (fun _ => Nat.le_of_ble_eq_true rfl) (fun G w h0 hW hX hH => ?_)
  have hX0 := hX
  have hs : xx_same w h0 h0 := xx_same.rf
  obtain ⟨tl, te, cap, m9, f9, tn, nm9, c9, mo9, D9, hq⟩ := hH
  show AW G (aw_rm 5 0 0) yX0_live cX0_live 4 (some .int) (aw_N G (xx_PoC G w h0 (some (.int (op_live H a))) (s)) 0 0) 0 0 h0 0 [(0, .ref (w.1 0)), (1, .int (a))] []
  have hs1 : 1 ≤ sp_hs H := hOK.1.1; have hs20 : sp_hs H ≤ 20 := hOK.1.2; have hn : sp_hn H ≤ 8 := hOK.2.1; have hlv : ∀ t, t < 8 → sp_lv H t ≤ 20 := fun t ht => (hOK.2.2.1 t ht).1; have hsg : ∀ t, t < 8 → sp_sg8 H t ≤ 40 := fun t ht => (hOK.2.2.1 t ht).2.1; have hhv : ∀ t, t < 8 → sp_hv H t ≤ 9 := fun t ht => (hOK.2.2.1 t ht).2.2.1; have how : ∀ t, t < 8 → sp_ow H t ≤ 999 := fun t ht => (hOK.2.2.1 t ht).2.2.2.1; have hfl : ∀ t, t < 8 → sp_fl H t ≤ 100 := fun t ht => (hOK.2.2.1 t ht).2.2.2.2
  have e20 : (nI (sp_hs H)).toInt = sp_hs H := aw_ti (by omega)
  have e0 : (nI 0).toInt = 0 := rfl
  by_cases z : 0 ≤ a.toInt ∧ a.toInt ≤ (sp_hs H : Int)
  · have z2 := z
    obtain ⟨a', ha, rfl, a1, a2⟩ := aw_ofN z2.1
    have fin : op_live H (nI a') = nI (sp_or (fun t => aw_t (sp_lv H t = a')) (sp_hn H)) := by rw [op_live, aw_if1 z, a2]
    rw [fin]
    have loop : ∀ (d k : Nat) (h : aw_H), sp_hn H - k = d → k ≤ sp_hn H → XC G w h s → xx_same w h0 h → AW G (aw_rm 5 0 0) yX0_live cX0_live 4 (some .int) (aw_N G (xx_PoC G w h0 (some (.int (nI (sp_or (fun t => aw_t (sp_lv H t = a')) (sp_hn H))))) (s)) 0 0) 0 0 (h) 21 [(0, .ref (w.1 0)), (1, .int (nI a')), (2, .int (nI (sp_or (fun t => aw_t (sp_lv H t = a')) k))), (3, .int (nI k))] [] := by
      intro d
      induction d using Nat.strongRecOn with
      | _ d ih =>
        intro k h hd hk hX hs
        by_cases hk9 : k < sp_hn H
        · have lv := hlv k (by omega)
          have next : ∀ (h : aw_H) (v : Nat), v = sp_or (fun t => aw_t (sp_lv H t = a')) (k + 1) → XC G w h s → xx_same w h0 h → AW G (aw_rm 5 0 0) yX0_live cX0_live 4 (some .int) (aw_N G (xx_PoC G w h0 (some (.int (nI (sp_or (fun t => aw_t (sp_lv H t = a')) (sp_hn H))))) (s)) 0 0) 0 0 (h) 56 [(0, .ref (w.1 0)), (1, .int (nI a')), (2, .int (nI v)), (3, .int (nI k))] [] := by
            intro h v ev hX hs
            subst ev
            refine aw_iincN (b := 1) dX0_live_56 rfl rfl (by decide) rfl rfl ?_
            refine aw_goto (tgt := 21) dX0_live_59 (by decide) ?_
            exact ih (sp_hn H - (k + 1)) (by omega) (k + 1) h rfl (by omega) hX hs
          refine aw_iload_n dX0_live_21 rfl ?_
          refine aw_aload_n dX0_live_22 rfl ?_
          refine xx_call0 dX0_live_23 sX0_91 rfl hW hX (hq.mv hs hX0).xh hs xo_many rfl (hX.1 0 (by decide)) rfl rfl ⟨Nat.le_of_ble_eq_true rfl, Nat.le_of_ble_eq_true rfl⟩ (by exact Nat.le_of_ble_eq_true rfl) (fun h hX hs => ?_)
          refine aw_icmp_geN (tgt := 62) dX0_live_26 (by decide) (by omega) (by omega) (fun c_26 => by exfalso; omega) (fun c_26 => ?_)
          refine aw_aload_n dX0_live_29 rfl ?_
          refine aw_get dX0_live_30 fX0_19 rfl (hX.1 0 (by decide)) (by rfl) ?_
          refine aw_get dX0_live_33 fX0_95 rfl (hq.mv hs hX0).1 (by rfl) ?_
          refine aw_iload_n dX0_live_36 rfl ?_
          refine xx_get dX0_live_37 sX0_98 rfl (hq.mv hs hX0) (by omega) ⟨Nat.le_of_ble_eq_true rfl, Nat.le_of_ble_eq_true rfl⟩ (by exact Nat.le_of_ble_eq_true rfl) ?_
          refine aw_castS (y := yX0_live) dX0_live_40 q378 aw_cl7 ((hq.mv hs hX0).ten (by omega)) ?_
          refine aw_get dX0_live_43 fX0_192 rfl ((hq.mv hs hX0).ten (by omega)) (by rfl) ?_
          refine aw_iload_n dX0_live_46 rfl ?_
          refine aw_icmp_neN (tgt := 56) dX0_live_47 (by decide) (by omega) (by omega) (fun c_47 => ?_) (fun c_47 => ?_)
          · refine next h _ ?_ hX hs
            show _ = sp_or _ k ||| aw_t (sp_lv H k = a') * 2 ^ k
            first
              | rw [aw_t1 (by omega)]
              | rw [aw_t0 (by omega), Nat.zero_mul, Nat.or_zero]
          · refine aw_iload_n dX0_live_50 rfl ?_
            refine aw_iconst (v := nI 1) dX0_live_51 rfl ?_
            refine aw_iload_n dX0_live_52 rfl ?_
            refine aw_ishlN dX0_live_53 (by first | omega | exact aw_sh1 (by decide) (by omega)) (by first | omega | exact aw_sh1 (by decide) (by omega)) ?_
            refine aw_iorN dX0_live_54 ?_
            refine aw_istore_n dX0_live_55 (by decide) rfl rfl ?_
            refine next h _ ?_ hX hs
            show _ = sp_or _ k ||| aw_t (sp_lv H k = a') * 2 ^ k
            first
              | rw [aw_t1 (by omega)]
              | rw [aw_t0 (by omega), Nat.zero_mul, Nat.or_zero]
        ·
          refine aw_iload_n dX0_live_21 rfl ?_
          refine aw_aload_n dX0_live_22 rfl ?_
          refine xx_call0 dX0_live_23 sX0_91 rfl hW hX (hq.mv hs hX0).xh hs xo_many rfl (hX.1 0 (by decide)) rfl rfl ⟨Nat.le_of_ble_eq_true rfl, Nat.le_of_ble_eq_true rfl⟩ (by exact Nat.le_of_ble_eq_true rfl) (fun h hX hs => ?_)
          refine aw_icmp_geN (tgt := 62) dX0_live_26 (by decide) (by omega) (by omega) (fun c_26 => ?_) (fun c_26 => by exfalso; omega)
          refine aw_iload_n dX0_live_62 rfl ?_
          refine aw_ireturn dX0_live_63 rfl ?_
          exact ⟨by rw [show sp_hn H = k by omega], _, mm_core.rf, hX, hs⟩
    refine aw_iload_n dX0_live_0 rfl ?_
    refine aw_iconst (v := nI 0) dX0_live_1 rfl ?_
    refine aw_aload_n dX0_live_2 rfl ?_
    refine aw_get dX0_live_3 fX0_19 rfl (hX.1 0 (by decide)) (by rfl) ?_
    refine aw_get dX0_live_6 fX0_208 rfl (hq.mv hs hX0).1 (by rfl) ?_
    refine aw_callP (r := _) dX0_live_9 sX0_155 rfl (xp_isIn) rfl rfl ⟨Nat.le_of_ble_eq_true rfl, Nat.le_of_ble_eq_true rfl⟩ (Nat.le_of_ble_eq_true rfl) ?_
    refine aw_if_neB (tgt := 17) dX0_live_12 (by decide) (fun c_12 => ?_) (fun c_12 => by exfalso; exact c_12 (by omega))
    refine aw_iconst (v := nI 0) dX0_live_17 rfl ?_
    refine aw_istore_n dX0_live_18 (by decide) rfl rfl ?_
    refine aw_iconst (v := nI 0) dX0_live_19 rfl ?_
    refine aw_istore_n dX0_live_20 (by decide) rfl rfl ?_
    exact loop _ 0 h0 rfl (Nat.zero_le _) hX hs
  ·
    refine aw_iload_n dX0_live_0 rfl ?_
    refine aw_iconst (v := nI 0) dX0_live_1 rfl ?_
    refine aw_aload_n dX0_live_2 rfl ?_
    refine aw_get dX0_live_3 fX0_19 rfl (hX.1 0 (by decide)) (by rfl) ?_
    refine aw_get dX0_live_6 fX0_208 rfl (hq.mv hs hX0).1 (by rfl) ?_
    refine aw_callP (r := _) dX0_live_9 sX0_155 rfl (xp_isIn) rfl rfl ⟨Nat.le_of_ble_eq_true rfl, Nat.le_of_ble_eq_true rfl⟩ (Nat.le_of_ble_eq_true rfl) ?_
    refine aw_if_neB (tgt := 17) dX0_live_12 (by decide) (fun c_12 => by exfalso; exact z (by omega)) (fun c_12 => ?_)
    refine aw_iconst (v := -1) dX0_live_15 rfl ?_
    refine aw_ireturn dX0_live_16 rfl ?_
    exact ⟨by rw [op_live, aw_if0 z], _, mm_core.rf, hX, hs⟩
set_option maxHeartbeats 4000000 in
theorem xo_owing {s : mm_S} {H : sp_H} {u : Nat} {N : Nat} (hOK : sp_okH H) (hA : sp_okA N (mm_a s 45)) (hN : N ≤ 10000000) : xx_Op yX0_owing cX0_owing 3 (some .int) 6 0 0 (fun w => [.ref (w.1 0)]) s H u (some (.int (op_owing H (mm_a s 45)))) (s) := by
  refine xx_Op.of (by decide +kernel) (fun _ => Nat.le_of_ble_eq_true rfl) (fun G w h0 hW hX hH => ?_)
  have hX0 := hX
  have hs : xx_same w h0 h0 := xx_same.rf
  obtain ⟨tl, te, cap, m9, f9, tn, nm9, c9, mo9, D9, hq⟩ := hH
  show AW G (aw_rm 6 0 0) yX0_owing cX0_owing 3 (some .int) (aw_N G (xx_PoC G w h0 (some (.int (op_owing H (mm_a s 45)))) (s)) 0 0) 0 0 h0 0 [(0, .ref (w.1 0))] []
  have hs1 : 1 ≤ sp_hs H := hOK.1.1; have hs20 : sp_hs H ≤ 20 := hOK.1.2; have hn : sp_hn H ≤ 8 := hOK.2.1; have hlv : ∀ t, t < 8 → sp_lv H t ≤ 20 := fun t ht => (hOK.2.2.1 t ht).1; have hsg : ∀ t, t < 8 → sp_sg8 H t ≤ 40 := fun t ht => (hOK.2.2.1 t ht).2.1; have hhv : ∀ t, t < 8 → sp_hv H t ≤ 9 := fun t ht => (hOK.2.2.1 t ht).2.2.1; have how : ∀ t, t < 8 → sp_ow H t ≤ 999 := fun t ht => (hOK.2.2.1 t ht).2.2.2.1; have hfl : ∀ t, t < 8 → sp_fl H t ≤ 100 := fun t ht => (hOK.2.2.1 t ht).2.2.2.2
  have hb : ∀ t, t < 8 → mm_a s 45 t ≤ 40 := fun t ht => (hA.1 t ht).1; have hp : ∀ t, t < 8 → mm_a s 45 (8 + t) ≤ 9999 := fun t ht => (hA.1 t ht).2.1; have hd : ∀ t, t < 8 → mm_a s 45 (16 + t) ≤ N := fun t ht => (hA.1 t ht).2.2; have h24 : mm_a s 45 24 ≤ N := hA.2.1; have h25 : mm_a s 45 25 ≤ 20 := hA.2.2.1; have h26 : mm_a s 45 26 ≤ N := hA.2.2.2.1; have h27 : mm_a s 45 27 ≤ 999 := hA.2.2.2.2
  have loop : ∀ (d k : Nat) (h : aw_H), sp_hn H - k = d → k ≤ sp_hn H → XC G w h s → xx_same w h0 h → AW G (aw_rm 6 0 0) yX0_owing cX0_owing 3 (some .int) (aw_N G (xx_PoC G w h0 (some (.int (op_owing H (mm_a s 45)))) (s)) 0 0) 0 0 (h) 4 [(0, .ref (w.1 0)), (1, .int (nI (sp_or (fun t => aw_t (0 < sp_lack H (mm_a s 45) t)) k))), (2, .int (nI k))] [] := by
    intro d
    induction d using Nat.strongRecOn with
    | _ d ih =>
      intro k h hd9 hk hX hs
      by_cases hk9 : k < sp_hn H
      · have q1 := how k (by omega)
        have q2 := hd k (by omega)
        have ll : sp_lack H (mm_a s 45) k ≤ sp_ow H k + mm_a s 45 (16 + k) := Nat.sub_le _ _
        have next : ∀ (h : aw_H) (v : Nat), v = sp_or (fun t => aw_t (0 < sp_lack H (mm_a s 45) t)) (k + 1) → XC G w h s → xx_same w h0 h → AW G (aw_rm 6 0 0) yX0_owing cX0_owing 3 (some .int) (aw_N G (xx_PoC G w h0 (some (.int (op_owing H (mm_a s 45)))) (s)) 0 0) 0 0 (h) 26 [(0, .ref (w.1 0)), (1, .int (nI v)), (2, .int (nI k))] [] := by
          intro h v ev hX hs
          subst ev
          refine aw_iincN (b := 1) dX0_owing_26 rfl rfl (by decide) rfl rfl ?_
          refine aw_goto (tgt := 4) dX0_owing_29 (by decide) ?_
          exact ih (sp_hn H - (k + 1)) (by omega) (k + 1) h rfl (by omega) hX hs
        refine aw_iload_n dX0_owing_4 rfl ?_
        refine aw_aload_n dX0_owing_5 rfl ?_
        refine xx_call0 dX0_owing_6 sX0_91 rfl hW hX (hq.mv hs hX0).xh hs xo_many rfl (hX.1 0 (by decide)) rfl rfl ⟨Nat.le_of_ble_eq_true rfl, Nat.le_of_ble_eq_true rfl⟩ (by exact Nat.le_of_ble_eq_true rfl) (fun h hX hs => ?_)
        refine aw_icmp_geN (tgt := 32) dX0_owing_9 (by decide) (by omega) (by omega) (fun c_9 => by exfalso; omega) (fun c_9 => ?_)
        refine aw_aload_n dX0_owing_12 rfl ?_
        refine aw_iload_n dX0_owing_13 rfl ?_
        refine xx_call0 dX0_owing_14 sX0_204 rfl hW hX (hq.mv hs hX0).xh hs (xo_lack hOK hA hN hk9) rfl (hX.1 0 (by decide)) rfl rfl ⟨Nat.le_of_ble_eq_true rfl, Nat.le_of_ble_eq_true rfl⟩ (by exact Nat.le_of_ble_eq_true rfl) (fun h hX hs => ?_)
        refine aw_if_leN (tgt := 26) dX0_owing_17 (by decide) (by omega) (fun c_17 => ?_) (fun c_17 => ?_)
        · refine next h _ ?_ hX hs
          show _ = sp_or _ k ||| aw_t (0 < sp_lack H (mm_a s 45) k) * 2 ^ k
          first
            | rw [aw_t1 (by omega)]
            | rw [aw_t0 (by omega), Nat.zero_mul, Nat.or_zero]
        · refine aw_iload_n dX0_owing_20 rfl ?_
          refine aw_iconst (v := nI 1) dX0_owing_21 rfl ?_
          refine aw_iload_n dX0_owing_22 rfl ?_
          refine aw_ishlN dX0_owing_23 (by first | omega | exact aw_sh1 (by decide) (by omega)) (by first | omega | exact aw_sh1 (by decide) (by omega)) ?_
          refine aw_iorN dX0_owing_24 ?_
          refine aw_istore_n dX0_owing_25 (by decide) rfl rfl ?_
          refine next h _ ?_ hX hs
          show _ = sp_or _ k ||| aw_t (0 < sp_lack H (mm_a s 45) k) * 2 ^ k
          first
            | rw [aw_t1 (by omega)]
            | rw [aw_t0 (by omega), Nat.zero_mul, Nat.or_zero]
      ·
        refine aw_iload_n dX0_owing_4 rfl ?_
        refine aw_aload_n dX0_owing_5 rfl ?_
        refine xx_call0 dX0_owing_6 sX0_91 rfl hW hX (hq.mv hs hX0).xh hs xo_many rfl (hX.1 0 (by decide)) rfl rfl ⟨Nat.le_of_ble_eq_true rfl, Nat.le_of_ble_eq_true rfl⟩ (by exact Nat.le_of_ble_eq_true rfl) (fun h hX hs => ?_)
        refine aw_icmp_geN (tgt := 32) dX0_owing_9 (by decide) (by omega) (by omega) (fun c_9 => ?_) (fun c_9 => by exfalso; omega)
        refine aw_iload_n dX0_owing_32 rfl ?_
        refine aw_ireturn dX0_owing_33 rfl ?_
        exact ⟨by rw [op_owing, show sp_hn H = k by omega], _, mm_core.rf, hX, hs⟩
  refine aw_iconst (v := nI 0) dX0_owing_0 rfl ?_
  refine aw_istore_n dX0_owing_1 (by decide) rfl rfl ?_
  refine aw_iconst (v := nI 0) dX0_owing_2 rfl ?_
  refine aw_istore_n dX0_owing_3 (by decide) rfl rfl ?_
  exact loop _ 0 h0 rfl (Nat.zero_le _) hX hs
set_option maxHeartbeats 4000000 in
theorem xo_poorest {s : mm_S} {H : sp_H} {u : Nat} {N : Nat} (hOK : sp_okH H) (hA : sp_okA N (mm_a s 45)) (hN : N ≤ 10000000) : xx_Op yX0_poorest cX0_poorest 3 (some .int) 6 0 0 (fun w => [.ref (w.1 0)]) s H u (some (.int (op_poorest H (mm_a s 45)))) (s) := by
  refine xx_Op.of (by decide +kernel) (fun _ => Nat.le_of_ble_eq_true rfl) (fun G w h0 hW hX hH => ?_)
  have hX0 := hX
  have hs : xx_same w h0 h0 := xx_same.rf
  obtain ⟨tl, te, cap, m9, f9, tn, nm9, c9, mo9, D9, hq⟩ := hH
  show AW G (aw_rm 6 0 0) yX0_poorest cX0_poorest 3 (some .int) (aw_N G (xx_PoC G w h0 (some (.int (op_poorest H (mm_a s 45)))) (s)) 0 0) 0 0 h0 0 [(0, .ref (w.1 0))] []
  have hs1 : 1 ≤ sp_hs H := hOK.1.1; have hs20 : sp_hs H ≤ 20 := hOK.1.2; have hn : sp_hn H ≤ 8 := hOK.2.1; have hlv : ∀ t, t < 8 → sp_lv H t ≤ 20 := fun t ht => (hOK.2.2.1 t ht).1; have hsg : ∀ t, t < 8 → sp_sg8 H t ≤ 40 := fun t ht => (hOK.2.2.1 t ht).2.1; have hhv : ∀ t, t < 8 → sp_hv H t ≤ 9 := fun t ht => (hOK.2.2.1 t ht).2.2.1; have how : ∀ t, t < 8 → sp_ow H t ≤ 999 := fun t ht => (hOK.2.2.1 t ht).2.2.2.1; have hfl : ∀ t, t < 8 → sp_fl H t ≤ 100 := fun t ht => (hOK.2.2.1 t ht).2.2.2.2
  have hb : ∀ t, t < 8 → mm_a s 45 t ≤ 40 := fun t ht => (hA.1 t ht).1; have hp : ∀ t, t < 8 → mm_a s 45 (8 + t) ≤ 9999 := fun t ht => (hA.1 t ht).2.1; have hd : ∀ t, t < 8 → mm_a s 45 (16 + t) ≤ N := fun t ht => (hA.1 t ht).2.2; have h24 : mm_a s 45 24 ≤ N := hA.2.1; have h25 : mm_a s 45 25 ≤ 20 := hA.2.2.1; have h26 : mm_a s 45 26 ≤ N := hA.2.2.2.1; have h27 : mm_a s 45 27 ≤ 999 := hA.2.2.2.2
  have le : ∀ k, sp_arg (sp_lack H (mm_a s 45)) k ≤ k := by
    intro k
    induction k with
    | zero => exact Nat.le_refl _
    | succ k ih => unfold sp_arg; split <;> omega
  have lb : ∀ k, k < 8 → sp_lack H (mm_a s 45) k < 2147483648 := fun k hk => by
    have q1 := how k hk
    have q2 := hd k hk
    have : sp_lack H (mm_a s 45) k ≤ sp_ow H k + mm_a s 45 (16 + k) := Nat.sub_le _ _
    omega
  have loop : ∀ (d k : Nat) (h : aw_H), sp_hn H - k = d → k ≤ sp_hn H → XC G w h s → xx_same w h0 h → AW G (aw_rm 6 0 0) yX0_poorest cX0_poorest 3 (some .int) (aw_N G (xx_PoC G w h0 (some (.int (op_poorest H (mm_a s 45)))) (s)) 0 0) 0 0 (h) 4 [(0, .ref (w.1 0)), (1, .int (sp_cv (sp_arg (sp_lack H (mm_a s 45)) k))), (2, .int (nI k))] [] := by
    intro d
    induction d using Nat.strongRecOn with
    | _ d ih =>
      intro k h hd9 hk hX hs
      by_cases hk9 : k < sp_hn H
      · have lek := le k
        have eS : sp_arg (sp_lack H (mm_a s 45)) (k + 1) = if sp_arg (sp_lack H (mm_a s 45)) k = 0 ∨ sp_lack H (mm_a s 45) (sp_arg (sp_lack H (mm_a s 45)) k - 1) < sp_lack H (mm_a s 45) k then k + 1 else sp_arg (sp_lack H (mm_a s 45)) k := rfl
        have next : ∀ (h : aw_H) (b : Nat), b = sp_arg (sp_lack H (mm_a s 45)) (k + 1) → XC G w h s → xx_same w h0 h → AW G (aw_rm 6 0 0) yX0_poorest cX0_poorest 3 (some .int) (aw_N G (xx_PoC G w h0 (some (.int (op_poorest H (mm_a s 45)))) (s)) 0 0) 0 0 (h) 31 [(0, .ref (w.1 0)), (1, .int (sp_cv b)), (2, .int (nI k))] [] := by
          intro h b eb hX hs
          subst eb
          refine aw_iincN (b := 1) dX0_poorest_31 rfl rfl (by decide) rfl rfl ?_
          refine aw_goto (tgt := 4) dX0_poorest_34 (by decide) ?_
          exact ih (sp_hn H - (k + 1)) (by omega) (k + 1) h rfl (by omega) hX hs
        have l1 := lb k (by omega)
        generalize hb9 : sp_arg (sp_lack H (mm_a s 45)) k = b at *
        rcases (show b = 0 ∨ ∃ j, b = j + 1 by cases b; exact Or.inl rfl; exact Or.inr ⟨_, rfl⟩) with rfl | ⟨j, rfl⟩
        ·
          refine aw_iload_n dX0_poorest_4 rfl ?_
          refine aw_aload_n dX0_poorest_5 rfl ?_
          refine xx_call0 dX0_poorest_6 sX0_91 rfl hW hX (hq.mv hs hX0).xh hs xo_many rfl (hX.1 0 (by decide)) rfl rfl ⟨Nat.le_of_ble_eq_true rfl, Nat.le_of_ble_eq_true rfl⟩ (by exact Nat.le_of_ble_eq_true rfl) (fun h hX hs => ?_)
          refine aw_icmp_geN (tgt := 37) dX0_poorest_9 (by decide) (by omega) (by omega) (fun c_9 => by exfalso; omega) (fun c_9 => ?_)
          refine aw_iload_n dX0_poorest_12 rfl ?_
          refine aw_if_lt (tgt := 29) dX0_poorest_13 (by decide) (fun c_13 => ?_) (fun c_13 => by exfalso; exact c_13 (by decide))
          refine aw_iload_n dX0_poorest_29 rfl ?_
          refine aw_istore_n dX0_poorest_30 (by decide) rfl rfl ?_
          exact AW_ls (by rw [← sp_cv_s k]; rfl) (next h (k + 1) (by rw [eS, if_pos (Or.inl rfl)]) hX hs)
        · have l2 := lb j (by omega)
          rw [sp_cv_s]
          rw [show j + 1 - 1 = j from rfl] at eS
          refine aw_iload_n dX0_poorest_4 rfl ?_
          refine aw_aload_n dX0_poorest_5 rfl ?_
          refine xx_call0 dX0_poorest_6 sX0_91 rfl hW hX (hq.mv hs hX0).xh hs xo_many rfl (hX.1 0 (by decide)) rfl rfl ⟨Nat.le_of_ble_eq_true rfl, Nat.le_of_ble_eq_true rfl⟩ (by exact Nat.le_of_ble_eq_true rfl) (fun h hX hs => ?_)
          refine aw_icmp_geN (tgt := 37) dX0_poorest_9 (by decide) (by omega) (by omega) (fun c_9 => by exfalso; omega) (fun c_9 => ?_)
          refine aw_iload_n dX0_poorest_12 rfl ?_
          refine aw_if_ltN (tgt := 29) dX0_poorest_13 (by decide) (by omega) ?_
          refine aw_aload_n dX0_poorest_16 rfl ?_
          refine aw_iload_n dX0_poorest_17 rfl ?_
          refine xx_call0 dX0_poorest_18 sX0_204 rfl hW hX (hq.mv hs hX0).xh hs (xo_lack hOK hA hN hk9) rfl (hX.1 0 (by decide)) rfl rfl ⟨Nat.le_of_ble_eq_true rfl, Nat.le_of_ble_eq_true rfl⟩ (by exact Nat.le_of_ble_eq_true rfl) (fun h hX hs => ?_)
          refine aw_aload_n dX0_poorest_21 rfl ?_
          refine aw_iload_n dX0_poorest_22 rfl ?_
          refine xx_call0 dX0_poorest_23 sX0_204 rfl hW hX (hq.mv hs hX0).xh hs (xo_lack hOK hA hN (by omega)) rfl (hX.1 0 (by decide)) rfl rfl ⟨Nat.le_of_ble_eq_true rfl, Nat.le_of_ble_eq_true rfl⟩ (by exact Nat.le_of_ble_eq_true rfl) (fun h hX hs => ?_)
          refine aw_icmp_leN (tgt := 31) dX0_poorest_26 (by decide) (by omega) (by omega) (fun c_26 => ?_) (fun c_26 => ?_)
          · by_cases z : sp_lack H (mm_a s 45) j < sp_lack H (mm_a s 45) k
            · refine AW_ls ?_ (next h (k + 1) (by rw [eS, if_pos (Or.inr z)]) hX hs)
              first
                | exact absurd z (by omega)
                | (rw [sp_cv_s]; rfl)
            · refine AW_ls ?_ (next h (j + 1) (by rw [eS, if_neg (by omega)]) hX hs)
              first
                | (rw [sp_cv_s]; done)
                | (rw [sp_cv_s]; rfl)
                | (exfalso; omega)
          · refine aw_iload_n dX0_poorest_29 rfl ?_
            refine aw_istore_n dX0_poorest_30 (by decide) rfl rfl ?_
            by_cases z : sp_lack H (mm_a s 45) j < sp_lack H (mm_a s 45) k
            · refine AW_ls ?_ (next h (k + 1) (by rw [eS, if_pos (Or.inr z)]) hX hs)
              first
                | exact absurd z (by omega)
                | (rw [sp_cv_s]; rfl)
            · refine AW_ls ?_ (next h (j + 1) (by rw [eS, if_neg (by omega)]) hX hs)
              first
                | (rw [sp_cv_s]; done)
                | (rw [sp_cv_s]; rfl)
                | (exfalso; omega)
      ·
        refine aw_iload_n dX0_poorest_4 rfl ?_
        refine aw_aload_n dX0_poorest_5 rfl ?_
        refine xx_call0 dX0_poorest_6 sX0_91 rfl hW hX (hq.mv hs hX0).xh hs xo_many rfl (hX.1 0 (by decide)) rfl rfl ⟨Nat.le_of_ble_eq_true rfl, Nat.le_of_ble_eq_true rfl⟩ (by exact Nat.le_of_ble_eq_true rfl) (fun h hX hs => ?_)
        refine aw_icmp_geN (tgt := 37) dX0_poorest_9 (by decide) (by omega) (by omega) (fun c_9 => ?_) (fun c_9 => by exfalso; omega)
        refine aw_iload_n dX0_poorest_37 rfl ?_
        refine aw_ireturn dX0_poorest_38 rfl ?_
        exact ⟨by rw [op_poorest, show sp_hn H = k by omega], _, mm_core.rf, hX, hs⟩
  refine aw_iconst (v := -1) dX0_poorest_0 rfl ?_
  refine aw_istore_n dX0_poorest_1 (by decide) rfl rfl ?_
  refine aw_iconst (v := nI 0) dX0_poorest_2 rfl ?_
  refine aw_istore_n dX0_poorest_3 (by decide) rfl rfl ?_
  exact loop _ 0 h0 rfl (Nat.zero_le _) hX hs
set_option maxHeartbeats 4000000 in
theorem xo_law {s : mm_S} {H : sp_H} {u : Nat} {z : Int32} {N : Nat} (hOK : sp_okH H) (hA : sp_okA N (mm_a s 45)) (hN : N ≤ 10000000) : xx_Op yX0_law cX0_law 4 (some .int) 5 0 0 (fun w => [.ref (w.1 0), .int (z)]) s H u (some (.int (op_law H (mm_a s 45) z))) (s) := by
  refine xx_Op.of (by decide +kernel) (fun _ => Nat.le_of_ble_eq_true rfl) (fun G w h0 hW hX hH => ?_)
  have hX0 := hX
  have hs : xx_same w h0 h0 := xx_same.rf
  obtain ⟨tl, te, cap, m9, f9, tn, nm9, c9, mo9, D9, hq⟩ := hH
  show AW G (aw_rm 5 0 0) yX0_law cX0_law 4 (some .int) (aw_N G (xx_PoC G w h0 (some (.int (op_law H (mm_a s 45) z))) (s)) 0 0) 0 0 h0 0 [(0, .ref (w.1 0)), (1, .int (z))] []
  have hs1 : 1 ≤ sp_hs H := hOK.1.1; have hs20 : sp_hs H ≤ 20 := hOK.1.2; have hn : sp_hn H ≤ 8 := hOK.2.1; have hlv : ∀ t, t < 8 → sp_lv H t ≤ 20 := fun t ht => (hOK.2.2.1 t ht).1; have hsg : ∀ t, t < 8 → sp_sg8 H t ≤ 40 := fun t ht => (hOK.2.2.1 t ht).2.1; have hhv : ∀ t, t < 8 → sp_hv H t ≤ 9 := fun t ht => (hOK.2.2.1 t ht).2.2.1; have how : ∀ t, t < 8 → sp_ow H t ≤ 999 := fun t ht => (hOK.2.2.1 t ht).2.2.2.1; have hfl : ∀ t, t < 8 → sp_fl H t ≤ 100 := fun t ht => (hOK.2.2.1 t ht).2.2.2.2
  have hb : ∀ t, t < 8 → mm_a s 45 t ≤ 40 := fun t ht => (hA.1 t ht).1; have hp : ∀ t, t < 8 → mm_a s 45 (8 + t) ≤ 9999 := fun t ht => (hA.1 t ht).2.1; have hd : ∀ t, t < 8 → mm_a s 45 (16 + t) ≤ N := fun t ht => (hA.1 t ht).2.2; have h24 : mm_a s 45 24 ≤ N := hA.2.1; have h25 : mm_a s 45 25 ≤ 20 := hA.2.2.1; have h26 : mm_a s 45 26 ≤ N := hA.2.2.2.1; have h27 : mm_a s 45 27 ≤ 999 := hA.2.2.2.2
  have em : (-999 : Int32).toInt = -999 := rfl
  have ep : (nI 999).toInt = 999 := rfl
  have loop : -999 ≤ z.toInt ∧ z.toInt ≤ 999 → ∀ (d k : Nat) (h : aw_H), sp_hn H - k = d → k ≤ sp_hn H → XC G w h s → xx_same w h0 h → AW G (aw_rm 5 0 0) yX0_law cX0_law 4 (some .int) (aw_N G (xx_PoC G w h0 (some (.int (op_law H (mm_a s 45) z))) (s)) 0 0) 0 0 (h) 19 [(0, .ref (w.1 0)), (1, .int z), (2, .int (nI (sp_sum (fun t => aw_t (mm_a s 45 (8 + t) < sp_own H z.toInt t + mm_a s 45 (16 + t))) k))), (3, .int (nI k))] [] := by
    intro hz d
    induction d using Nat.strongRecOn with
    | _ d ih =>
      intro k h hd9 hk hX hs
      by_cases hk9 : k < sp_hn H
      · have q1 := how k (by omega)
        have q2 := hd k (by omega)
        have q3 := hp k (by omega)
        have ea := aw_addz (a := sp_ow H k) (z := z) (by omega) (by omega) (by omega)
        have eo : (nI (sp_ow H k) + z).toNatClampNeg = sp_own H z.toInt k := by
          show (nI (sp_ow H k) + z).toInt.toNat = _
          rw [ea]
          rfl
        have ob : sp_own H z.toInt k ≤ 2000 := by unfold sp_own; omega
        have el : sp_lk H (mm_a s 45) k z = sp_own H z.toInt k + mm_a s 45 (16 + k) - mm_a s 45 (8 + k) := by unfold sp_lk; rw [eo]
        have next : ∀ (h : aw_H) (v : Nat), v = sp_sum (fun t => aw_t (mm_a s 45 (8 + t) < sp_own H z.toInt t + mm_a s 45 (16 + t))) (k + 1) → XC G w h s → xx_same w h0 h → AW G (aw_rm 5 0 0) yX0_law cX0_law 4 (some .int) (aw_N G (xx_PoC G w h0 (some (.int (op_law H (mm_a s 45) z))) (s)) 0 0) 0 0 (h) 46 [(0, .ref (w.1 0)), (1, .int z), (2, .int (nI v)), (3, .int (nI k))] [] := by
          intro h v ev hX hs
          subst ev
          refine aw_iincN (b := 1) dX0_law_46 rfl rfl (by decide) rfl rfl ?_
          refine aw_goto (tgt := 19) dX0_law_49 (by decide) ?_
          exact ih (sp_hn H - (k + 1)) (by omega) (k + 1) h rfl (by omega) hX hs
        refine aw_iload_n dX0_law_19 rfl ?_
        refine aw_aload_n dX0_law_20 rfl ?_
        refine xx_call0 dX0_law_21 sX0_91 rfl hW hX (hq.mv hs hX0).xh hs xo_many rfl (hX.1 0 (by decide)) rfl rfl ⟨Nat.le_of_ble_eq_true rfl, Nat.le_of_ble_eq_true rfl⟩ (by exact Nat.le_of_ble_eq_true rfl) (fun h hX hs => ?_)
        refine aw_icmp_geN (tgt := 52) dX0_law_24 (by decide) (by omega) (by omega) (fun c_24 => by exfalso; omega) (fun c_24 => ?_)
        refine aw_aload_n dX0_law_27 rfl ?_
        refine aw_get dX0_law_28 fX0_28 rfl (hX.1 0 (by decide)) (by rfl) ?_
        refine aw_aload_n dX0_law_31 rfl ?_
        refine aw_get dX0_law_32 fX0_19 rfl (hX.1 0 (by decide)) (by rfl) ?_
        refine aw_iload_n dX0_law_35 rfl ?_
        refine aw_iload_n dX0_law_36 rfl ?_
        refine xx_call0 dX0_law_37 sX0_184 rfl hW hX (hq.mv hs hX0).xh hs ((xs_lack (i := 0) (t := k) (m := z) (by decide) hn hk9 (by rw [eo]; show sp_own H z.toInt k + mm_a s 45 (16 + k) < _; omega) (by show mm_a s 45 (8 + k) < _; omega)).eqv (r' := some (.int (nI (sp_own H z.toInt k + mm_a s 45 (16 + k) - mm_a s 45 (8 + k))))) (congrArg (fun x => some (Value.int (nI x))) el) rfl) rfl (hX.st (i := 0) (by decide)) rfl rfl ⟨Nat.le_of_ble_eq_true rfl, Nat.le_of_ble_eq_true rfl⟩ (by exact Nat.le_of_ble_eq_true rfl) (fun h hX hs => ?_)
        refine aw_if_leN (tgt := 46) dX0_law_40 (by decide) (by omega) (fun c_40 => ?_) (fun c_40 => ?_)
        · refine next h _ ?_ hX hs
          show _ = sp_sum _ k + aw_t (mm_a s 45 (8 + k) < sp_own H z.toInt k + mm_a s 45 (16 + k))
          first
            | rw [aw_t1 (by omega)]
            | rw [aw_t0 (by omega), Nat.add_zero]
        · refine aw_iincN (b := 1) dX0_law_43 rfl rfl (by decide) rfl rfl ?_
          refine next h _ ?_ hX hs
          show _ = sp_sum _ k + aw_t (mm_a s 45 (8 + k) < sp_own H z.toInt k + mm_a s 45 (16 + k))
          first
            | rw [aw_t1 (by omega)]
            | rw [aw_t0 (by omega), Nat.add_zero]
      ·
        refine aw_iload_n dX0_law_19 rfl ?_
        refine aw_aload_n dX0_law_20 rfl ?_
        refine xx_call0 dX0_law_21 sX0_91 rfl hW hX (hq.mv hs hX0).xh hs xo_many rfl (hX.1 0 (by decide)) rfl rfl ⟨Nat.le_of_ble_eq_true rfl, Nat.le_of_ble_eq_true rfl⟩ (by exact Nat.le_of_ble_eq_true rfl) (fun h hX hs => ?_)
        refine aw_icmp_geN (tgt := 52) dX0_law_24 (by decide) (by omega) (by omega) (fun c_24 => ?_) (fun c_24 => by exfalso; omega)
        refine aw_iload_n dX0_law_52 rfl ?_
        refine aw_ireturn dX0_law_53 rfl ?_
        exact ⟨by rw [op_law, aw_if1 hz, show sp_hn H = k by omega], _, mm_core.rf, hX, hs⟩
  refine aw_iload_n dX0_law_0 rfl ?_
  refine aw_sipush (v := -999) dX0_law_1 rfl ?_
  refine aw_sipush (v := nI 999) dX0_law_4 rfl ?_
  refine aw_callP (r := _) dX0_law_7 sX0_155 rfl (xp_isIn) rfl rfl ⟨Nat.le_of_ble_eq_true rfl, Nat.le_of_ble_eq_true rfl⟩ (Nat.le_of_ble_eq_true rfl) ?_
  refine aw_if_neB (tgt := 15) dX0_law_10 (by decide) (fun c_10 => ?_) (fun c_10 => ?_)
  · refine aw_iconst (v := nI 0) dX0_law_15 rfl ?_
    refine aw_istore_n dX0_law_16 (by decide) rfl rfl ?_
    refine aw_iconst (v := nI 0) dX0_law_17 rfl ?_
    refine aw_istore_n dX0_law_18 (by decide) rfl rfl ?_
    exact loop (by omega) _ 0 h0 rfl (Nat.zero_le _) hX hs
  · refine aw_iconst (v := -1) dX0_law_13 rfl ?_
    refine aw_ireturn dX0_law_14 rfl ?_
    exact ⟨by rw [op_law, aw_if0 (show ¬ (-999 ≤ z.toInt ∧ z.toInt ≤ 999) by omega)], _, mm_core.rf, hX, hs⟩
set_option maxHeartbeats 4000000 in
theorem xo_tenant {s : mm_S} {H : sp_H} {u : Nat} {t q : Int32} {N : Nat} (hOK : sp_okH H) (hA : sp_okA N (mm_a s 45)) (hN : N ≤ 10000000) : xx_Op yX0_tenant cX0_tenant 4 (some .int) 6 0 0 (fun w => [.ref (w.1 0), .int (t), .int (q)]) s H u (some (.int (op_tenant H (mm_a s 45) t q))) (s) := by
  refine xx_Op.of (by decide +kernel) (fun _ => Nat.le_of_ble_eq_true rfl) (fun G w h0 hW hX hH => ?_)
  have hX0 := hX
  have hs : xx_same w h0 h0 := xx_same.rf
  obtain ⟨tl, te, cap, m9, f9, tn, nm9, c9, mo9, D9, hq⟩ := hH
  show AW G (aw_rm 6 0 0) yX0_tenant cX0_tenant 4 (some .int) (aw_N G (xx_PoC G w h0 (some (.int (op_tenant H (mm_a s 45) t q))) (s)) 0 0) 0 0 h0 0 [(0, .ref (w.1 0)), (1, .int (t)), (2, .int (q))] []
  have hs1 : 1 ≤ sp_hs H := hOK.1.1; have hs20 : sp_hs H ≤ 20 := hOK.1.2; have hn : sp_hn H ≤ 8 := hOK.2.1; have hlv : ∀ t, t < 8 → sp_lv H t ≤ 20 := fun t ht => (hOK.2.2.1 t ht).1; have hsg : ∀ t, t < 8 → sp_sg8 H t ≤ 40 := fun t ht => (hOK.2.2.1 t ht).2.1; have hhv : ∀ t, t < 8 → sp_hv H t ≤ 9 := fun t ht => (hOK.2.2.1 t ht).2.2.1; have how : ∀ t, t < 8 → sp_ow H t ≤ 999 := fun t ht => (hOK.2.2.1 t ht).2.2.2.1; have hfl : ∀ t, t < 8 → sp_fl H t ≤ 100 := fun t ht => (hOK.2.2.1 t ht).2.2.2.2
  have hb : ∀ t, t < 8 → mm_a s 45 t ≤ 40 := fun t ht => (hA.1 t ht).1; have hp : ∀ t, t < 8 → mm_a s 45 (8 + t) ≤ 9999 := fun t ht => (hA.1 t ht).2.1; have hd : ∀ t, t < 8 → mm_a s 45 (16 + t) ≤ N := fun t ht => (hA.1 t ht).2.2; have h24 : mm_a s 45 24 ≤ N := hA.2.1; have h25 : mm_a s 45 25 ≤ 20 := hA.2.2.1; have h26 : mm_a s 45 26 ≤ N := hA.2.2.2.1; have h27 : mm_a s 45 27 ≤ 999 := hA.2.2.2.2
  by_cases eT : sp_isT H t
  · have z2 := eT
    obtain ⟨t', ht, rfl, t1, t2⟩ := aw_ofN z2.1
    have ht9 : t' < sp_hn H := by have := eT.2; omega
    refine aw_aload_n dX0_tenant_0 rfl ?_
    refine aw_iload_n dX0_tenant_1 rfl ?_
    refine xx_call0 dX0_tenant_2 sX0_188 rfl hW hX (hq.mv hs hX0).xh hs (xo_isT hn) rfl (hX.1 0 (by decide)) rfl rfl ⟨Nat.le_of_ble_eq_true rfl, Nat.le_of_ble_eq_true rfl⟩ (by exact Nat.le_of_ble_eq_true rfl) (fun h hX hs => ?_)
    refine aw_if_neB (tgt := 10) dX0_tenant_5 (by decide) (fun c_5 => ?_) (fun c_5 => by exfalso; exact c_5 eT)
    refine aw_aload_n dX0_tenant_10 rfl ?_
    refine aw_get dX0_tenant_11 fX0_19 rfl (hX.1 0 (by decide)) (by rfl) ?_
    refine aw_get dX0_tenant_14 fX0_95 rfl (hq.mv hs hX0).1 (by rfl) ?_
    refine aw_iload_n dX0_tenant_17 rfl ?_
    refine xx_get dX0_tenant_18 sX0_98 rfl (hq.mv hs hX0) (by omega) ⟨Nat.le_of_ble_eq_true rfl, Nat.le_of_ble_eq_true rfl⟩ (by exact Nat.le_of_ble_eq_true rfl) ?_
    refine aw_castS (y := yX0_tenant) dX0_tenant_21 q378 aw_cl7 ((hq.mv hs hX0).ten (by omega)) ?_
    refine aw_astore_n dX0_tenant_24 (by decide) rfl rfl ?_
    refine aw_iload_n dX0_tenant_25 rfl ?_
    by_cases e_0 : q = nI 0
    · subst e_0
      refine aw_tableIn (off := 50) (tgt := 76) dX0_tenant_26 (by decide) (by decide) (by decide) (by decide) ?_
      refine aw_aload_n dX0_tenant_76 rfl ?_
      refine aw_get dX0_tenant_77 fX0_192 rfl ((hq.mv hs hX0).ten (by omega)) (by rfl) ?_
      refine aw_ireturn dX0_tenant_80 rfl ?_
      refine ⟨?_, _, mm_core.rf, hX, hs⟩
      rw [op_tenant, aw_if1 eT, t2]
      rfl
    by_cases e_1 : q = nI 1
    · subst e_1
      refine aw_tableIn (off := 55) (tgt := 81) dX0_tenant_26 (by decide) (by decide) (by decide) (by decide) ?_
      refine aw_aload_n dX0_tenant_81 rfl ?_
      refine aw_get dX0_tenant_82 fX0_104 rfl ((hq.mv hs hX0).ten (by omega)) (by rfl) ?_
      refine aw_ireturn dX0_tenant_85 rfl ?_
      refine ⟨?_, _, mm_core.rf, hX, hs⟩
      rw [op_tenant, aw_if1 eT, t2]
      rfl
    by_cases e_2 : q = nI 2
    · subst e_2
      refine aw_tableIn (off := 60) (tgt := 86) dX0_tenant_26 (by decide) (by decide) (by decide) (by decide) ?_
      refine aw_aload_n dX0_tenant_86 rfl ?_
      refine aw_get dX0_tenant_87 fX0_195 rfl ((hq.mv hs hX0).ten (by omega)) (by rfl) ?_
      refine aw_ireturn dX0_tenant_90 rfl ?_
      refine ⟨?_, _, mm_core.rf, hX, hs⟩
      rw [op_tenant, aw_if1 eT, t2]
      rfl
    by_cases e_3 : q = nI 3
    · subst e_3
      refine aw_tableIn (off := 65) (tgt := 91) dX0_tenant_26 (by decide) (by decide) (by decide) (by decide) ?_
      refine aw_aload_n dX0_tenant_91 rfl ?_
      refine aw_get dX0_tenant_92 fX0_198 rfl ((hq.mv hs hX0).ten (by omega)) (by rfl) ?_
      refine aw_ireturn dX0_tenant_95 rfl ?_
      refine ⟨?_, _, mm_core.rf, hX, hs⟩
      rw [op_tenant, aw_if1 eT, t2]
      rfl
    by_cases e_4 : q = nI 4
    · subst e_4
      refine aw_tableIn (off := 70) (tgt := 96) dX0_tenant_26 (by decide) (by decide) (by decide) (by decide) ?_
      refine aw_aload_n dX0_tenant_96 rfl ?_
      refine aw_get dX0_tenant_97 fX0_201 rfl ((hq.mv hs hX0).ten (by omega)) (by rfl) ?_
      refine aw_ireturn dX0_tenant_100 rfl ?_
      refine ⟨?_, _, mm_core.rf, hX, hs⟩
      rw [op_tenant, aw_if1 eT, t2]
      rfl
    by_cases e_5 : q = nI 5
    · subst e_5
      refine aw_tableIn (off := 75) (tgt := 101) dX0_tenant_26 (by decide) (by decide) (by decide) (by decide) ?_
      refine aw_aload_n dX0_tenant_101 rfl ?_
      refine aw_get dX0_tenant_102 fX0_28 rfl (hX.1 0 (by decide)) (by rfl) ?_
      refine aw_get dX0_tenant_105 fX0_88 rfl (hX.st (i := 0) (by decide)) (by rfl) ?_
      refine aw_iload_n dX0_tenant_108 rfl ?_
      refine xx_ialdS (i := 0) (b := 0) dX0_tenant_109 hX (by decide) (by decide) (by omega) ?_
      try simp only [Nat.reduceMul, Nat.reduceAdd, Nat.zero_add]
      refine aw_ireturn dX0_tenant_110 rfl ?_
      refine ⟨?_, _, mm_core.rf, hX, hs⟩
      rw [op_tenant, aw_if1 eT, t2]
      rfl
    by_cases e_6 : q = nI 6
    · subst e_6
      refine aw_tableIn (off := 85) (tgt := 111) dX0_tenant_26 (by decide) (by decide) (by decide) (by decide) ?_
      refine aw_aload_n dX0_tenant_111 rfl ?_
      refine aw_get dX0_tenant_112 fX0_28 rfl (hX.1 0 (by decide)) (by rfl) ?_
      refine aw_get dX0_tenant_115 fX0_107 rfl (hX.st (i := 0) (by decide)) (by rfl) ?_
      refine aw_iload_n dX0_tenant_118 rfl ?_
      refine xx_ialdS (i := 0) (b := 1) dX0_tenant_119 hX (by decide) (by decide) (by omega) ?_
      try simp only [Nat.reduceMul, Nat.reduceAdd, Nat.zero_add]
      refine aw_ireturn dX0_tenant_120 rfl ?_
      refine ⟨?_, _, mm_core.rf, hX, hs⟩
      rw [op_tenant, aw_if1 eT, t2]
      rfl
    by_cases e_7 : q = nI 7
    · subst e_7
      refine aw_tableIn (off := 95) (tgt := 121) dX0_tenant_26 (by decide) (by decide) (by decide) (by decide) ?_
      refine aw_aload_n dX0_tenant_121 rfl ?_
      refine aw_get dX0_tenant_122 fX0_28 rfl (hX.1 0 (by decide)) (by rfl) ?_
      refine aw_get dX0_tenant_125 fX0_110 rfl (hX.st (i := 0) (by decide)) (by rfl) ?_
      refine aw_iload_n dX0_tenant_128 rfl ?_
      refine xx_ialdS (i := 0) (b := 2) dX0_tenant_129 hX (by decide) (by decide) (by omega) ?_
      try simp only [Nat.reduceMul, Nat.reduceAdd, Nat.zero_add]
      refine aw_ireturn dX0_tenant_130 rfl ?_
      refine ⟨?_, _, mm_core.rf, hX, hs⟩
      rw [op_tenant, aw_if1 eT, t2]
      rfl
    by_cases e_8 : q = nI 8
    · subst e_8
      refine aw_tableIn (off := 105) (tgt := 131) dX0_tenant_26 (by decide) (by decide) (by decide) (by decide) ?_
      refine aw_aload_n dX0_tenant_131 rfl ?_
      refine aw_iload_n dX0_tenant_132 rfl ?_
      refine xx_call0 dX0_tenant_133 sX0_204 rfl hW hX (hq.mv hs hX0).xh hs (xo_lack hOK hA hN ht9) rfl (hX.1 0 (by decide)) rfl rfl ⟨Nat.le_of_ble_eq_true rfl, Nat.le_of_ble_eq_true rfl⟩ (by exact Nat.le_of_ble_eq_true rfl) (fun h hX hs => ?_)
      refine aw_ireturn dX0_tenant_136 rfl ?_
      refine ⟨?_, _, mm_core.rf, hX, hs⟩
      rw [op_tenant, aw_if1 eT, t2]
      rfl
    refine aw_tableOut (tgt := 137) dX0_tenant_26 (by have q0 := lv_neT e_0 (a := 0) (by decide); have q1 := lv_neT e_1 (a := 1) (by decide); have q2 := lv_neT e_2 (a := 2) (by decide); have q3 := lv_neT e_3 (a := 3) (by decide); have q4 := lv_neT e_4 (a := 4) (by decide); have q5 := lv_neT e_5 (a := 5) (by decide); have q6 := lv_neT e_6 (a := 6) (by decide); have q7 := lv_neT e_7 (a := 7) (by decide); have q8 := lv_neT e_8 (a := 8) (by decide); omega) (by decide) ?_
    refine aw_iconst (v := -1) dX0_tenant_137 rfl ?_
    refine aw_ireturn dX0_tenant_138 rfl ?_
    refine ⟨?_, _, mm_core.rf, hX, hs⟩
    rw [op_tenant, aw_if1 eT, if_neg (lv_neT e_0 (a := 0) rfl), if_neg (lv_neT e_1 (a := 1) rfl), if_neg (lv_neT e_2 (a := 2) rfl), if_neg (lv_neT e_3 (a := 3) rfl), if_neg (lv_neT e_4 (a := 4) rfl), if_neg (lv_neT e_5 (a := 5) rfl), if_neg (lv_neT e_6 (a := 6) rfl), if_neg (lv_neT e_7 (a := 7) rfl), if_neg (lv_neT e_8 (a := 8) rfl)]
  ·
    refine aw_aload_n dX0_tenant_0 rfl ?_
    refine aw_iload_n dX0_tenant_1 rfl ?_
    refine xx_call0 dX0_tenant_2 sX0_188 rfl hW hX (hq.mv hs hX0).xh hs (xo_isT hn) rfl (hX.1 0 (by decide)) rfl rfl ⟨Nat.le_of_ble_eq_true rfl, Nat.le_of_ble_eq_true rfl⟩ (by exact Nat.le_of_ble_eq_true rfl) (fun h hX hs => ?_)
    refine aw_if_neB (tgt := 10) dX0_tenant_5 (by decide) (fun c_5 => by exfalso; exact eT c_5) (fun c_5 => ?_)
    refine aw_iconst (v := -1) dX0_tenant_8 rfl ?_
    refine aw_ireturn dX0_tenant_9 rfl ?_
    exact ⟨by rw [op_tenant, aw_if0 eT], _, mm_core.rf, hX, hs⟩
set_option maxHeartbeats 4000000 in
theorem xo_worth {s : mm_S} {H : sp_H} {u : Nat} {t a c nt q : Int32} {N : Nat} (hOK : sp_okH H) (hA : sp_okA N (mm_a s 45)) : xx_Op yX0_worth cX0_worth 6 (some .int) 603 0 0 (fun w => [.ref (w.1 0), .int (t), .int (a), .int (c), .int (nt), .int (q)]) s H u (some (.int (op_worth H (mm_a s 45) t a c nt q))) (s) := by
  refine xx_Op.of (by decide +kernel) (fun _ => Nat.le_of_ble_eq_true rfl) (fun G w h0 hW hX hH => ?_)
  have hX0 := hX
  have hs : xx_same w h0 h0 := xx_same.rf
  obtain ⟨tl, te, cap, m9, f9, tn, nm9, c9, mo9, D9, hq⟩ := hH
  show AW G (aw_rm 603 0 0) yX0_worth cX0_worth 6 (some .int) (aw_N G (xx_PoC G w h0 (some (.int (op_worth H (mm_a s 45) t a c nt q))) (s)) 0 0) 0 0 h0 0 [(0, .ref (w.1 0)), (1, .int (t)), (2, .int (a)), (3, .int (c)), (4, .int (nt)), (5, .int (q))] []
  have hs1 : 1 ≤ sp_hs H := hOK.1.1; have hs20 : sp_hs H ≤ 20 := hOK.1.2; have hn : sp_hn H ≤ 8 := hOK.2.1; have hlv : ∀ t, t < 8 → sp_lv H t ≤ 20 := fun t ht => (hOK.2.2.1 t ht).1; have hsg : ∀ t, t < 8 → sp_sg8 H t ≤ 40 := fun t ht => (hOK.2.2.1 t ht).2.1; have hhv : ∀ t, t < 8 → sp_hv H t ≤ 9 := fun t ht => (hOK.2.2.1 t ht).2.2.1; have how : ∀ t, t < 8 → sp_ow H t ≤ 999 := fun t ht => (hOK.2.2.1 t ht).2.2.2.1; have hfl : ∀ t, t < 8 → sp_fl H t ≤ 100 := fun t ht => (hOK.2.2.1 t ht).2.2.2.2
  have hb : ∀ t, t < 8 → mm_a s 45 t ≤ 40 := fun t ht => (hA.1 t ht).1; have hp : ∀ t, t < 8 → mm_a s 45 (8 + t) ≤ 9999 := fun t ht => (hA.1 t ht).2.1; have hd : ∀ t, t < 8 → mm_a s 45 (16 + t) ≤ N := fun t ht => (hA.1 t ht).2.2; have h24 : mm_a s 45 24 ≤ N := hA.2.1; have h25 : mm_a s 45 25 ≤ 20 := hA.2.2.1; have h26 : mm_a s 45 26 ≤ N := hA.2.2.2.1; have h27 : mm_a s 45 27 ≤ 999 := hA.2.2.2.2
  have e0 : (nI 0).toInt = 0 := rfl
  have e1 : (nI 1).toInt = 1 := rfl
  have go : ∀ h, sp_can H (mm_a s 45) t a c nt → (0 ≤ q.toInt ∧ q.toInt ≤ 1) → XC G w h s → xx_same w h0 h → AW G (aw_rm 603 0 0) yX0_worth cX0_worth 6 (some .int) (aw_N G (xx_PoC G w h0 (some (.int (op_worth H (mm_a s 45) t a c nt q))) (s)) 0 0) 0 0 (h) 24 [(0, .ref (w.1 0)), (1, .int t), (2, .int a), (3, .int c), (4, .int nt), (5, .int q)] [] := by
    intro h hc hq9 hX hs
    obtain ⟨q', hq', eq, q1, q2⟩ := aw_ofN (x := q) hq9.1
    have hc9 := hc
    obtain ⟨t', a', c', n', rfl, rfl, rfl, rfl, g1, g2, g3, g4, g5, g6, g7, e1, e2, e3, e4⟩ := sp_can_nat hn hs20 hc9
    have fin : op_worth H (mm_a s 45) (nI t') (nI a') (sp_cv c') (nI n') q = if q' = 0 then nI (sp_cnt H (mm_a s 45) a' (sp_hvc H c') n') else nI (a' * sp_brc H c') := by
      rw [op_worth, aw_if1 ⟨hc, hq9⟩, e2, e3, e4]
      by_cases z : q' = 0
      · rw [if_pos z, if_pos (by omega)]
      · rw [if_neg z, if_neg (by omega)]
    subst eq
    refine aw_iload dX0_worth_24 rfl ?_
    refine aw_if_neN (tgt := 61) dX0_worth_26 (by decide) (by omega) (fun c_26 => ?_) (fun c_26 => ?_)
    · refine aw_iload_n dX0_worth_61 rfl ?_
      refine aw_aload_n dX0_worth_62 rfl ?_
      refine aw_get dX0_worth_63 fX0_19 rfl (hX.1 0 (by decide)) (by rfl) ?_
      refine aw_iload_n dX0_worth_66 rfl ?_
      refine xx_call0 dX0_worth_67 sX0_211 rfl hW hX (hq.mv hs hX0).xh hs (xh_brc hn hhv g5) rfl (hq.mv hs hX0).1 rfl rfl ⟨Nat.le_of_ble_eq_true rfl, Nat.le_of_ble_eq_true rfl⟩ (by exact Nat.le_of_ble_eq_true rfl) (fun h hX hs => ?_)
      refine aw_imulN dX0_worth_70 ?_
      refine aw_ireturn dX0_worth_71 rfl ?_
      refine ⟨?_, _, mm_core.rf, hX, hs⟩
      rw [fin]
      first | rw [if_neg c_26] | rw [if_pos c_26]
    · refine aw_aload_n dX0_worth_29 rfl ?_
      refine aw_get dX0_worth_30 fX0_19 rfl (hX.1 0 (by decide)) (by rfl) ?_
      refine aw_aload_n dX0_worth_33 rfl ?_
      refine aw_get dX0_worth_34 fX0_28 rfl (hX.1 0 (by decide)) (by rfl) ?_
      refine aw_iload_n dX0_worth_37 rfl ?_
      refine aw_aload_n dX0_worth_38 rfl ?_
      refine aw_get dX0_worth_39 fX0_19 rfl (hX.1 0 (by decide)) (by rfl) ?_
      refine aw_iload_n dX0_worth_42 rfl ?_
      refine xx_call0 dX0_worth_43 sX0_217 rfl hW hX (hq.mv hs hX0).xh hs (xh_hvc hn g5) rfl (hq.mv hs hX0).1 rfl rfl ⟨Nat.le_of_ble_eq_true rfl, Nat.le_of_ble_eq_true rfl⟩ (by exact Nat.le_of_ble_eq_true rfl) (fun h hX hs => ?_)
      refine aw_iload dX0_worth_46 rfl ?_
      refine aw_aload_n dX0_worth_48 rfl ?_
      refine aw_get dX0_worth_49 fX0_28 rfl (hX.1 0 (by decide)) (by rfl) ?_
      refine aw_get dX0_worth_52 fX0_113 rfl (hX.st (i := 0) (by decide)) (by rfl) ?_
      try simp only [Nat.reduceMul, Nat.reduceAdd, Nat.zero_add]
      refine xx_call0 dX0_worth_55 sX0_220 rfl hW hX (hq.mv hs hX0).xh hs (xh_cntS (i := 0) (a := a') (b := sp_hvc H c') (n := n') (by decide) (by omega)) rfl (hq.mv hs hX0).1 rfl rfl ⟨Nat.le_of_ble_eq_true rfl, Nat.le_of_ble_eq_true rfl⟩ (by exact Nat.le_of_ble_eq_true rfl) (fun h hX hs => ?_)
      refine aw_goto (tgt := 71) dX0_worth_58 (by decide) ?_
      refine aw_ireturn dX0_worth_71 rfl ?_
      refine ⟨?_, _, mm_core.rf, hX, hs⟩
      rw [fin]
      first | rw [if_neg c_26] | rw [if_pos c_26]
  have no : ¬ (sp_can H (mm_a s 45) t a c nt ∧ 0 ≤ q.toInt ∧ q.toInt ≤ 1) → op_worth H (mm_a s 45) t a c nt q = -1 := fun z => by rw [op_worth, aw_if0 z]
  refine aw_aload_n dX0_worth_0 rfl ?_
  refine aw_iload_n dX0_worth_1 rfl ?_
  refine aw_iload_n dX0_worth_2 rfl ?_
  refine aw_iload_n dX0_worth_3 rfl ?_
  refine aw_iload dX0_worth_4 rfl ?_
  refine xx_call0 dX0_worth_6 sX0_213 rfl hW hX (hq.mv hs hX0).xh hs (xo_can (dc := Classical.propDecidable _) hOK hA) rfl (hX.1 0 (by decide)) rfl rfl ⟨Nat.le_of_ble_eq_true rfl, Nat.le_of_ble_eq_true rfl⟩ (by exact Nat.le_of_ble_eq_true rfl) (fun h hX hs => ?_)
  refine aw_if_eqB (tgt := 22) dX0_worth_9 (by decide) (fun c_9 => ?_) (fun c_9 => ?_)
  · refine aw_iconst (v := -1) dX0_worth_22 rfl ?_
    refine aw_ireturn dX0_worth_23 rfl ?_
    refine ⟨?_, _, mm_core.rf, hX, hs⟩
    rw [no (fun z => by first | exact c_9 z.1 | exact c_19 (by omega))]
  · refine aw_iload dX0_worth_12 rfl ?_
    refine aw_iconst (v := nI 0) dX0_worth_14 rfl ?_
    refine aw_iconst (v := nI 1) dX0_worth_15 rfl ?_
    refine aw_callP (r := _) dX0_worth_16 sX0_155 rfl (xp_isIn) rfl rfl ⟨Nat.le_of_ble_eq_true rfl, Nat.le_of_ble_eq_true rfl⟩ (Nat.le_of_ble_eq_true rfl) ?_
    refine aw_if_neB (tgt := 24) dX0_worth_19 (by decide) (fun c_19 => ?_) (fun c_19 => ?_)
    · exact go h c_9 (by omega) hX hs
    · refine aw_iconst (v := -1) dX0_worth_22 rfl ?_
      refine aw_ireturn dX0_worth_23 rfl ?_
      refine ⟨?_, _, mm_core.rf, hX, hs⟩
      rw [no (fun z => by first | exact c_9 z.1 | exact c_19 (by omega))]

