set_option maxRecDepth 100000
/-! the component: who climbs for whom -/
theorem sp_few_k {c : Nat → Nat} {d j n : Nat} (h : sp_few c d j ≠ 0) (hn : j ≤ n) : sp_few c d n = sp_few c d j := by
  induction n with
  | zero => rw [show j = 0 by omega]
  | succ n ih =>
    by_cases e : j = n + 1
    · rw [e]
    · have e2 := ih (by omega)
      show (if sp_few c d n ≠ 0 then _ else _) = _
      rw [if_pos (by rw [e2]; exact h), e2]
set_option maxHeartbeats 4000000 in
theorem xo_en {s : mm_S} {H : sp_H} {u : Nat} {d : Nat} (hOK : sp_okH H) (hd : d < 2147483648) : xx_Met yX0_enough cX0_enough 3 (some .int) 603 0 0 (fun w => [.ref (w.1 0), .int (nI (d))]) s H u (some (.int (sp_cz (sp_few (fun a => sp_cnt H (mm_a s 45) a 0 0) d (sp_hs H))))) (s) := by
  refine xx_Met.of (by decide +kernel) (fun _ => Nat.le_of_ble_eq_true rfl) (fun G w h0 hW hX hH => ?_)
  have hX0 := hX
  have hs : xx_same w h0 h0 := xx_same.rf
  obtain ⟨tl, te, cap, m9, f9, tn, nm9, c9, mo9, D9, hq⟩ := hH
  show AW G (aw_rm 603 0 0) yX0_enough cX0_enough 3 (some .int) (aw_N G (xx_Po G w h0 (some (.int (sp_cz (sp_few (fun a => sp_cnt H (mm_a s 45) a 0 0) d (sp_hs H))))) (s)) 0 0) 0 0 h0 0 [(0, .ref (w.1 0)), (1, .int (nI (d)))] []
  have hs1 : 1 ≤ sp_hs H := hOK.1.1; have hs20 : sp_hs H ≤ 20 := hOK.1.2; have hn : sp_hn H ≤ 8 := hOK.2.1; have hlv : ∀ t, t < 8 → sp_lv H t ≤ 20 := fun t ht => (hOK.2.2.1 t ht).1; have hsg : ∀ t, t < 8 → sp_sg8 H t ≤ 40 := fun t ht => (hOK.2.2.1 t ht).2.1; have hhv : ∀ t, t < 8 → sp_hv H t ≤ 9 := fun t ht => (hOK.2.2.1 t ht).2.2.1; have how : ∀ t, t < 8 → sp_ow H t ≤ 999 := fun t ht => (hOK.2.2.1 t ht).2.2.2.1; have hfl : ∀ t, t < 8 → sp_fl H t ≤ 100 := fun t ht => (hOK.2.2.1 t ht).2.2.2.2
  obtain ⟨c, hc⟩ : ∃ c, c = (fun a => sp_cnt H (mm_a s 45) a 0 0) := ⟨_, rfl⟩
  rw [← hc]
  have loop : ∀ (m j : Nat) (h : aw_H), sp_hs H - j = m → j ≤ sp_hs H → sp_few c d j = 0 → XC G w h s → xx_same w h0 h → AW G (aw_rm 603 0 0) yX0_enough cX0_enough 3 (some .int) (aw_N G (xx_Po G w h0 (some (.int (sp_cz (sp_few c d (sp_hs H))))) s) 0 0) 0 0 h 2 [(0, .ref (w.1 0)), (1, .int (nI d)), (2, .int (nI (j + 1)))] [] := by
    intro m
    induction m using Nat.strongRecOn with
    | _ m ih =>
      intro j h hm hj hz hX hs
      by_cases hj9 : j < sp_hs H
      · have c1 : sp_cnt H (mm_a s 45) (j + 1) 0 0 = c (j + 1) := by rw [hc]
        have cb : c (j + 1) ≤ 999 := by rw [hc]; exact sp_cnt_le
        have eS : sp_few c d (j + 1) = if sp_few c d j ≠ 0 then sp_few c d j else if d ≤ c (j + 1) then j + 1 else 0 := rfl
        rw [if_neg (fun q => q hz)] at eS
        have ccn := (xh_cntS (s := s) (u := u) (i := 0) (H := H) (a := j + 1) (b := 0) (n := 0) (by decide) (by omega)).eqv (r' := some (.int (nI (c (j + 1))))) (congrArg (fun x => some (Value.int (nI x))) c1) rfl
        refine aw_iload_n dX0_enough_2 rfl ?_
        refine aw_aload_n dX0_enough_3 rfl ?_
        refine aw_get dX0_enough_4 fX0_19 rfl (hX.1 0 (by decide)) (by rfl) ?_
        refine aw_get dX0_enough_7 fX0_208 rfl (hq.mv hs hX0).1 (by rfl) ?_
        refine aw_icmp_gtN (tgt := 44) dX0_enough_10 (by decide) (by omega) (by omega) (fun c_10 => by exfalso; omega) (fun c_10 => ?_)
        refine aw_aload_n dX0_enough_13 rfl ?_
        refine aw_get dX0_enough_14 fX0_19 rfl (hX.1 0 (by decide)) (by rfl) ?_
        refine aw_aload_n dX0_enough_17 rfl ?_
        refine aw_get dX0_enough_18 fX0_28 rfl (hX.1 0 (by decide)) (by rfl) ?_
        refine aw_iload_n dX0_enough_21 rfl ?_
        refine aw_iconst (v := nI 0) dX0_enough_22 rfl ?_
        refine aw_iconst (v := nI 0) dX0_enough_23 rfl ?_
        refine aw_aload_n dX0_enough_24 rfl ?_
        refine aw_get dX0_enough_25 fX0_28 rfl (hX.1 0 (by decide)) (by rfl) ?_
        refine aw_get dX0_enough_28 fX0_113 rfl (hX.st (i := 0) (by decide)) (by rfl) ?_
        try simp only [Nat.reduceMul, Nat.reduceAdd, Nat.zero_add]
        refine xx_call0 dX0_enough_31 sX0_220 rfl hW hX (hq.mv hs hX0).xh hs ccn rfl (hq.mv hs hX0).1 rfl rfl ⟨Nat.le_of_ble_eq_true rfl, Nat.le_of_ble_eq_true rfl⟩ (by exact Nat.le_of_ble_eq_true rfl) (fun h hX hs => ?_)
        refine aw_iload_n dX0_enough_34 rfl ?_
        refine aw_icmp_geN (tgt := 44) dX0_enough_35 (by decide) (by omega) (by omega) (fun c_35 => ?_) (fun c_35 => ?_)
        · refine aw_iload_n dX0_enough_44 rfl ?_
          refine aw_aload_n dX0_enough_45 rfl ?_
          refine aw_get dX0_enough_46 fX0_19 rfl (hX.1 0 (by decide)) (by rfl) ?_
          refine aw_get dX0_enough_49 fX0_208 rfl (hq.mv hs hX0).1 (by rfl) ?_
          refine aw_icmp_gtN (tgt := 59) dX0_enough_52 (by decide) (by omega) (by omega) (fun c_52 => by exfalso; omega) (fun c_52 => ?_)
          refine aw_iload_n dX0_enough_55 rfl ?_
          refine aw_goto (tgt := 60) dX0_enough_56 (by decide) ?_
          refine aw_ireturn dX0_enough_60 rfl ?_
          refine ⟨?_, hX, hs⟩
          rw [if_pos (show d ≤ c (j + 1) by omega)] at eS
          rw [sp_few_k (j := j + 1) (by rw [eS]; exact Nat.succ_ne_zero j) (by omega), eS]
          rfl
        · refine aw_iincN (b := 1) dX0_enough_38 rfl rfl (by decide) rfl rfl ?_
          refine aw_goto (tgt := 2) dX0_enough_41 (by decide) ?_
          exact ih (sp_hs H - (j + 1)) (by omega) (j + 1) h rfl (by omega) (by rw [eS, if_neg (by omega)]) hX hs
      · obtain rfl : j = sp_hs H := by omega
        refine aw_iload_n dX0_enough_2 rfl ?_
        refine aw_aload_n dX0_enough_3 rfl ?_
        refine aw_get dX0_enough_4 fX0_19 rfl (hX.1 0 (by decide)) (by rfl) ?_
        refine aw_get dX0_enough_7 fX0_208 rfl (hq.mv hs hX0).1 (by rfl) ?_
        refine aw_icmp_gtN (tgt := 44) dX0_enough_10 (by decide) (by omega) (by omega) (fun c_10 => ?_) (fun c_10 => by exfalso; omega)
        refine aw_iload_n dX0_enough_44 rfl ?_
        refine aw_aload_n dX0_enough_45 rfl ?_
        refine aw_get dX0_enough_46 fX0_19 rfl (hX.1 0 (by decide)) (by rfl) ?_
        refine aw_get dX0_enough_49 fX0_208 rfl (hq.mv hs hX0).1 (by rfl) ?_
        refine aw_icmp_gtN (tgt := 59) dX0_enough_52 (by decide) (by omega) (by omega) (fun c_52 => ?_) (fun c_52 => by exfalso; omega)
        refine aw_iconst (v := -1) dX0_enough_59 rfl ?_
        refine aw_ireturn dX0_enough_60 rfl ?_
        refine ⟨?_, hX, hs⟩
        rw [hz]
        rfl
  refine aw_iconst (v := nI 1) dX0_enough_0 rfl ?_
  refine aw_istore_n dX0_enough_1 (by decide) rfl rfl ?_
  exact loop _ 0 h0 rfl (Nat.zero_le _) rfl hX hs
set_option maxHeartbeats 4000000 in
theorem xo_cfr {s : mm_S} {H : sp_H} {u : Nat} {b t N : Nat} (hOK : sp_okH H) (hA : sp_okA N (mm_a s 45)) (hN : N ≤ 10000000) (hb : b < sp_hn H) (ht : t < sp_hn H) : xx_Met yX0_climbsFor cX0_climbsFor 4 (some .int) 604 0 0 (fun w => [.ref (w.1 0), .int (nI (b)), .int (nI (t))]) s H u (some (.int ((if sp_cdP H (mm_a s 45) t b = true then nI (1000 - sp_pk H (mm_a s 45) t) else -1)))) (s) := by
  refine xx_Met.of (by decide +kernel) (fun _ => Nat.le_of_ble_eq_true rfl) (fun G w h0 hW hX hH => ?_)
  have hX0 := hX
  have hs : xx_same w h0 h0 := xx_same.rf
  obtain ⟨tl, te, cap, m9, f9, tn, nm9, c9, mo9, D9, hq⟩ := hH
  show AW G (aw_rm 604 0 0) yX0_climbsFor cX0_climbsFor 4 (some .int) (aw_N G (xx_Po G w h0 (some (.int ((if sp_cdP H (mm_a s 45) t b = true then nI (1000 - sp_pk H (mm_a s 45) t) else -1)))) (s)) 0 0) 0 0 h0 0 [(0, .ref (w.1 0)), (1, .int (nI (b))), (2, .int (nI (t)))] []
  have hs1 : 1 ≤ sp_hs H := hOK.1.1; have hs20 : sp_hs H ≤ 20 := hOK.1.2; have hn : sp_hn H ≤ 8 := hOK.2.1; have hlv : ∀ t, t < 8 → sp_lv H t ≤ 20 := fun t ht => (hOK.2.2.1 t ht).1; have hsg : ∀ t, t < 8 → sp_sg8 H t ≤ 40 := fun t ht => (hOK.2.2.1 t ht).2.1; have hhv : ∀ t, t < 8 → sp_hv H t ≤ 9 := fun t ht => (hOK.2.2.1 t ht).2.2.1; have how : ∀ t, t < 8 → sp_ow H t ≤ 999 := fun t ht => (hOK.2.2.1 t ht).2.2.2.1; have hfl : ∀ t, t < 8 → sp_fl H t ≤ 100 := fun t ht => (hOK.2.2.1 t ht).2.2.2.2
  have hb : ∀ t, t < 8 → mm_a s 45 t ≤ 40 := fun t ht => (hA.1 t ht).1; have hp : ∀ t, t < 8 → mm_a s 45 (8 + t) ≤ 9999 := fun t ht => (hA.1 t ht).2.1; have hd : ∀ t, t < 8 → mm_a s 45 (16 + t) ≤ N := fun t ht => (hA.1 t ht).2.2; have h24 : mm_a s 45 24 ≤ N := hA.2.1; have h25 : mm_a s 45 25 ≤ 20 := hA.2.2.1; have h26 : mm_a s 45 26 ≤ N := hA.2.2.2.1; have h27 : mm_a s 45 27 ≤ 999 := hA.2.2.2.2
  have lb := how t (by omega)
  have dt := hd t (by omega)
  have bb := hb b (by omega)
  have ll : sp_lack H (mm_a s 45) t < 2147483648 := Nat.lt_of_le_of_lt (show sp_lack H (mm_a s 45) t ≤ sp_ow H t + mm_a s 45 (16 + t) from Nat.sub_le _ _) (by omega)
  have pk20 := sp_pk_le (A := mm_a s 45) hs20 t
  have no : ¬ (b ≠ t ∧ sp_pk H (mm_a s 45) t ≠ 0 ∧ sp_pk H (mm_a s 45) t ≤ mm_a s 45 b) → (if sp_cdP H (mm_a s 45) t b = true then nI (1000 - sp_pk H (mm_a s 45) t) else -1) = -1 := fun z => if_neg (by unfold sp_cdP; rw [decide_eq_true_eq]; exact z)
  have yes : (b ≠ t ∧ sp_pk H (mm_a s 45) t ≠ 0 ∧ sp_pk H (mm_a s 45) t ≤ mm_a s 45 b) → (if sp_cdP H (mm_a s 45) t b = true then nI (1000 - sp_pk H (mm_a s 45) t) else -1) = nI (1000 - sp_pk H (mm_a s 45) t) := fun z => if_pos (by unfold sp_cdP; rw [decide_eq_true_eq]; exact z)
  by_cases z0 : sp_lack H (mm_a s 45) t = 0
  · have e0 : sp_pk H (mm_a s 45) t = 0 := if_neg (by omega)
    rw [no (fun z => z.2.1 e0)]
    refine aw_iload_n dX0_climbsFor_0 rfl ?_
    refine aw_iload_n dX0_climbsFor_1 rfl ?_
    refine aw_icmp_eqN (tgt := 13) dX0_climbsFor_2 (by decide) (by omega) (by omega) (fun c_2 => ?_) (fun c_2 => ?_)
    · refine aw_iconst (v := -1) dX0_climbsFor_13 rfl ?_
      refine aw_goto (tgt := 26) dX0_climbsFor_14 (by decide) ?_
      refine aw_istore_n dX0_climbsFor_26 (by decide) rfl rfl ?_
      refine aw_iload_n dX0_climbsFor_27 rfl ?_
      refine aw_if_lt (tgt := 44) dX0_climbsFor_28 (by decide) (fun c_28 => ?_) (fun c_28 => by exfalso; exact c_28 (by decide))
      refine aw_iconst (v := -1) dX0_climbsFor_44 rfl ?_
      refine aw_goto (tgt := 53) dX0_climbsFor_45 (by decide) ?_
      refine aw_ireturn dX0_climbsFor_53 rfl ?_
      exact ⟨rfl, hX, hs⟩
    · refine aw_aload_n dX0_climbsFor_5 rfl ?_
      refine aw_iload_n dX0_climbsFor_6 rfl ?_
      refine xx_call0 dX0_climbsFor_7 sX0_204 rfl hW hX (hq.mv hs hX0).xh hs (xo_lack hOK hA hN ht) rfl (hX.1 0 (by decide)) rfl rfl ⟨Nat.le_of_ble_eq_true rfl, Nat.le_of_ble_eq_true rfl⟩ (by exact Nat.le_of_ble_eq_true rfl) (fun h hX hs => ?_)
      refine aw_if_neN (tgt := 17) dX0_climbsFor_10 (by decide) (by omega) (fun c_10 => by exfalso; omega) (fun c_10 => ?_)
      refine aw_iconst (v := -1) dX0_climbsFor_13 rfl ?_
      refine aw_goto (tgt := 26) dX0_climbsFor_14 (by decide) ?_
      refine aw_istore_n dX0_climbsFor_26 (by decide) rfl rfl ?_
      refine aw_iload_n dX0_climbsFor_27 rfl ?_
      refine aw_if_lt (tgt := 44) dX0_climbsFor_28 (by decide) (fun c_28 => ?_) (fun c_28 => by exfalso; exact c_28 (by decide))
      refine aw_iconst (v := -1) dX0_climbsFor_44 rfl ?_
      refine aw_goto (tgt := 53) dX0_climbsFor_45 (by decide) ?_
      refine aw_ireturn dX0_climbsFor_53 rfl ?_
      exact ⟨rfl, hX, hs⟩
  · have ep : sp_few (fun a => sp_cnt H (mm_a s 45) a 0 0) (sp_lack H (mm_a s 45) t) (sp_hs H) = sp_pk H (mm_a s 45) t := (if_pos (by omega)).symm
    have cen := (xo_en (s := s) (u := u) (H := H) hOK ll).eqv (r' := some (.int (sp_cz (sp_pk H (mm_a s 45) t)))) (by rw [ep]) rfl
    by_cases z1 : sp_pk H (mm_a s 45) t = 0
    · rw [z1] at cen
      rw [no (fun z => z.2.1 z1)]
      refine aw_iload_n dX0_climbsFor_0 rfl ?_
      refine aw_iload_n dX0_climbsFor_1 rfl ?_
      refine aw_icmp_eqN (tgt := 13) dX0_climbsFor_2 (by decide) (by omega) (by omega) (fun c_2 => ?_) (fun c_2 => ?_)
      · refine aw_iconst (v := -1) dX0_climbsFor_13 rfl ?_
        refine aw_goto (tgt := 26) dX0_climbsFor_14 (by decide) ?_
        refine aw_istore_n dX0_climbsFor_26 (by decide) rfl rfl ?_
        refine aw_iload_n dX0_climbsFor_27 rfl ?_
        refine aw_if_lt (tgt := 44) dX0_climbsFor_28 (by decide) (fun c_28 => ?_) (fun c_28 => by exfalso; exact c_28 (by decide))
        refine aw_iconst (v := -1) dX0_climbsFor_44 rfl ?_
        refine aw_goto (tgt := 53) dX0_climbsFor_45 (by decide) ?_
        refine aw_ireturn dX0_climbsFor_53 rfl ?_
        exact ⟨rfl, hX, hs⟩
      · refine aw_aload_n dX0_climbsFor_5 rfl ?_
        refine aw_iload_n dX0_climbsFor_6 rfl ?_
        refine xx_call0 dX0_climbsFor_7 sX0_204 rfl hW hX (hq.mv hs hX0).xh hs (xo_lack hOK hA hN ht) rfl (hX.1 0 (by decide)) rfl rfl ⟨Nat.le_of_ble_eq_true rfl, Nat.le_of_ble_eq_true rfl⟩ (by exact Nat.le_of_ble_eq_true rfl) (fun h hX hs => ?_)
        refine aw_if_neN (tgt := 17) dX0_climbsFor_10 (by decide) (by omega) (fun c_10 => ?_) (fun c_10 => by exfalso; omega)
        refine aw_aload_n dX0_climbsFor_17 rfl ?_
        refine aw_aload_n dX0_climbsFor_18 rfl ?_
        refine aw_iload_n dX0_climbsFor_19 rfl ?_
        refine xx_call0 dX0_climbsFor_20 sX0_204 rfl hW hX (hq.mv hs hX0).xh hs (xo_lack hOK hA hN ht) rfl (hX.1 0 (by decide)) rfl rfl ⟨Nat.le_of_ble_eq_true rfl, Nat.le_of_ble_eq_true rfl⟩ (by exact Nat.le_of_ble_eq_true rfl) (fun h hX hs => ?_)
        refine xx_call0 dX0_climbsFor_23 sX0_265 rfl hW hX (hq.mv hs hX0).xh hs cen rfl (hX.1 0 (by decide)) rfl rfl ⟨Nat.le_of_ble_eq_true rfl, Nat.le_of_ble_eq_true rfl⟩ (by exact Nat.le_of_ble_eq_true rfl) (fun h hX hs => ?_)
        refine aw_istore_n dX0_climbsFor_26 (by decide) rfl rfl ?_
        refine aw_iload_n dX0_climbsFor_27 rfl ?_
        refine aw_if_lt (tgt := 44) dX0_climbsFor_28 (by decide) (fun c_28 => ?_) (fun c_28 => by exfalso; exact c_28 (by decide))
        refine aw_iconst (v := -1) dX0_climbsFor_44 rfl ?_
        refine aw_goto (tgt := 53) dX0_climbsFor_45 (by decide) ?_
        refine aw_ireturn dX0_climbsFor_53 rfl ?_
        exact ⟨rfl, hX, hs⟩
    · rw [show sp_cz (sp_pk H (mm_a s 45) t) = nI (sp_pk H (mm_a s 45) t) from if_neg z1] at cen
      refine aw_iload_n dX0_climbsFor_0 rfl ?_
      refine aw_iload_n dX0_climbsFor_1 rfl ?_
      refine aw_icmp_eqN (tgt := 13) dX0_climbsFor_2 (by decide) (by omega) (by omega) (fun c_2 => ?_) (fun c_2 => ?_)
      · refine aw_iconst (v := -1) dX0_climbsFor_13 rfl ?_
        refine aw_goto (tgt := 26) dX0_climbsFor_14 (by decide) ?_
        refine aw_istore_n dX0_climbsFor_26 (by decide) rfl rfl ?_
        refine aw_iload_n dX0_climbsFor_27 rfl ?_
        refine aw_if_lt (tgt := 44) dX0_climbsFor_28 (by decide) (fun c_28 => ?_) (fun c_28 => by exfalso; exact c_28 (by decide))
        refine aw_iconst (v := -1) dX0_climbsFor_44 rfl ?_
        refine aw_goto (tgt := 53) dX0_climbsFor_45 (by decide) ?_
        refine aw_ireturn dX0_climbsFor_53 rfl ?_
        first
          | exact ⟨by rw [no (fun z => by omega)], hX, hs⟩
          | exact ⟨by rw [yes ⟨by omega, z1, by omega⟩], hX, hs⟩
      · refine aw_aload_n dX0_climbsFor_5 rfl ?_
        refine aw_iload_n dX0_climbsFor_6 rfl ?_
        refine xx_call0 dX0_climbsFor_7 sX0_204 rfl hW hX (hq.mv hs hX0).xh hs (xo_lack hOK hA hN ht) rfl (hX.1 0 (by decide)) rfl rfl ⟨Nat.le_of_ble_eq_true rfl, Nat.le_of_ble_eq_true rfl⟩ (by exact Nat.le_of_ble_eq_true rfl) (fun h hX hs => ?_)
        refine aw_if_neN (tgt := 17) dX0_climbsFor_10 (by decide) (by omega) (fun c_10 => ?_) (fun c_10 => by exfalso; omega)
        refine aw_aload_n dX0_climbsFor_17 rfl ?_
        refine aw_aload_n dX0_climbsFor_18 rfl ?_
        refine aw_iload_n dX0_climbsFor_19 rfl ?_
        refine xx_call0 dX0_climbsFor_20 sX0_204 rfl hW hX (hq.mv hs hX0).xh hs (xo_lack hOK hA hN ht) rfl (hX.1 0 (by decide)) rfl rfl ⟨Nat.le_of_ble_eq_true rfl, Nat.le_of_ble_eq_true rfl⟩ (by exact Nat.le_of_ble_eq_true rfl) (fun h hX hs => ?_)
        refine xx_call0 dX0_climbsFor_23 sX0_265 rfl hW hX (hq.mv hs hX0).xh hs cen rfl (hX.1 0 (by decide)) rfl rfl ⟨Nat.le_of_ble_eq_true rfl, Nat.le_of_ble_eq_true rfl⟩ (by exact Nat.le_of_ble_eq_true rfl) (fun h hX hs => ?_)
        refine aw_istore_n dX0_climbsFor_26 (by decide) rfl rfl ?_
        refine aw_iload_n dX0_climbsFor_27 rfl ?_
        refine aw_if_ltN (tgt := 44) dX0_climbsFor_28 (by decide) (by omega) ?_
        refine aw_iload_n dX0_climbsFor_31 rfl ?_
        refine aw_aload_n dX0_climbsFor_32 rfl ?_
        refine aw_get dX0_climbsFor_33 fX0_28 rfl (hX.1 0 (by decide)) (by rfl) ?_
        refine aw_get dX0_climbsFor_36 fX0_88 rfl (hX.st (i := 0) (by decide)) (by rfl) ?_
        refine aw_iload_n dX0_climbsFor_39 rfl ?_
        refine xx_ialdS (i := 0) (b := 0) dX0_climbsFor_40 hX (by decide) (by decide) (by omega) ?_
        try simp only [Nat.reduceMul, Nat.reduceAdd, Nat.zero_add]
        refine aw_icmp_leN (tgt := 48) dX0_climbsFor_41 (by decide) (by omega) (by omega) (fun c_41 => ?_) (fun c_41 => ?_)
        · refine aw_sipush (v := nI 1000) dX0_climbsFor_48 rfl ?_
          refine aw_iload_n dX0_climbsFor_51 rfl ?_
          refine aw_isubN dX0_climbsFor_52 (by omega) ?_
          refine aw_ireturn dX0_climbsFor_53 rfl ?_
          first
            | exact ⟨by rw [no (fun z => by omega)], hX, hs⟩
            | exact ⟨by rw [yes ⟨by omega, z1, by omega⟩], hX, hs⟩
        · refine aw_iconst (v := -1) dX0_climbsFor_44 rfl ?_
          refine aw_goto (tgt := 53) dX0_climbsFor_45 (by decide) ?_
          refine aw_ireturn dX0_climbsFor_53 rfl ?_
          first
            | exact ⟨by rw [no (fun z => by omega)], hX, hs⟩
            | exact ⟨by rw [yes ⟨by omega, z1, by omega⟩], hX, hs⟩
set_option maxHeartbeats 4000000 in
theorem xo_lp {s : mm_S} {H : sp_H} {u : Nat} {N : Nat} (hOK : sp_okH H) (hA : sp_okA N (mm_a s 45)) (hN : N ≤ 10000000) : xx_Met yX0_layProxy cX0_layProxy 7 (some .int) 605 0 0 (fun w => [.ref (w.1 0)]) s H u (some (.int (nI (op_prx H (mm_a s 45))))) (xx_cS s (sp_hn H) (sp_dv (sp_hn H) (sp_cdP H (mm_a s 45)) (fun t => 1000 - sp_pk H (mm_a s 45) t)) 0 0) := by
  refine xx_Met.of (by decide +kernel) (fun _ => Nat.le_of_ble_eq_true rfl) (fun G w h0 hW hX hH => ?_)
  have hX0 := hX
  have hs : xx_same w h0 h0 := xx_same.rf
  obtain ⟨tl, te, cap, m9, f9, tn, nm9, c9, mo9, D9, hq⟩ := hH
  show AW G (aw_rm 605 0 0) yX0_layProxy cX0_layProxy 7 (some .int) (aw_N G (xx_Po G w h0 (some (.int (nI (op_prx H (mm_a s 45))))) (xx_cS s (sp_hn H) (sp_dv (sp_hn H) (sp_cdP H (mm_a s 45)) (fun t => 1000 - sp_pk H (mm_a s 45) t)) 0 0)) 0 0) 0 0 h0 0 [(0, .ref (w.1 0))] []
  have hs1 : 1 ≤ sp_hs H := hOK.1.1; have hs20 : sp_hs H ≤ 20 := hOK.1.2; have hn : sp_hn H ≤ 8 := hOK.2.1; have hlv : ∀ t, t < 8 → sp_lv H t ≤ 20 := fun t ht => (hOK.2.2.1 t ht).1; have hsg : ∀ t, t < 8 → sp_sg8 H t ≤ 40 := fun t ht => (hOK.2.2.1 t ht).2.1; have hhv : ∀ t, t < 8 → sp_hv H t ≤ 9 := fun t ht => (hOK.2.2.1 t ht).2.2.1; have how : ∀ t, t < 8 → sp_ow H t ≤ 999 := fun t ht => (hOK.2.2.1 t ht).2.2.2.1; have hfl : ∀ t, t < 8 → sp_fl H t ≤ 100 := fun t ht => (hOK.2.2.1 t ht).2.2.2.2
  have p8 : 2 ^ sp_hn H ≤ 256 := Nat.pow_le_pow_right (by decide) hn (n := 2)
  have p1 : 0 < 2 ^ sp_hn H := Nat.pow_pos (by decide)
  obtain ⟨cd, hcd⟩ : ∃ cd, cd = sp_cdP H (mm_a s 45) := ⟨_, rfl⟩
  obtain ⟨wt, hwt⟩ : ∃ wt : Nat → Nat, wt = fun t => 1000 - sp_pk H (mm_a s 45) t := ⟨_, rfl⟩
  obtain ⟨V, hV⟩ : ∃ V, V = sp_dv (sp_hn H) cd wt := ⟨_, rfl⟩
  have eop : op_prx H (mm_a s 45) = V (sp_hn H) 0 := by rw [hV, hcd, hwt]; rfl
  rw [eop, ← hcd, ← hwt, ← hV]
  have ww : ∀ t, wt t ≤ 1000 := fun t => by rw [hwt]; exact Nat.sub_le _ _
  have Vle : ∀ r z, r ≤ 8 → V r z ≤ 8000 := fun r z hr => by
    have q := @sp_dv_le (sp_hn H) cd wt ww r z
    rw [← hV] at q
    omega
  have V0 : ∀ z, V 0 z = 0 := fun z => by rw [hV]; rfl
  have Vat : ∀ t z, t < sp_hn H → V (sp_hn H - t) z = sp_dk (cd t) (wt t) (V (sp_hn H - (t + 1))) z (sp_hn H) := fun t z ht => by rw [hV]; exact sp_dv_at ht
  have cfr0 : ∀ (M : Nat → Nat) (b t : Nat), b < sp_hn H → t < sp_hn H → xx_Met yX0_climbsFor cX0_climbsFor 4 (some .int) 604 0 0 (fun w => [.ref (w.1 0), .int (nI b), .int (nI t)]) (mm_setA s 73 M) H u (some (.int (if cd t b = true then nI (wt t) else -1))) (mm_setA s 73 M) := fun M b t hb ht => by rw [hcd, hwt]; exact xo_cfr (s := mm_setA s 73 M) hOK hA hN hb ht
  have go2 : ∀ (h : aw_H) (x : Int32), XC G w h (xx_cS s (sp_hn H) V 0 0) → xx_same w h0 h → AW G (aw_rm 605 0 0) yX0_layProxy cX0_layProxy 7 (some .int) (aw_N G (xx_Po G w h0 (some (.int (nI (V (sp_hn H) 0)))) (xx_cS s (sp_hn H) V 0 0)) 0 0) 0 0 (h) 149 [(0, .ref (w.1 0)), (1, .int (nI (sp_hn H))), (2, .int x)] [] := by
    intro h x hX hs
    have c0 := xo_cf2 (s := s) (u := u) (H := H) (V := V) (T := 0) (x := 0) hn (Nat.zero_le _) (Nat.le_refl _) p1
    refine aw_aload_n dX0_layProxy_149 rfl ?_
    refine aw_iconst (v := nI 0) dX0_layProxy_150 rfl ?_
    refine aw_iconst (v := nI 0) dX0_layProxy_151 rfl ?_
    refine xx_call0 dX0_layProxy_152 sX0_255 rfl hW hX (hq.mv hs hX0).xh hs c0 rfl (hX.1 0 (by decide)) rfl rfl ⟨Nat.le_of_ble_eq_true rfl, Nat.le_of_ble_eq_true rfl⟩ (by exact Nat.le_of_ble_eq_true rfl) (fun h hX hs => ?_)
    refine aw_ireturn dX0_layProxy_155 rfl ?_
    exact ⟨by rw [Nat.sub_zero], hX, hs⟩
  have in62 : ∀ (t x : Nat), t < sp_hn H → x < 2 ^ sp_hn H → (∀ h : aw_H, XC G w h (xx_cS s (sp_hn H) V (t + 1) x) → xx_same w h0 h → AW G (aw_rm 605 0 0) yX0_layProxy cX0_layProxy 7 (some .int) (aw_N G (xx_Po G w h0 (some (.int (nI (V (sp_hn H) 0)))) (xx_cS s (sp_hn H) V 0 0)) 0 0) 0 0 (h) 124 [(0, .ref (w.1 0)), (1, .int (nI (sp_hn H))), (2, .int (nI t)), (3, .int (nI x)), (4, .int (nI (V (sp_hn H - t) x)))] []) → ∀ (m b : Nat) (h : aw_H), sp_hn H - b = m → b ≤ sp_hn H → XC G w h (xx_cS s (sp_hn H) V (t + 1) x) → xx_same w h0 h → AW G (aw_rm 605 0 0) yX0_layProxy cX0_layProxy 7 (some .int) (aw_N G (xx_Po G w h0 (some (.int (nI (V (sp_hn H) 0)))) (xx_cS s (sp_hn H) V 0 0)) 0 0) 0 0 (h) 62 [(0, .ref (w.1 0)), (1, .int (nI (sp_hn H))), (2, .int (nI t)), (3, .int (nI x)), (4, .int (nI (sp_dk (cd t) (wt t) (V (sp_hn H - (t + 1))) x b))), (5, .int (nI b))] [] := by
    intro t x ht hx hgo m
    induction m using Nat.strongRecOn with
    | _ m ih =>
      intro b h hm hb hX hs
      by_cases hb9 : b < sp_hn H
      · have on := sp_orn hx hb9
        have v1 := Vle (sp_hn H - (t + 1)) (x ||| 2 ^ b) (by omega)
        have v2 := @sp_dk_le (cd t) (wt t) (1000 * (sp_hn H - (t + 1))) (V (sp_hn H - (t + 1))) x (fun z => by rw [hV]; exact sp_dv_le ww _ _) b
        have w1 := ww t
        have cf1 := xo_cf2 (s := s) (u := u) (H := H) (V := V) (t := t + 1) (T := t + 1) (x := x) hn (by omega) (Nat.le_refl _) on
        have eS : sp_dk (cd t) (wt t) (V (sp_hn H - (t + 1))) x (b + 1) = if cd t b = true ∧ x / 2 ^ b % 2 = 0 ∧ sp_dk (cd t) (wt t) (V (sp_hn H - (t + 1))) x b < V (sp_hn H - (t + 1)) (x ||| 2 ^ b) + wt t then V (sp_hn H - (t + 1)) (x ||| 2 ^ b) + wt t else sp_dk (cd t) (wt t) (V (sp_hn H - (t + 1))) x b := rfl
        have next : ∀ (h : aw_H) (v : Nat), v = sp_dk (cd t) (wt t) (V (sp_hn H - (t + 1))) x (b + 1) → XC G w h (xx_cS s (sp_hn H) V (t + 1) x) → xx_same w h0 h → AW G (aw_rm 605 0 0) yX0_layProxy cX0_layProxy 7 (some .int) (aw_N G (xx_Po G w h0 (some (.int (nI (V (sp_hn H) 0)))) (xx_cS s (sp_hn H) V 0 0)) 0 0) 0 0 (h) 118 [(0, .ref (w.1 0)), (1, .int (nI (sp_hn H))), (2, .int (nI t)), (3, .int (nI x)), (4, .int (nI v)), (5, .int (nI b))] [] := by
          intro h v ev hX hs
          subst ev
          refine aw_iincN (b := 1) dX0_layProxy_118 rfl rfl (by decide) rfl rfl ?_
          refine aw_goto (tgt := 62) dX0_layProxy_121 (by decide) ?_
          exact ih (sp_hn H - (b + 1)) (by omega) (b + 1) h rfl (by omega) hX hs
        have eo : 1 * 2 ^ b = 2 ^ b := Nat.one_mul _
        have M2 := Nat.mod_lt (x / 2 ^ b) (y := 2) (by decide)
        by_cases cdb : cd t b = true
        · have cfr := (cfr0 (sp_cM (sp_hn H) V (mm_a s 73) (t + 1) x) b t hb9 ht).eqv (r' := some (.int (nI (wt t)))) (by rw [if_pos cdb]) rfl
          refine aw_iload dX0_layProxy_62 rfl ?_
          refine aw_iload_n dX0_layProxy_64 rfl ?_
          refine aw_icmp_geN (tgt := 124) dX0_layProxy_65 (by decide) (by omega) (by omega) (fun c_65 => by exfalso; omega) (fun c_65 => ?_)
          refine aw_iload_n dX0_layProxy_68 rfl ?_
          refine aw_iload dX0_layProxy_69 rfl ?_
          refine aw_callP (r := _) dX0_layProxy_71 sX0_258 rfl (xp_has (by omega) (by omega)) rfl rfl ⟨Nat.le_of_ble_eq_true rfl, Nat.le_of_ble_eq_true rfl⟩ (Nat.le_of_ble_eq_true rfl) ?_
          refine aw_if_eqB (tgt := 81) dX0_layProxy_74 (by decide) (fun c_74 => ?_) (fun c_74 => ?_)
          · refine aw_aload_n dX0_layProxy_81 rfl ?_
            refine aw_iload dX0_layProxy_82 rfl ?_
            refine aw_iload_n dX0_layProxy_84 rfl ?_
            refine xx_call0 dX0_layProxy_85 sX0_268 rfl hW hX (hq.mv hs hX0).xh hs cfr rfl (hX.1 0 (by decide)) rfl rfl ⟨Nat.le_of_ble_eq_true rfl, Nat.le_of_ble_eq_true rfl⟩ (by exact Nat.le_of_ble_eq_true rfl) (fun h hX hs => ?_)
            refine aw_istore dX0_layProxy_88 (by decide) rfl rfl ?_
            refine aw_iload dX0_layProxy_90 rfl ?_
            refine aw_if_ltN (tgt := 118) dX0_layProxy_92 (by decide) (by omega) ?_
            refine aw_iload dX0_layProxy_95 rfl ?_
            refine aw_iload dX0_layProxy_97 rfl ?_
            refine aw_aload_n dX0_layProxy_99 rfl ?_
            refine aw_iload_n dX0_layProxy_100 rfl ?_
            refine aw_iconst (v := nI 1) dX0_layProxy_101 rfl ?_
            refine aw_iaddN dX0_layProxy_102 ?_
            refine aw_iload_n dX0_layProxy_103 rfl ?_
            refine aw_iconst (v := nI 1) dX0_layProxy_104 rfl ?_
            refine aw_iload dX0_layProxy_105 rfl ?_
            refine aw_ishlN dX0_layProxy_107 (by first | omega | exact aw_sh1 (by decide) (by omega)) (by first | omega | exact aw_sh1 (by decide) (by omega)) ?_
            refine aw_iorN dX0_layProxy_108 ?_
            rw [eo]
            refine xx_call0 dX0_layProxy_109 sX0_255 rfl hW hX (hq.mv hs hX0).xh hs cf1 rfl (hX.1 0 (by decide)) rfl rfl ⟨Nat.le_of_ble_eq_true rfl, Nat.le_of_ble_eq_true rfl⟩ (by exact Nat.le_of_ble_eq_true rfl) (fun h hX hs => ?_)
            refine aw_iaddN dX0_layProxy_112 ?_
            refine aw_mmaxN dX0_layProxy_113 q952 (by omega) (by omega) (Nat.le_of_ble_eq_true rfl) (Nat.le_of_ble_eq_true rfl) (Nat.le_of_ble_eq_true rfl) ?_
            refine aw_istore dX0_layProxy_116 (by decide) rfl rfl ?_
            first
              | exact AW_dr (r := [(6, .int (-1))]) (next h _ (by rw [eS, if_neg (fun q => by omega)]) hX hs)
              | (refine AW_dr (r := [(6, .int (nI (wt t)))]) (next h _ ?_ hX hs)
                 rw [eS]
                 by_cases zz : sp_dk (cd t) (wt t) (V (sp_hn H - (t + 1))) x b < V (sp_hn H - (t + 1)) (x ||| 2 ^ b) + wt t
                 · rw [if_pos ⟨cdb, by omega, zz⟩]; omega
                 · rw [if_neg (fun q => zz q.2.2)]; omega)
          · refine aw_iconst (v := -1) dX0_layProxy_77 rfl ?_
            refine aw_goto (tgt := 88) dX0_layProxy_78 (by decide) ?_
            refine aw_istore dX0_layProxy_88 (by decide) rfl rfl ?_
            refine aw_iload dX0_layProxy_90 rfl ?_
            refine aw_if_lt (tgt := 118) dX0_layProxy_92 (by decide) (fun c_92 => ?_) (fun c_92 => by exfalso; exact c_92 (by decide))
            first
              | exact AW_dr (r := [(6, .int (-1))]) (next h _ (by rw [eS, if_neg (fun q => by omega)]) hX hs)
              | (refine AW_dr (r := [(6, .int (nI (wt t)))]) (next h _ ?_ hX hs)
                 rw [eS]
                 by_cases zz : sp_dk (cd t) (wt t) (V (sp_hn H - (t + 1))) x b < V (sp_hn H - (t + 1)) (x ||| 2 ^ b) + wt t
                 · rw [if_pos ⟨cdb, by omega, zz⟩]; omega
                 · rw [if_neg (fun q => zz q.2.2)]; omega)
        · have cfr := (cfr0 (sp_cM (sp_hn H) V (mm_a s 73) (t + 1) x) b t hb9 ht).eqv (r' := some (.int (-1))) (by rw [if_neg cdb]) rfl
          refine aw_iload dX0_layProxy_62 rfl ?_
          refine aw_iload_n dX0_layProxy_64 rfl ?_
          refine aw_icmp_geN (tgt := 124) dX0_layProxy_65 (by decide) (by omega) (by omega) (fun c_65 => by exfalso; omega) (fun c_65 => ?_)
          refine aw_iload_n dX0_layProxy_68 rfl ?_
          refine aw_iload dX0_layProxy_69 rfl ?_
          refine aw_callP (r := _) dX0_layProxy_71 sX0_258 rfl (xp_has (by omega) (by omega)) rfl rfl ⟨Nat.le_of_ble_eq_true rfl, Nat.le_of_ble_eq_true rfl⟩ (Nat.le_of_ble_eq_true rfl) ?_
          refine aw_if_eqB (tgt := 81) dX0_layProxy_74 (by decide) (fun c_74 => ?_) (fun c_74 => ?_)
          · refine aw_aload_n dX0_layProxy_81 rfl ?_
            refine aw_iload dX0_layProxy_82 rfl ?_
            refine aw_iload_n dX0_layProxy_84 rfl ?_
            refine xx_call0 dX0_layProxy_85 sX0_268 rfl hW hX (hq.mv hs hX0).xh hs cfr rfl (hX.1 0 (by decide)) rfl rfl ⟨Nat.le_of_ble_eq_true rfl, Nat.le_of_ble_eq_true rfl⟩ (by exact Nat.le_of_ble_eq_true rfl) (fun h hX hs => ?_)
            refine aw_istore dX0_layProxy_88 (by decide) rfl rfl ?_
            refine aw_iload dX0_layProxy_90 rfl ?_
            refine aw_if_lt (tgt := 118) dX0_layProxy_92 (by decide) (fun c_92 => ?_) (fun c_92 => by exfalso; exact c_92 (by decide))
            exact AW_dr (r := [(6, .int (-1))]) (next h _ (by rw [eS, if_neg (fun q => cdb q.1)]) hX hs)
          · refine aw_iconst (v := -1) dX0_layProxy_77 rfl ?_
            refine aw_goto (tgt := 88) dX0_layProxy_78 (by decide) ?_
            refine aw_istore dX0_layProxy_88 (by decide) rfl rfl ?_
            refine aw_iload dX0_layProxy_90 rfl ?_
            refine aw_if_lt (tgt := 118) dX0_layProxy_92 (by decide) (fun c_92 => ?_) (fun c_92 => by exfalso; exact c_92 (by decide))
            exact AW_dr (r := [(6, .int (-1))]) (next h _ (by rw [eS, if_neg (fun q => cdb q.1)]) hX hs)
      · obtain rfl : b = sp_hn H := by omega
        refine aw_iload dX0_layProxy_62 rfl ?_
        refine aw_iload_n dX0_layProxy_64 rfl ?_
        refine aw_icmp_geN (tgt := 124) dX0_layProxy_65 (by decide) (by omega) (by omega) (fun c_65 => ?_) (fun c_65 => by exfalso; omega)
        refine AW_ls ?_ (AW_dr (r := [(5, .int (nI (sp_hn H)))]) (hgo h hX hs))
        rw [Vat t x ht]
        rfl
  have in42 : ∀ (t : Nat), t < sp_hn H → (∀ h : aw_H, XC G w h (xx_cS s (sp_hn H) V t 0) → xx_same w h0 h → AW G (aw_rm 605 0 0) yX0_layProxy cX0_layProxy 7 (some .int) (aw_N G (xx_Po G w h0 (some (.int (nI (V (sp_hn H) 0)))) (xx_cS s (sp_hn H) V 0 0)) 0 0) 0 0 (h) 143 [(0, .ref (w.1 0)), (1, .int (nI (sp_hn H))), (2, .int (nI t))] []) → ∀ (m x : Nat) (h : aw_H), 2 ^ sp_hn H - x = m → x ≤ 2 ^ sp_hn H → XC G w h (xx_cS s (sp_hn H) V (t + 1) x) → xx_same w h0 h → AW G (aw_rm 605 0 0) yX0_layProxy cX0_layProxy 7 (some .int) (aw_N G (xx_Po G w h0 (some (.int (nI (V (sp_hn H) 0)))) (xx_cS s (sp_hn H) V 0 0)) 0 0) 0 0 (h) 42 [(0, .ref (w.1 0)), (1, .int (nI (sp_hn H))), (2, .int (nI t)), (3, .int (nI x))] [] := by
    intro t ht hgo m
    induction m using Nat.strongRecOn with
    | _ m ih =>
      intro x h hm hx hX hs
      by_cases hx9 : x < 2 ^ sp_hn H
      · have cf1 := xo_cf2 (s := s) (u := u) (H := H) (V := V) (t := t + 1) (T := t + 1) (x := x) hn (by omega) (Nat.le_refl _) hx9
        have ei : t * 2 ^ 8 ||| x = 256 * t + x := sp_ix (by omega)
        have back : ∀ h : aw_H, XC G w h (xx_cS s (sp_hn H) V (t + 1) x) → xx_same w h0 h → AW G (aw_rm 605 0 0) yX0_layProxy cX0_layProxy 7 (some .int) (aw_N G (xx_Po G w h0 (some (.int (nI (V (sp_hn H) 0)))) (xx_cS s (sp_hn H) V 0 0)) 0 0) 0 0 (h) 124 [(0, .ref (w.1 0)), (1, .int (nI (sp_hn H))), (2, .int (nI t)), (3, .int (nI x)), (4, .int (nI (V (sp_hn H - t) x)))] [] := by
          intro h hX hs
          refine aw_aload_n dX0_layProxy_124 rfl ?_
          refine aw_get dX0_layProxy_125 fX0_67 rfl (hX.1 0 (by decide)) (by rfl) ?_
          refine aw_iload_n dX0_layProxy_128 rfl ?_
          refine aw_bipush (v := nI 8) dX0_layProxy_129 rfl ?_
          refine aw_ishlN dX0_layProxy_131 (by omega) (by omega) ?_
          refine aw_iload_n dX0_layProxy_132 rfl ?_
          refine aw_iorN dX0_layProxy_133 ?_
          refine aw_iload dX0_layProxy_134 rfl ?_
          rw [ei]
          refine xx_stA (c := 13) hW hX hs dX0_layProxy_136 rfl (by omega) (fun h hX hs => ?_)
          have hX := xx_cSu hn (by omega) hx9 rfl hX
          refine aw_iincN (b := 1) dX0_layProxy_137 rfl rfl (by decide) rfl rfl ?_
          refine aw_goto (tgt := 42) dX0_layProxy_140 (by decide) ?_
          exact AW_dr (r := [(4, .int (nI (V (sp_hn H - t) x)))]) (ih (2 ^ sp_hn H - (x + 1)) (by omega) (x + 1) h rfl (by omega) hX hs)
        refine aw_iload_n dX0_layProxy_42 rfl ?_
        refine aw_iconst (v := nI 1) dX0_layProxy_43 rfl ?_
        refine aw_iload_n dX0_layProxy_44 rfl ?_
        refine aw_ishlN dX0_layProxy_45 (by omega) (by omega) ?_
        refine aw_icmp_geN (tgt := 143) dX0_layProxy_46 (by decide) (by omega) (by omega) (fun c_46 => by exfalso; omega) (fun c_46 => ?_)
        refine aw_aload_n dX0_layProxy_49 rfl ?_
        refine aw_iload_n dX0_layProxy_50 rfl ?_
        refine aw_iconst (v := nI 1) dX0_layProxy_51 rfl ?_
        refine aw_iaddN dX0_layProxy_52 ?_
        refine aw_iload_n dX0_layProxy_53 rfl ?_
        refine xx_call0 dX0_layProxy_54 sX0_255 rfl hW hX (hq.mv hs hX0).xh hs cf1 rfl (hX.1 0 (by decide)) rfl rfl ⟨Nat.le_of_ble_eq_true rfl, Nat.le_of_ble_eq_true rfl⟩ (by exact Nat.le_of_ble_eq_true rfl) (fun h hX hs => ?_)
        refine aw_istore dX0_layProxy_57 (by decide) rfl rfl ?_
        refine aw_iconst (v := nI 0) dX0_layProxy_59 rfl ?_
        refine aw_istore dX0_layProxy_60 (by decide) rfl rfl ?_
        exact in62 t x ht hx9 back _ 0 h rfl (Nat.zero_le _) hX hs
      · obtain rfl : x = 2 ^ sp_hn H := by omega
        refine aw_iload_n dX0_layProxy_42 rfl ?_
        refine aw_iconst (v := nI 1) dX0_layProxy_43 rfl ?_
        refine aw_iload_n dX0_layProxy_44 rfl ?_
        refine aw_ishlN dX0_layProxy_45 (by omega) (by omega) ?_
        refine aw_icmp_geN (tgt := 143) dX0_layProxy_46 (by decide) (by omega) (by omega) (fun c_46 => ?_) (fun c_46 => by exfalso; omega)
        exact AW_dr (r := [(3, .int (nI (2 ^ sp_hn H)))]) (hgo h (xx_cSr hX) hs)
  have out36 : ∀ (T : Nat) (h : aw_H), T ≤ sp_hn H → XC G w h (xx_cS s (sp_hn H) V T 0) → xx_same w h0 h → AW G (aw_rm 605 0 0) yX0_layProxy cX0_layProxy 7 (some .int) (aw_N G (xx_Po G w h0 (some (.int (nI (V (sp_hn H) 0)))) (xx_cS s (sp_hn H) V 0 0)) 0 0) 0 0 (h) 36 [(0, .ref (w.1 0)), (1, .int (nI (sp_hn H))), (2, .int (sp_cv T))] [] := by
    intro T
    induction T with
    | zero =>
      intro h hT hX hs
      rw [sp_cv0]
      refine aw_iload_n dX0_layProxy_36 rfl ?_
      refine aw_if_lt (tgt := 149) dX0_layProxy_37 (by decide) (fun c_37 => ?_) (fun c_37 => by exfalso; exact c_37 (by decide))
      exact go2 h _ hX hs
    | succ t ih =>
      intro h hT hX hs
      rw [sp_cv_s]
      have back : ∀ h : aw_H, XC G w h (xx_cS s (sp_hn H) V t 0) → xx_same w h0 h → AW G (aw_rm 605 0 0) yX0_layProxy cX0_layProxy 7 (some .int) (aw_N G (xx_Po G w h0 (some (.int (nI (V (sp_hn H) 0)))) (xx_cS s (sp_hn H) V 0 0)) 0 0) 0 0 (h) 143 [(0, .ref (w.1 0)), (1, .int (nI (sp_hn H))), (2, .int (nI t))] [] := by
        intro h hX hs
        refine aw_iinc (v := -1) dX0_layProxy_143 rfl rfl (by decide) rfl rfl ?_
        refine aw_goto (tgt := 36) dX0_layProxy_146 (by decide) ?_
        refine AW_ls ?_ (ih h (by omega) hX hs)
        rw [← aw_cvs2]
        rfl
      refine aw_iload_n dX0_layProxy_36 rfl ?_
      refine aw_if_ltN (tgt := 149) dX0_layProxy_37 (by decide) (by omega) ?_
      refine aw_iconst (v := nI 0) dX0_layProxy_40 rfl ?_
      refine aw_istore_n dX0_layProxy_41 (by decide) rfl rfl ?_
      exact in42 t (by omega) back _ 0 h rfl (Nat.zero_le _) hX hs
  have in7 : ∀ (m x : Nat) (h : aw_H), 2 ^ sp_hn H - x = m → x ≤ 2 ^ sp_hn H → XC G w h (xx_cS s (sp_hn H) V (sp_hn H + 1) x) → xx_same w h0 h → AW G (aw_rm 605 0 0) yX0_layProxy cX0_layProxy 7 (some .int) (aw_N G (xx_Po G w h0 (some (.int (nI (V (sp_hn H) 0)))) (xx_cS s (sp_hn H) V 0 0)) 0 0) 0 0 (h) 7 [(0, .ref (w.1 0)), (1, .int (nI (sp_hn H))), (2, .int (nI x))] [] := by
    intro m
    induction m using Nat.strongRecOn with
    | _ m ih =>
      intro x h hm hx hX hs
      by_cases hx9 : x < 2 ^ sp_hn H
      · have ei : sp_hn H * 2 ^ 8 ||| x = 256 * sp_hn H + x := sp_ix (by omega)
        refine aw_iload_n dX0_layProxy_7 rfl ?_
        refine aw_iconst (v := nI 1) dX0_layProxy_8 rfl ?_
        refine aw_iload_n dX0_layProxy_9 rfl ?_
        refine aw_ishlN dX0_layProxy_10 (by omega) (by omega) ?_
        refine aw_icmp_geN (tgt := 32) dX0_layProxy_11 (by decide) (by omega) (by omega) (fun c_11 => by exfalso; omega) (fun c_11 => ?_)
        refine aw_aload_n dX0_layProxy_14 rfl ?_
        refine aw_get dX0_layProxy_15 fX0_67 rfl (hX.1 0 (by decide)) (by rfl) ?_
        refine aw_iload_n dX0_layProxy_18 rfl ?_
        refine aw_bipush (v := nI 8) dX0_layProxy_19 rfl ?_
        refine aw_ishlN dX0_layProxy_21 (by omega) (by omega) ?_
        refine aw_iload_n dX0_layProxy_22 rfl ?_
        refine aw_iorN dX0_layProxy_23 ?_
        refine aw_iconst (v := nI 0) dX0_layProxy_24 rfl ?_
        rw [ei]
        refine xx_stA (c := 13) hW hX hs dX0_layProxy_25 rfl (by omega) (fun h hX hs => ?_)
        have hX := xx_cSu hn (Nat.le_refl _) hx9 (by rw [Nat.sub_self, V0]) hX
        refine aw_iincN (b := 1) dX0_layProxy_26 rfl rfl (by decide) rfl rfl ?_
        refine aw_goto (tgt := 7) dX0_layProxy_29 (by decide) ?_
        exact ih (2 ^ sp_hn H - (x + 1)) (by omega) (x + 1) h rfl (by omega) hX hs
      · obtain rfl : x = 2 ^ sp_hn H := by omega
        refine aw_iload_n dX0_layProxy_7 rfl ?_
        refine aw_iconst (v := nI 1) dX0_layProxy_8 rfl ?_
        refine aw_iload_n dX0_layProxy_9 rfl ?_
        refine aw_ishlN dX0_layProxy_10 (by omega) (by omega) ?_
        refine aw_icmp_geN (tgt := 32) dX0_layProxy_11 (by decide) (by omega) (by omega) (fun c_11 => ?_) (fun c_11 => by exfalso; omega)
        refine aw_iload_n dX0_layProxy_32 rfl ?_
        refine aw_iconst (v := nI 1) dX0_layProxy_33 rfl ?_
        refine aw_isub dX0_layProxy_34 ?_
        rw [aw_cvs]
        refine aw_istore_n dX0_layProxy_35 (by decide) rfl rfl ?_
        exact out36 (sp_hn H) h (Nat.le_refl _) (xx_cSr hX) hs
  refine aw_aload_n dX0_layProxy_0 rfl ?_
  refine xx_call0 dX0_layProxy_1 sX0_91 rfl hW hX (hq.mv hs hX0).xh hs xo_many rfl (hX.1 0 (by decide)) rfl rfl ⟨Nat.le_of_ble_eq_true rfl, Nat.le_of_ble_eq_true rfl⟩ (by exact Nat.le_of_ble_eq_true rfl) (fun h hX hs => ?_)
  refine aw_istore_n dX0_layProxy_4 (by decide) rfl rfl ?_
  refine aw_iconst (v := nI 0) dX0_layProxy_5 rfl ?_
  refine aw_istore_n dX0_layProxy_6 (by decide) rfl rfl ?_
  exact in7 _ 0 h rfl (Nat.zero_le _) (hX.eqv (by unfold xx_cS; rw [sp_cM_0, mm_A_self])) hs
set_option maxHeartbeats 4000000 in
theorem xo_proxy {s : mm_S} {H : sp_H} {u : Nat} {N : Nat} (hOK : sp_okH H) (hA : sp_okA N (mm_a s 45)) (hN : N ≤ 10000000) (eH : mm_H s = H) : xx_Op yX0_proxy cX0_proxy 5 (some .int) 606 0 0 (fun w => [.ref (w.1 0)]) s H u (some (.int (op_proxy H (mm_a s 45)))) (op_proxyS s) := by
  refine xx_Op.of (by decide +kernel) (fun _ => Nat.le_of_ble_eq_true rfl) (fun G w h0 hW hX hH => ?_)
  have hX0 := hX
  have hs : xx_same w h0 h0 := xx_same.rf
  obtain ⟨tl, te, cap, m9, f9, tn, nm9, c9, mo9, D9, hq⟩ := hH
  show AW G (aw_rm 606 0 0) yX0_proxy cX0_proxy 5 (some .int) (aw_N G (xx_PoC G w h0 (some (.int (op_proxy H (mm_a s 45)))) (op_proxyS s)) 0 0) 0 0 h0 0 [(0, .ref (w.1 0))] []
  have hs1 : 1 ≤ sp_hs H := hOK.1.1; have hs20 : sp_hs H ≤ 20 := hOK.1.2; have hn : sp_hn H ≤ 8 := hOK.2.1; have hlv : ∀ t, t < 8 → sp_lv H t ≤ 20 := fun t ht => (hOK.2.2.1 t ht).1; have hsg : ∀ t, t < 8 → sp_sg8 H t ≤ 40 := fun t ht => (hOK.2.2.1 t ht).2.1; have hhv : ∀ t, t < 8 → sp_hv H t ≤ 9 := fun t ht => (hOK.2.2.1 t ht).2.2.1; have how : ∀ t, t < 8 → sp_ow H t ≤ 999 := fun t ht => (hOK.2.2.1 t ht).2.2.2.1; have hfl : ∀ t, t < 8 → sp_fl H t ≤ 100 := fun t ht => (hOK.2.2.1 t ht).2.2.2.2
  have p8 : 2 ^ sp_hn H ≤ 256 := Nat.pow_le_pow_right (by decide) hn (n := 2)
  have p1 : 0 < 2 ^ sp_hn H := Nat.pow_pos (by decide)
  have clp := xo_lp (s := s) (u := u) (H := H) hOK hA hN
  have ecl : op_proxyS s = mm_lyS s (sp_cdP H (mm_a s 45)) (fun t => 1000 - sp_pk H (mm_a s 45) t) := by rw [op_proxyS, eH]
  obtain ⟨cd, hcd⟩ : ∃ cd, cd = sp_cdP H (mm_a s 45) := ⟨_, rfl⟩
  obtain ⟨wt, hwt⟩ : ∃ wt : Nat → Nat, wt = fun t => 1000 - sp_pk H (mm_a s 45) t := ⟨_, rfl⟩
  obtain ⟨V, hV⟩ : ∃ V, V = sp_dv (sp_hn H) cd wt := ⟨_, rfl⟩
  rw [← hcd, ← hwt, ← hV] at clp
  rw [← hcd, ← hwt] at ecl
  have ww : ∀ t, wt t ≤ 1000 := fun t => by rw [hwt]; exact Nat.sub_le _ _
  have Vle : ∀ r z, r ≤ 8 → V r z ≤ 8000 := fun r z hr => by
    have q := @sp_dv_le (sp_hn H) cd wt ww r z
    rw [← hV] at q
    omega
  have Vat : ∀ t z, t < sp_hn H → V (sp_hn H - t) z = sp_dk (cd t) (wt t) (V (sp_hn H - (t + 1))) z (sp_hn H) := fun t z ht => by rw [hV]; exact sp_dv_at ht
  have cfr0 : ∀ (M : Nat → Nat) (L : Nat → Int32) (b t : Nat), b < sp_hn H → t < sp_hn H → xx_Met yX0_climbsFor cX0_climbsFor 4 (some .int) 604 0 0 (fun w => [.ref (w.1 0), .int (nI b), .int (nI t)]) (mm_setV (mm_setA s 73 M) 51 L) H u (some (.int (if cd t b = true then nI (wt t) else -1))) (mm_setV (mm_setA s 73 M) 51 L) := fun M L b t hb ht => by rw [hcd, hwt]; exact xo_cfr (s := mm_setV (mm_setA s 73 M) 51 L) hOK hA hN hb ht
  have pzl : ∀ t, sp_pz (sp_hn H) cd wt t < 2 ^ sp_hn H := sp_pz_n
  obtain ⟨ALL, hALL⟩ : ∃ ALL, ALL = op_prx H (mm_a s 45) := ⟨_, rfl⟩
  rw [← hALL] at clp
  have aALL : ALL ≤ 8000 := by
    rw [hALL]
    show sp_dv (sp_hn H) (sp_cdP H (mm_a s 45)) (fun t => 1000 - sp_pk H (mm_a s 45) t) (sp_hn H) 0 ≤ _
    rw [← hcd, ← hwt, ← hV]
    exact Vle _ _ hn
  have eop : op_proxy H (mm_a s 45) = nI ((ALL + 1000 - 1) / 1000) := by rw [op_proxy, ← hALL, sp_e1, show ALL + 1000 - 1 = ALL + 999 by omega]
  have fin : ∀ (h : aw_H) (z : Nat), XC G w h (mm_setV (xx_cS s (sp_hn H) V 0 0) 51 (xx_cL s (sp_hn H) cd wt (sp_hn H))) → xx_same w h0 h → AW G (aw_rm 606 0 0) yX0_proxy cX0_proxy 5 (some .int) (aw_N G (xx_PoC G w h0 (some (.int (op_proxy H (mm_a s 45)))) (op_proxyS s)) 0 0) 0 0 (h) 127 [(0, .ref (w.1 0)), (1, .int (nI ALL)), (2, .int (nI z)), (3, .int (nI (sp_hn H)))] [] := by
    intro h z hX hs
    refine aw_aload_n dX0_proxy_127 rfl ?_
    refine aw_aload_n dX0_proxy_128 rfl ?_
    refine xx_call0 dX0_proxy_129 sX0_91 rfl hW hX (hq.mv hs hX0).xh hs xo_many rfl (hX.1 0 (by decide)) rfl rfl ⟨Nat.le_of_ble_eq_true rfl, Nat.le_of_ble_eq_true rfl⟩ (by exact Nat.le_of_ble_eq_true rfl) (fun h hX hs => ?_)
    refine xx_put0 (k := 52) hW hX hs dX0_proxy_132 (pX0_132 _) rfl rfl (by decide) (by decide) (by decide) rfl (fun h hX hs => ?_)
    refine aw_iload_n dX0_proxy_135 rfl ?_
    refine aw_sipush (v := nI 1000) dX0_proxy_136 rfl ?_
    refine aw_iaddN dX0_proxy_139 ?_
    refine aw_iconst (v := nI 1) dX0_proxy_140 rfl ?_
    refine aw_isubN dX0_proxy_141 (by omega) ?_
    refine aw_sipush (v := nI 1000) dX0_proxy_142 rfl ?_
    refine aw_idivN dX0_proxy_145 (by omega) (by omega) (by omega) ?_
    refine aw_ireturn dX0_proxy_146 rfl ?_
    refine ⟨by rw [eop], _, ?_, hX, hs⟩
    rw [ecl]
    exact xx_cL_core eH (fun j => rfl)
  have put : ∀ (m t : Nat) (h : aw_H), sp_hn H - t = m → t ≤ sp_hn H → XC G w h (mm_setV (xx_cS s (sp_hn H) V 0 0) 51 (xx_cL s (sp_hn H) cd wt t)) → xx_same w h0 h → AW G (aw_rm 606 0 0) yX0_proxy cX0_proxy 5 (some .int) (aw_N G (xx_PoC G w h0 (some (.int (op_proxy H (mm_a s 45)))) (op_proxyS s)) 0 0) 0 0 (h) 9 [(0, .ref (w.1 0)), (1, .int (nI ALL)), (2, .int (nI (sp_pz (sp_hn H) cd wt t))), (3, .int (nI t))] [] := by
    intro m
    induction m using Nat.strongRecOn with
    | _ m ih =>
      intro t h hm ht hX hs
      have zl := pzl t
      by_cases ht9 : t < sp_hn H
      · have done : ∀ (h : aw_H) (b : Nat), b ≤ sp_hn H → sp_pf (sp_hn H) cd wt t (sp_pz (sp_hn H) cd wt t) = (if b < sp_hn H then b + 1 else 0) → XC G w h (mm_setV (xx_cS s (sp_hn H) V 0 0) 51 (xx_cL s (sp_hn H) cd wt t)) → xx_same w h0 h → AW G (aw_rm 606 0 0) yX0_proxy cX0_proxy 5 (some .int) (aw_N G (xx_PoC G w h0 (some (.int (op_proxy H (mm_a s 45)))) (op_proxyS s)) 0 0) 0 0 (h) 84 [(0, .ref (w.1 0)), (1, .int (nI ALL)), (2, .int (nI (sp_pz (sp_hn H) cd wt t))), (3, .int (nI t)), (4, .int (nI b))] [] := by
          intro h b hb epf hX hs
          have ez : sp_pz (sp_hn H) cd wt (t + 1) = if sp_pf (sp_hn H) cd wt t (sp_pz (sp_hn H) cd wt t) = 0 then sp_pz (sp_hn H) cd wt t else sp_pz (sp_hn H) cd wt t ||| 2 ^ (sp_pf (sp_hn H) cd wt t (sp_pz (sp_hn H) cd wt t) - 1) := rfl
          rw [epf] at ez
          refine aw_aload_n dX0_proxy_84 rfl ?_
          refine aw_get dX0_proxy_85 fX0_60 rfl (hX.1 0 (by decide)) (by rfl) ?_
          refine aw_iload_n dX0_proxy_88 rfl ?_
          refine aw_iload dX0_proxy_89 rfl ?_
          refine aw_aload_n dX0_proxy_91 rfl ?_
          refine xx_call0 dX0_proxy_92 sX0_91 rfl hW hX (hq.mv hs hX0).xh hs xo_many rfl (hX.1 0 (by decide)) rfl rfl ⟨Nat.le_of_ble_eq_true rfl, Nat.le_of_ble_eq_true rfl⟩ (by exact Nat.le_of_ble_eq_true rfl) (fun h hX hs => ?_)
          refine aw_icmp_geN (tgt := 103) dX0_proxy_95 (by decide) (by omega) (by omega) (fun c_95 => ?_) (fun c_95 => ?_)
          · refine aw_iconst (v := -1) dX0_proxy_103 rfl ?_
            refine xx_stV hW hX hs dX0_proxy_104 (by omega) (fun h hX hs => ?_)
            have hX : XC G w h (mm_setV (xx_cS s (sp_hn H) V 0 0) 51 (xx_cL s (sp_hn H) cd wt (t + 1))) := xx_VU hX (xx_cL_u (by rw [sp_pl, epf]; first | (rw [if_pos (by omega), sp_cv_s]; done) | (rw [if_neg (by omega)]; rfl)))
            refine aw_iload dX0_proxy_105 rfl ?_
            refine aw_aload_n dX0_proxy_107 rfl ?_
            refine xx_call0 dX0_proxy_108 sX0_91 rfl hW hX (hq.mv hs hX0).xh hs xo_many rfl (hX.1 0 (by decide)) rfl rfl ⟨Nat.le_of_ble_eq_true rfl, Nat.le_of_ble_eq_true rfl⟩ (by exact Nat.le_of_ble_eq_true rfl) (fun h hX hs => ?_)
            try simp only [mm_n_N, mm_n_A, mm_n_V, mm_n_Fp, mm_n_W, mm_n_Nm, mm_a_N, mm_a_A, mm_a_V, mm_a_Fp, mm_a_W, mm_a_Nm, mm_v_N, mm_v_A, mm_v_V, mm_fp_N, mm_fp_A, mm_fp_Fp, mm_w_N, mm_w_W, Nat.reduceEqDiff, reduceIte, if_true, if_false, mm_H_45, mm_H_46, mm_H_47, mm_H_50, mm_H_53, mm_H_54, mm_H_55, mm_H_56, mm_H_57, mm_H_58, mm_H_66, mm_H_67, mm_H_68, eq_self]
            refine aw_icmp_geN (tgt := 121) dX0_proxy_111 (by decide) (by omega) (by omega) (fun c_111 => ?_) (fun c_111 => ?_)
            · refine aw_iincN (b := 1) dX0_proxy_121 rfl rfl (by decide) rfl rfl ?_
              refine aw_goto (tgt := 9) dX0_proxy_124 (by decide) ?_
              first
                | (exfalso; omega)
                | exact AW_ls (by rw [ez, if_pos (show b < sp_hn H by omega), if_neg (Nat.succ_ne_zero b), Nat.add_sub_cancel, Nat.one_mul]; rfl) (AW_dr (r := [(4, .int (nI b))]) (ih (sp_hn H - (t + 1)) (by omega) (t + 1) h rfl (by omega) hX hs))
                | exact AW_ls (by rw [ez, if_neg (show ¬ b < sp_hn H by omega), if_pos rfl]; rfl) (AW_dr (r := [(4, .int (nI b))]) (ih (sp_hn H - (t + 1)) (by omega) (t + 1) h rfl (by omega) hX hs))
            · refine aw_iload_n dX0_proxy_114 rfl ?_
              refine aw_iconst (v := nI 1) dX0_proxy_115 rfl ?_
              refine aw_iload dX0_proxy_116 rfl ?_
              refine aw_ishlN dX0_proxy_118 (by first | omega | exact aw_sh1 (by decide) (by omega)) (by first | omega | exact aw_sh1 (by decide) (by omega)) ?_
              refine aw_iorN dX0_proxy_119 ?_
              refine aw_istore_n dX0_proxy_120 (by decide) rfl rfl ?_
              refine aw_iincN (b := 1) dX0_proxy_121 rfl rfl (by decide) rfl rfl ?_
              refine aw_goto (tgt := 9) dX0_proxy_124 (by decide) ?_
              first
                | (exfalso; omega)
                | exact AW_ls (by rw [ez, if_pos (show b < sp_hn H by omega), if_neg (Nat.succ_ne_zero b), Nat.add_sub_cancel, Nat.one_mul]; rfl) (AW_dr (r := [(4, .int (nI b))]) (ih (sp_hn H - (t + 1)) (by omega) (t + 1) h rfl (by omega) hX hs))
                | exact AW_ls (by rw [ez, if_neg (show ¬ b < sp_hn H by omega), if_pos rfl]; rfl) (AW_dr (r := [(4, .int (nI b))]) (ih (sp_hn H - (t + 1)) (by omega) (t + 1) h rfl (by omega) hX hs))
          · refine aw_iload dX0_proxy_98 rfl ?_
            refine aw_goto (tgt := 104) dX0_proxy_100 (by decide) ?_
            refine xx_stV hW hX hs dX0_proxy_104 (by omega) (fun h hX hs => ?_)
            have hX : XC G w h (mm_setV (xx_cS s (sp_hn H) V 0 0) 51 (xx_cL s (sp_hn H) cd wt (t + 1))) := xx_VU hX (xx_cL_u (by rw [sp_pl, epf]; first | (rw [if_pos (by omega), sp_cv_s]; done) | (rw [if_neg (by omega)]; rfl)))
            refine aw_iload dX0_proxy_105 rfl ?_
            refine aw_aload_n dX0_proxy_107 rfl ?_
            refine xx_call0 dX0_proxy_108 sX0_91 rfl hW hX (hq.mv hs hX0).xh hs xo_many rfl (hX.1 0 (by decide)) rfl rfl ⟨Nat.le_of_ble_eq_true rfl, Nat.le_of_ble_eq_true rfl⟩ (by exact Nat.le_of_ble_eq_true rfl) (fun h hX hs => ?_)
            try simp only [mm_n_N, mm_n_A, mm_n_V, mm_n_Fp, mm_n_W, mm_n_Nm, mm_a_N, mm_a_A, mm_a_V, mm_a_Fp, mm_a_W, mm_a_Nm, mm_v_N, mm_v_A, mm_v_V, mm_fp_N, mm_fp_A, mm_fp_Fp, mm_w_N, mm_w_W, Nat.reduceEqDiff, reduceIte, if_true, if_false, mm_H_45, mm_H_46, mm_H_47, mm_H_50, mm_H_53, mm_H_54, mm_H_55, mm_H_56, mm_H_57, mm_H_58, mm_H_66, mm_H_67, mm_H_68, eq_self]
            refine aw_icmp_geN (tgt := 121) dX0_proxy_111 (by decide) (by omega) (by omega) (fun c_111 => ?_) (fun c_111 => ?_)
            · refine aw_iincN (b := 1) dX0_proxy_121 rfl rfl (by decide) rfl rfl ?_
              refine aw_goto (tgt := 9) dX0_proxy_124 (by decide) ?_
              first
                | (exfalso; omega)
                | exact AW_ls (by rw [ez, if_pos (show b < sp_hn H by omega), if_neg (Nat.succ_ne_zero b), Nat.add_sub_cancel, Nat.one_mul]; rfl) (AW_dr (r := [(4, .int (nI b))]) (ih (sp_hn H - (t + 1)) (by omega) (t + 1) h rfl (by omega) hX hs))
                | exact AW_ls (by rw [ez, if_neg (show ¬ b < sp_hn H by omega), if_pos rfl]; rfl) (AW_dr (r := [(4, .int (nI b))]) (ih (sp_hn H - (t + 1)) (by omega) (t + 1) h rfl (by omega) hX hs))
            · refine aw_iload_n dX0_proxy_114 rfl ?_
              refine aw_iconst (v := nI 1) dX0_proxy_115 rfl ?_
              refine aw_iload dX0_proxy_116 rfl ?_
              refine aw_ishlN dX0_proxy_118 (by first | omega | exact aw_sh1 (by decide) (by omega)) (by first | omega | exact aw_sh1 (by decide) (by omega)) ?_
              refine aw_iorN dX0_proxy_119 ?_
              refine aw_istore_n dX0_proxy_120 (by decide) rfl rfl ?_
              refine aw_iincN (b := 1) dX0_proxy_121 rfl rfl (by decide) rfl rfl ?_
              refine aw_goto (tgt := 9) dX0_proxy_124 (by decide) ?_
              first
                | (exfalso; omega)
                | exact AW_ls (by rw [ez, if_pos (show b < sp_hn H by omega), if_neg (Nat.succ_ne_zero b), Nat.add_sub_cancel, Nat.one_mul]; rfl) (AW_dr (r := [(4, .int (nI b))]) (ih (sp_hn H - (t + 1)) (by omega) (t + 1) h rfl (by omega) hX hs))
                | exact AW_ls (by rw [ez, if_neg (show ¬ b < sp_hn H by omega), if_pos rfl]; rfl) (AW_dr (r := [(4, .int (nI b))]) (ih (sp_hn H - (t + 1)) (by omega) (t + 1) h rfl (by omega) hX hs))
        have wh : ∀ (d b : Nat) (h : aw_H), sp_hn H - b = d → b ≤ sp_hn H → (∀ j, j < b → (cd t j && decide (sp_pz (sp_hn H) cd wt t / 2 ^ j % 2 = 0) && decide (V (sp_hn H - (t + 1)) (sp_pz (sp_hn H) cd wt t ||| 2 ^ j) + wt t = V (sp_hn H - t) (sp_pz (sp_hn H) cd wt t))) = false) → XC G w h (mm_setV (xx_cS s (sp_hn H) V 0 0) 51 (xx_cL s (sp_hn H) cd wt t)) → xx_same w h0 h → AW G (aw_rm 606 0 0) yX0_proxy cX0_proxy 5 (some .int) (aw_N G (xx_PoC G w h0 (some (.int (op_proxy H (mm_a s 45)))) (op_proxyS s)) 0 0) 0 0 (h) 20 [(0, .ref (w.1 0)), (1, .int (nI ALL)), (2, .int (nI (sp_pz (sp_hn H) cd wt t))), (3, .int (nI t)), (4, .int (nI b))] [] := by
          intro d
          induction d using Nat.strongRecOn with
          | _ d ihb =>
            intro b h hd hb hno hX hs
            by_cases hb9 : b < sp_hn H
            · have on := sp_orn zl hb9
              have v1 := Vle (sp_hn H - (t + 1)) (sp_pz (sp_hn H) cd wt t ||| 2 ^ b) (by omega)
              have v2 := Vle (sp_hn H - t) (sp_pz (sp_hn H) cd wt t) (by omega)
              have ge : cd t b = true → sp_pz (sp_hn H) cd wt t / 2 ^ b % 2 = 0 → V (sp_hn H - (t + 1)) (sp_pz (sp_hn H) cd wt t ||| 2 ^ b) + wt t ≤ V (sp_hn H - t) (sp_pz (sp_hn H) cd wt t) := fun q1 q2 => by
                have q3 := @sp_dk_ge (cd t) (wt t) (V (sp_hn H - (t + 1))) (sp_pz (sp_hn H) cd wt t) (sp_hn H) b hb9 q1 q2
                rw [← Vat t _ ht9] at q3
                exact q3
              have cf1 := xo_cf3 (s := s) (u := u) (H := H) (V := V) (t := t + 1) (L := xx_cL s (sp_hn H) cd wt t) hn (by omega) on
              have cf2 := xo_cf3 (s := s) (u := u) (H := H) (V := V) (t := t) (L := xx_cL s (sp_hn H) cd wt t) hn (by omega) zl
              have next : ∀ (h : aw_H), (cd t b && decide (sp_pz (sp_hn H) cd wt t / 2 ^ b % 2 = 0) && decide (V (sp_hn H - (t + 1)) (sp_pz (sp_hn H) cd wt t ||| 2 ^ b) + wt t = V (sp_hn H - t) (sp_pz (sp_hn H) cd wt t))) = false → XC G w h (mm_setV (xx_cS s (sp_hn H) V 0 0) 51 (xx_cL s (sp_hn H) cd wt t)) → xx_same w h0 h → AW G (aw_rm 606 0 0) yX0_proxy cX0_proxy 5 (some .int) (aw_N G (xx_PoC G w h0 (some (.int (op_proxy H (mm_a s 45)))) (op_proxyS s)) 0 0) 0 0 (h) 78 [(0, .ref (w.1 0)), (1, .int (nI ALL)), (2, .int (nI (sp_pz (sp_hn H) cd wt t))), (3, .int (nI t)), (4, .int (nI b))] [] := by
                intro h e hX hs
                refine aw_iincN (b := 1) dX0_proxy_78 rfl rfl (by decide) rfl rfl ?_
                refine aw_goto (tgt := 20) dX0_proxy_81 (by decide) ?_
                refine ihb (sp_hn H - (b + 1)) (by omega) (b + 1) h rfl (by omega) (fun j hj => ?_) hX hs
                by_cases e2 : j = b
                · subst e2; exact e
                · exact hno j (by omega)
              have eo : 1 * 2 ^ b = 2 ^ b := Nat.one_mul _
              have M2 := Nat.mod_lt (sp_pz (sp_hn H) cd wt t / 2 ^ b) (y := 2) (by decide)
              have wtt := ww t
              by_cases cdb : cd t b = true
              · have cfr := (cfr0 (sp_cM (sp_hn H) V (mm_a s 73) 0 0) (xx_cL s (sp_hn H) cd wt t) b t hb9 ht9).eqv (r' := some (.int (nI (wt t)))) (by rw [if_pos cdb]) rfl
                refine aw_iload dX0_proxy_20 rfl ?_
                refine aw_aload_n dX0_proxy_22 rfl ?_
                refine xx_call0 dX0_proxy_23 sX0_91 rfl hW hX (hq.mv hs hX0).xh hs xo_many rfl (hX.1 0 (by decide)) rfl rfl ⟨Nat.le_of_ble_eq_true rfl, Nat.le_of_ble_eq_true rfl⟩ (by exact Nat.le_of_ble_eq_true rfl) (fun h hX hs => ?_)
                refine aw_icmp_geN (tgt := 84) dX0_proxy_26 (by decide) (by omega) (by omega) (fun c_26 => by exfalso; omega) (fun c_26 => ?_)
                refine aw_iload_n dX0_proxy_29 rfl ?_
                refine aw_iload dX0_proxy_30 rfl ?_
                refine aw_callP (r := _) dX0_proxy_32 sX0_258 rfl (xp_has (by omega) (by omega)) rfl rfl ⟨Nat.le_of_ble_eq_true rfl, Nat.le_of_ble_eq_true rfl⟩ (Nat.le_of_ble_eq_true rfl) ?_
                refine aw_if_neB (tgt := 78) dX0_proxy_35 (by decide) (fun c_35 => ?_) (fun c_35 => ?_)
                · refine next h ?_ hX hs
                  first
                    | (rw [decide_eq_false (show ¬ sp_pz (sp_hn H) cd wt t / 2 ^ b % 2 = 0 by omega), Bool.and_false, Bool.false_and]; done)
                    | (rw [decide_eq_false (show ¬ V (sp_hn H - (t + 1)) (sp_pz (sp_hn H) cd wt t ||| 2 ^ b) + wt t = V (sp_hn H - t) (sp_pz (sp_hn H) cd wt t) by omega), Bool.and_false]; done)
                · refine aw_aload_n dX0_proxy_38 rfl ?_
                  refine aw_iload dX0_proxy_39 rfl ?_
                  refine aw_iload_n dX0_proxy_41 rfl ?_
                  refine xx_call0 dX0_proxy_42 sX0_268 rfl hW hX (hq.mv hs hX0).xh hs cfr rfl (hX.1 0 (by decide)) rfl rfl ⟨Nat.le_of_ble_eq_true rfl, Nat.le_of_ble_eq_true rfl⟩ (by exact Nat.le_of_ble_eq_true rfl) (fun h hX hs => ?_)
                  refine aw_if_ltN (tgt := 78) dX0_proxy_45 (by decide) (by omega) ?_
                  refine aw_aload_n dX0_proxy_48 rfl ?_
                  refine aw_iload dX0_proxy_49 rfl ?_
                  refine aw_iload_n dX0_proxy_51 rfl ?_
                  refine xx_call0 dX0_proxy_52 sX0_268 rfl hW hX (hq.mv hs hX0).xh hs cfr rfl (hX.1 0 (by decide)) rfl rfl ⟨Nat.le_of_ble_eq_true rfl, Nat.le_of_ble_eq_true rfl⟩ (by exact Nat.le_of_ble_eq_true rfl) (fun h hX hs => ?_)
                  refine aw_aload_n dX0_proxy_55 rfl ?_
                  refine aw_iload_n dX0_proxy_56 rfl ?_
                  refine aw_iconst (v := nI 1) dX0_proxy_57 rfl ?_
                  refine aw_iaddN dX0_proxy_58 ?_
                  refine aw_iload_n dX0_proxy_59 rfl ?_
                  refine aw_iconst (v := nI 1) dX0_proxy_60 rfl ?_
                  refine aw_iload dX0_proxy_61 rfl ?_
                  refine aw_ishlN dX0_proxy_63 (by first | omega | exact aw_sh1 (by decide) (by omega)) (by first | omega | exact aw_sh1 (by decide) (by omega)) ?_
                  refine aw_iorN dX0_proxy_64 ?_
                  rw [eo]
                  refine xx_call0 dX0_proxy_65 sX0_255 rfl hW hX (hq.mv hs hX0).xh hs cf1 rfl (hX.1 0 (by decide)) rfl rfl ⟨Nat.le_of_ble_eq_true rfl, Nat.le_of_ble_eq_true rfl⟩ (by exact Nat.le_of_ble_eq_true rfl) (fun h hX hs => ?_)
                  refine aw_iaddN dX0_proxy_68 ?_
                  refine aw_aload_n dX0_proxy_69 rfl ?_
                  refine aw_iload_n dX0_proxy_70 rfl ?_
                  refine aw_iload_n dX0_proxy_71 rfl ?_
                  refine xx_call0 dX0_proxy_72 sX0_255 rfl hW hX (hq.mv hs hX0).xh hs cf2 rfl (hX.1 0 (by decide)) rfl rfl ⟨Nat.le_of_ble_eq_true rfl, Nat.le_of_ble_eq_true rfl⟩ (by exact Nat.le_of_ble_eq_true rfl) (fun h hX hs => ?_)
                  refine aw_icmp_geN (tgt := 84) dX0_proxy_75 (by decide) (by omega) (by omega) (fun c_75 => ?_) (fun c_75 => ?_)
                  · have g9 := ge cdb (by omega)
                    refine done h b hb ?_ hX hs
                    rw [if_pos hb9]
                    unfold sp_pf
                    rw [← hV]
                    refine sp_fst_yes hb9 hno ?_
                    rw [cdb, decide_eq_true (show sp_pz (sp_hn H) cd wt t / 2 ^ b % 2 = 0 by omega), decide_eq_true (show V (sp_hn H - (t + 1)) (sp_pz (sp_hn H) cd wt t ||| 2 ^ b) + wt t = V (sp_hn H - t) (sp_pz (sp_hn H) cd wt t) by omega)]
                    rfl
                  · refine next h ?_ hX hs
                    first
                      | (rw [decide_eq_false (show ¬ sp_pz (sp_hn H) cd wt t / 2 ^ b % 2 = 0 by omega), Bool.and_false, Bool.false_and]; done)
                      | (rw [decide_eq_false (show ¬ V (sp_hn H - (t + 1)) (sp_pz (sp_hn H) cd wt t ||| 2 ^ b) + wt t = V (sp_hn H - t) (sp_pz (sp_hn H) cd wt t) by omega), Bool.and_false]; done)
              · have cfr := (cfr0 (sp_cM (sp_hn H) V (mm_a s 73) 0 0) (xx_cL s (sp_hn H) cd wt t) b t hb9 ht9).eqv (r' := some (.int (-1))) (by rw [if_neg cdb]) rfl
                refine aw_iload dX0_proxy_20 rfl ?_
                refine aw_aload_n dX0_proxy_22 rfl ?_
                refine xx_call0 dX0_proxy_23 sX0_91 rfl hW hX (hq.mv hs hX0).xh hs xo_many rfl (hX.1 0 (by decide)) rfl rfl ⟨Nat.le_of_ble_eq_true rfl, Nat.le_of_ble_eq_true rfl⟩ (by exact Nat.le_of_ble_eq_true rfl) (fun h hX hs => ?_)
                refine aw_icmp_geN (tgt := 84) dX0_proxy_26 (by decide) (by omega) (by omega) (fun c_26 => by exfalso; omega) (fun c_26 => ?_)
                refine aw_iload_n dX0_proxy_29 rfl ?_
                refine aw_iload dX0_proxy_30 rfl ?_
                refine aw_callP (r := _) dX0_proxy_32 sX0_258 rfl (xp_has (by omega) (by omega)) rfl rfl ⟨Nat.le_of_ble_eq_true rfl, Nat.le_of_ble_eq_true rfl⟩ (Nat.le_of_ble_eq_true rfl) ?_
                refine aw_if_neB (tgt := 78) dX0_proxy_35 (by decide) (fun c_35 => ?_) (fun c_35 => ?_)
                · refine next h ?_ hX hs
                  rw [Bool.eq_false_iff.mpr cdb, Bool.false_and, Bool.false_and]
                · refine aw_aload_n dX0_proxy_38 rfl ?_
                  refine aw_iload dX0_proxy_39 rfl ?_
                  refine aw_iload_n dX0_proxy_41 rfl ?_
                  refine xx_call0 dX0_proxy_42 sX0_268 rfl hW hX (hq.mv hs hX0).xh hs cfr rfl (hX.1 0 (by decide)) rfl rfl ⟨Nat.le_of_ble_eq_true rfl, Nat.le_of_ble_eq_true rfl⟩ (by exact Nat.le_of_ble_eq_true rfl) (fun h hX hs => ?_)
                  refine aw_if_lt (tgt := 78) dX0_proxy_45 (by decide) (fun c_45 => ?_) (fun c_45 => by exfalso; exact c_45 (by decide))
                  refine next h ?_ hX hs
                  rw [Bool.eq_false_iff.mpr cdb, Bool.false_and, Bool.false_and]
            · obtain rfl : b = sp_hn H := by omega
              refine aw_iload dX0_proxy_20 rfl ?_
              refine aw_aload_n dX0_proxy_22 rfl ?_
              refine xx_call0 dX0_proxy_23 sX0_91 rfl hW hX (hq.mv hs hX0).xh hs xo_many rfl (hX.1 0 (by decide)) rfl rfl ⟨Nat.le_of_ble_eq_true rfl, Nat.le_of_ble_eq_true rfl⟩ (by exact Nat.le_of_ble_eq_true rfl) (fun h hX hs => ?_)
              refine aw_icmp_geN (tgt := 84) dX0_proxy_26 (by decide) (by omega) (by omega) (fun c_26 => ?_) (fun c_26 => by exfalso; omega)
              refine done h _ (Nat.le_refl _) ?_ hX hs
              rw [if_neg (Nat.lt_irrefl _)]
              unfold sp_pf
              rw [← hV]
              exact sp_fst_no hno
        refine aw_iload_n dX0_proxy_9 rfl ?_
        refine aw_aload_n dX0_proxy_10 rfl ?_
        refine xx_call0 dX0_proxy_11 sX0_91 rfl hW hX (hq.mv hs hX0).xh hs xo_many rfl (hX.1 0 (by decide)) rfl rfl ⟨Nat.le_of_ble_eq_true rfl, Nat.le_of_ble_eq_true rfl⟩ (by exact Nat.le_of_ble_eq_true rfl) (fun h hX hs => ?_)
        refine aw_icmp_geN (tgt := 127) dX0_proxy_14 (by decide) (by omega) (by omega) (fun c_14 => by exfalso; omega) (fun c_14 => ?_)
        refine aw_iconst (v := nI 0) dX0_proxy_17 rfl ?_
        refine aw_istore dX0_proxy_18 (by decide) rfl rfl ?_
        exact wh _ 0 h rfl (Nat.zero_le _) (fun j hj => absurd hj (Nat.not_lt_zero _)) hX hs
      · obtain rfl : t = sp_hn H := by omega
        refine aw_iload_n dX0_proxy_9 rfl ?_
        refine aw_aload_n dX0_proxy_10 rfl ?_
        refine xx_call0 dX0_proxy_11 sX0_91 rfl hW hX (hq.mv hs hX0).xh hs xo_many rfl (hX.1 0 (by decide)) rfl rfl ⟨Nat.le_of_ble_eq_true rfl, Nat.le_of_ble_eq_true rfl⟩ (by exact Nat.le_of_ble_eq_true rfl) (fun h hX hs => ?_)
        refine aw_icmp_geN (tgt := 127) dX0_proxy_14 (by decide) (by omega) (by omega) (fun c_14 => ?_) (fun c_14 => by exfalso; omega)
        exact fin h _ hX hs
  refine aw_aload_n dX0_proxy_0 rfl ?_
  refine xx_call0 dX0_proxy_1 sX0_271 rfl hW hX (hq.mv hs hX0).xh hs clp rfl (hX.1 0 (by decide)) rfl rfl ⟨Nat.le_of_ble_eq_true rfl, Nat.le_of_ble_eq_true rfl⟩ (by exact Nat.le_of_ble_eq_true rfl) (fun h hX hs => ?_)
  refine aw_istore_n dX0_proxy_4 (by decide) rfl rfl ?_
  refine aw_iconst (v := nI 0) dX0_proxy_5 rfl ?_
  refine aw_istore_n dX0_proxy_6 (by decide) rfl rfl ?_
  refine aw_iconst (v := nI 0) dX0_proxy_7 rfl ?_
  refine aw_istore_n dX0_proxy_8 (by decide) rfl rfl ?_
  exact put _ 0 h rfl (Nat.zero_le _) (hX.eqv (by rw [xx_cL_0]; exact (mm_V_id (s := xx_cS s (sp_hn H) V 0 0) (fun j => rfl)).symm)) hs
set_option maxHeartbeats 4000000 in
theorem xo_toil {s : mm_S} {H : sp_H} {u : Nat} {N : Nat} (hOK : sp_okH H) (hA : sp_okA N (mm_a s 45)) (hN : N ≤ 10000000) : xx_Op yX0_toil cX0_toil 2 (some .int) 606 0 0 (fun w => [.ref (w.1 0)]) s H u (some (.int (op_toil H (mm_a s 45)))) (s) := by
  refine xx_Op.of (by decide +kernel) (fun _ => Nat.le_of_ble_eq_true rfl) (fun G w h0 hW hX hH => ?_)
  have hX0 := hX
  have hs : xx_same w h0 h0 := xx_same.rf
  obtain ⟨tl, te, cap, m9, f9, tn, nm9, c9, mo9, D9, hq⟩ := hH
  show AW G (aw_rm 606 0 0) yX0_toil cX0_toil 2 (some .int) (aw_N G (xx_PoC G w h0 (some (.int (op_toil H (mm_a s 45)))) (s)) 0 0) 0 0 h0 0 [(0, .ref (w.1 0))] []
  have hs1 : 1 ≤ sp_hs H := hOK.1.1; have hs20 : sp_hs H ≤ 20 := hOK.1.2; have hn : sp_hn H ≤ 8 := hOK.2.1; have hlv : ∀ t, t < 8 → sp_lv H t ≤ 20 := fun t ht => (hOK.2.2.1 t ht).1; have hsg : ∀ t, t < 8 → sp_sg8 H t ≤ 40 := fun t ht => (hOK.2.2.1 t ht).2.1; have hhv : ∀ t, t < 8 → sp_hv H t ≤ 9 := fun t ht => (hOK.2.2.1 t ht).2.2.1; have how : ∀ t, t < 8 → sp_ow H t ≤ 999 := fun t ht => (hOK.2.2.1 t ht).2.2.2.1; have hfl : ∀ t, t < 8 → sp_fl H t ≤ 100 := fun t ht => (hOK.2.2.1 t ht).2.2.2.2
  have clp := xo_lp (s := s) (u := u) (H := H) hOK hA hN
  obtain ⟨ALL, hALL⟩ : ∃ ALL, ALL = op_prx H (mm_a s 45) := ⟨_, rfl⟩
  have aALL : ALL ≤ 8000 := by
    rw [hALL]
    have q := @sp_dv_le (sp_hn H) (sp_cdP H (mm_a s 45)) (fun t => 1000 - sp_pk H (mm_a s 45) t) (fun t => Nat.sub_le _ _) (sp_hn H) 0
    exact Nat.le_trans q (by omega)
  have eop : op_toil H (mm_a s 45) = nI ((ALL + 1000 - 1) / 1000 * 1000 - ALL) := by rw [op_toil, ← hALL, sp_e2, show ALL + 1000 - 1 = ALL + 999 by omega, Nat.mul_comm]
  rw [← hALL] at clp
  refine aw_aload_n dX0_toil_0 rfl ?_
  refine xx_call0 dX0_toil_1 sX0_271 rfl hW hX (hq.mv hs hX0).xh hs clp rfl (hX.1 0 (by decide)) rfl rfl ⟨Nat.le_of_ble_eq_true rfl, Nat.le_of_ble_eq_true rfl⟩ (by exact Nat.le_of_ble_eq_true rfl) (fun h hX hs => ?_)
  refine aw_istore_n dX0_toil_4 (by decide) rfl rfl ?_
  refine aw_iload_n dX0_toil_5 rfl ?_
  refine aw_sipush (v := nI 1000) dX0_toil_6 rfl ?_
  refine aw_iaddN dX0_toil_9 ?_
  refine aw_iconst (v := nI 1) dX0_toil_10 rfl ?_
  refine aw_isubN dX0_toil_11 (by omega) ?_
  refine aw_sipush (v := nI 1000) dX0_toil_12 rfl ?_
  refine aw_idivN dX0_toil_15 (by omega) (by omega) (by omega) ?_
  refine aw_sipush (v := nI 1000) dX0_toil_16 rfl ?_
  refine aw_imulN dX0_toil_19 ?_
  refine aw_iload_n dX0_toil_20 rfl ?_
  refine aw_isubN dX0_toil_21 (by omega) ?_
  refine aw_ireturn dX0_toil_22 rfl ?_
  exact ⟨by rw [eop], _, mm_core.A rfl mm_core.rf, hX, hs⟩

