set_option maxRecDepth 100000
/-! the component: who lives where -/
set_option maxHeartbeats 4000000 in
theorem xo_lay {s : mm_S} {H : sp_H} {u : Nat} (hn : sp_hn H ≤ 8) : xx_Met yX0_layLives cX0_layLives 2 none 5 0 0 (fun w => [.ref (w.1 0)]) s H u none (mm_setA s 72 (sp_tk1 (sp_hn H) (sp_lv H) (mm_a s 72))) := by
  refine xx_Met.of (by decide +kernel) (fun _ => Nat.le_of_ble_eq_true rfl) (fun G w h0 hW hX hH => ?_)
  have hX0 := hX
  have hs : xx_same w h0 h0 := xx_same.rf
  obtain ⟨tl, te, cap, m9, f9, tn, nm9, c9, mo9, D9, hq⟩ := hH
  show AW G (aw_rm 5 0 0) yX0_layLives cX0_layLives 2 none (aw_N G (xx_Po G w h0 none (mm_setA s 72 (sp_tk1 (sp_hn H) (sp_lv H) (mm_a s 72)))) 0 0) 0 0 h0 0 [(0, .ref (w.1 0))] []
  have loop : ∀ (d k : Nat) (h : aw_H), sp_hn H - k = d → k ≤ sp_hn H → XC G w h (mm_setA s 72 (sp_tk1 k (sp_lv H) (mm_a s 72))) → xx_same w h0 h → AW G (aw_rm 5 0 0) yX0_layLives cX0_layLives 2 none (aw_N G (xx_Po G w h0 none (mm_setA s 72 (sp_tk1 (sp_hn H) (sp_lv H) (mm_a s 72)))) 0 0) 0 0 (h) 2 [(0, .ref (w.1 0)), (1, .int (nI k))] [] := by
    intro d
    induction d using Nat.strongRecOn with
    | _ d ih =>
      intro k h hd hk hX hs
      by_cases hk9 : k < sp_hn H
      ·
        refine aw_iload_n dX0_layLives_2 rfl ?_
        refine aw_aload_n dX0_layLives_3 rfl ?_
        refine xx_call0 dX0_layLives_4 sX0_91 rfl hW hX (hq.mv hs hX0).xh hs xo_many rfl (hX.1 0 (by decide)) rfl rfl ⟨Nat.le_of_ble_eq_true rfl, Nat.le_of_ble_eq_true rfl⟩ (by exact Nat.le_of_ble_eq_true rfl) (fun h hX hs => ?_)
        refine aw_icmp_geN (tgt := 39) dX0_layLives_7 (by decide) (by omega) (by omega) (fun c_7 => by exfalso; omega) (fun c_7 => ?_)
        refine aw_aload_n dX0_layLives_10 rfl ?_
        refine aw_get dX0_layLives_11 fX0_64 rfl (hX.1 0 (by decide)) (by rfl) ?_
        refine aw_iload_n dX0_layLives_14 rfl ?_
        refine aw_aload_n dX0_layLives_15 rfl ?_
        refine aw_get dX0_layLives_16 fX0_19 rfl (hX.1 0 (by decide)) (by rfl) ?_
        refine aw_get dX0_layLives_19 fX0_95 rfl (hq.mv hs hX0).1 (by rfl) ?_
        refine aw_iload_n dX0_layLives_22 rfl ?_
        refine xx_get dX0_layLives_23 sX0_98 rfl (hq.mv hs hX0) (by omega) ⟨Nat.le_of_ble_eq_true rfl, Nat.le_of_ble_eq_true rfl⟩ (by exact Nat.le_of_ble_eq_true rfl) ?_
        refine aw_castS (y := yX0_layLives) dX0_layLives_26 q378 aw_cl7 ((hq.mv hs hX0).ten (by omega)) ?_
        refine aw_get dX0_layLives_29 fX0_192 rfl ((hq.mv hs hX0).ten (by omega)) (by rfl) ?_
        refine xx_stA (c := 12) hW hX hs dX0_layLives_32 rfl (by omega) (fun h hX hs => ?_)
        have hX : XC G w h (mm_setA s 72 (sp_tk1 (k + 1) (sp_lv H) (mm_a s 72))) := xx_AU hX sp_tk1_s.symm
        refine aw_iincN (b := 1) dX0_layLives_33 rfl rfl (by decide) rfl rfl ?_
        refine aw_goto (tgt := 2) dX0_layLives_36 (by decide) ?_
        exact ih (sp_hn H - (k + 1)) (by omega) (k + 1) h rfl (by omega) hX hs
      ·
        refine aw_iload_n dX0_layLives_2 rfl ?_
        refine aw_aload_n dX0_layLives_3 rfl ?_
        refine xx_call0 dX0_layLives_4 sX0_91 rfl hW hX (hq.mv hs hX0).xh hs xo_many rfl (hX.1 0 (by decide)) rfl rfl ⟨Nat.le_of_ble_eq_true rfl, Nat.le_of_ble_eq_true rfl⟩ (by exact Nat.le_of_ble_eq_true rfl) (fun h hX hs => ?_)
        refine aw_icmp_geN (tgt := 39) dX0_layLives_7 (by decide) (by omega) (by omega) (fun c_7 => ?_) (fun c_7 => by exfalso; omega)
        refine aw_vreturn dX0_layLives_39 rfl ?_
        exact ⟨rfl, hX.eqv (by rw [show sp_hn H = k by omega]), hs⟩
  refine aw_iconst (v := nI 0) dX0_layLives_0 rfl ?_
  refine aw_istore_n dX0_layLives_1 (by decide) rfl rfl ?_
  exact loop _ 0 h0 rfl (Nat.zero_le _) (hX.eqv (by rw [sp_tk1_0, mm_A_self])) hs
theorem sp_lay_at {H : sp_H} {f : Nat → Nat} : ∀ t, t < sp_hn H → sp_tk1 (sp_hn H) (sp_lv H) f t = sp_lv H t := fun t ht => if_pos ht
set_option maxHeartbeats 4000000 in
theorem xo_env {s : mm_S} {H : sp_H} {u : Nat} (hOK : sp_okH H) (hl : ∀ t, t < sp_hn H → mm_a s 72 t ≤ 20) : xx_Met yX0_enviesBy cX0_enviesBy 5 (some .int) 5 0 0 (fun w => [.ref (w.1 0), .ref (w.1 12)]) s H u (some (.int (nI (sp_envs H (mm_a s 72))))) (s) := by
  refine xx_Met.of (by decide +kernel) (fun _ => Nat.le_of_ble_eq_true rfl) (fun G w h0 hW hX hH => ?_)
  have hX0 := hX
  have hs : xx_same w h0 h0 := xx_same.rf
  obtain ⟨tl, te, cap, m9, f9, tn, nm9, c9, mo9, D9, hq⟩ := hH
  show AW G (aw_rm 5 0 0) yX0_enviesBy cX0_enviesBy 5 (some .int) (aw_N G (xx_Po G w h0 (some (.int (nI (sp_envs H (mm_a s 72))))) (s)) 0 0) 0 0 h0 0 [(0, .ref (w.1 0)), (1, .ref (w.1 12))] []
  have hs1 : 1 ≤ sp_hs H := hOK.1.1; have hs20 : sp_hs H ≤ 20 := hOK.1.2; have hn : sp_hn H ≤ 8 := hOK.2.1; have hlv : ∀ t, t < 8 → sp_lv H t ≤ 20 := fun t ht => (hOK.2.2.1 t ht).1; have hsg : ∀ t, t < 8 → sp_sg8 H t ≤ 40 := fun t ht => (hOK.2.2.1 t ht).2.1; have hhv : ∀ t, t < 8 → sp_hv H t ≤ 9 := fun t ht => (hOK.2.2.1 t ht).2.2.1; have how : ∀ t, t < 8 → sp_ow H t ≤ 999 := fun t ht => (hOK.2.2.1 t ht).2.2.2.1; have hfl : ∀ t, t < 8 → sp_fl H t ≤ 100 := fun t ht => (hOK.2.2.1 t ht).2.2.2.2
  have outer : ∀ (d a : Nat) (h : aw_H), sp_hn H - a = d → a ≤ sp_hn H → XC G w h s → xx_same w h0 h → AW G (aw_rm 5 0 0) yX0_enviesBy cX0_enviesBy 5 (some .int) (aw_N G (xx_Po G w h0 (some (.int (nI (sp_envs H (mm_a s 72))))) (s)) 0 0) 0 0 (h) 4 [(0, .ref (w.1 0)), (1, .ref (w.1 12)), (2, .int (nI (sp_sum (fun a => sp_sum (sp_envT H (mm_a s 72) a) (sp_hn H)) a))), (3, .int (nI a))] [] := by
    intro d
    induction d using Nat.strongRecOn with
    | _ d ih =>
      intro a h hd ha hX hs
      by_cases ha9 : a < sp_hn H
      · have inner : ∀ (e b : Nat) (h : aw_H), sp_hn H - b = e → b ≤ sp_hn H → XC G w h s → xx_same w h0 h → AW G (aw_rm 5 0 0) yX0_enviesBy cX0_enviesBy 5 (some .int) (aw_N G (xx_Po G w h0 (some (.int (nI (sp_envs H (mm_a s 72))))) (s)) 0 0) 0 0 (h) 15 [(0, .ref (w.1 0)), (1, .ref (w.1 12)), (2, .int (nI (sp_sum (fun a => sp_sum (sp_envT H (mm_a s 72) a) (sp_hn H)) a + sp_sum (sp_envT H (mm_a s 72) a) b))), (3, .int (nI a)), (4, .int (nI b))] [] := by
          intro e
          induction e using Nat.strongRecOn with
          | _ e ihb =>
            intro b h he hb hX hs
            by_cases hb9 : b < sp_hn H
            · have la := hl a (by omega)
              have lb := hl b (by omega)
              have oa := how a (by omega)
              have ob := how b (by omega)
              have next : ∀ (h : aw_H) (v : Nat), v = sp_sum (fun a => sp_sum (sp_envT H (mm_a s 72) a) (sp_hn H)) a + sp_sum (sp_envT H (mm_a s 72) a) (b + 1) → XC G w h s → xx_same w h0 h → AW G (aw_rm 5 0 0) yX0_enviesBy cX0_enviesBy 5 (some .int) (aw_N G (xx_Po G w h0 (some (.int (nI (sp_envs H (mm_a s 72))))) (s)) 0 0) 0 0 (h) 75 [(0, .ref (w.1 0)), (1, .ref (w.1 12)), (2, .int (nI v)), (3, .int (nI a)), (4, .int (nI b))] [] := by
                intro h v ev hX hs
                subst ev
                refine aw_iincN (b := 1) dX0_enviesBy_75 rfl rfl (by decide) rfl rfl ?_
                refine aw_goto (tgt := 15) dX0_enviesBy_78 (by decide) ?_
                exact ihb (sp_hn H - (b + 1)) (by omega) (b + 1) h rfl (by omega) hX hs
              refine aw_iload dX0_enviesBy_15 rfl ?_
              refine aw_aload_n dX0_enviesBy_17 rfl ?_
              refine xx_call0 dX0_enviesBy_18 sX0_91 rfl hW hX (hq.mv hs hX0).xh hs xo_many rfl (hX.1 0 (by decide)) rfl rfl ⟨Nat.le_of_ble_eq_true rfl, Nat.le_of_ble_eq_true rfl⟩ (by exact Nat.le_of_ble_eq_true rfl) (fun h hX hs => ?_)
              refine aw_icmp_geN (tgt := 81) dX0_enviesBy_21 (by decide) (by omega) (by omega) (fun c_21 => by exfalso; omega) (fun c_21 => ?_)
              refine aw_aload_n dX0_enviesBy_24 rfl ?_
              refine aw_iload dX0_enviesBy_25 rfl ?_
              refine xx_ialdA (c := 12) dX0_enviesBy_27 hX rfl (by omega) ?_
              refine aw_aload_n dX0_enviesBy_28 rfl ?_
              refine aw_iload_n dX0_enviesBy_29 rfl ?_
              refine xx_ialdA (c := 12) dX0_enviesBy_30 hX rfl (by omega) ?_
              refine aw_icmp_gtN (tgt := 75) dX0_enviesBy_31 (by decide) (by omega) (by omega) (fun c_31 => ?_) (fun c_31 => ?_)
              · refine next h _ ?_ hX hs
                show _ = _ + (sp_sum (sp_envT H (mm_a s 72) a) b + sp_envT H (mm_a s 72) a b)
                unfold sp_envT
                first
                  | (rw [if_pos (show mm_a s 72 b ≤ mm_a s 72 a ∧ sp_ow H b < sp_ow H a by omega)]; rfl)
                  | (rw [if_neg (show ¬ (mm_a s 72 b ≤ mm_a s 72 a ∧ sp_ow H b < sp_ow H a) by omega)]; rfl)
              · refine aw_aload_n dX0_enviesBy_34 rfl ?_
                refine aw_get dX0_enviesBy_35 fX0_19 rfl (hX.1 0 (by decide)) (by rfl) ?_
                refine aw_get dX0_enviesBy_38 fX0_95 rfl (hq.mv hs hX0).1 (by rfl) ?_
                refine aw_iload dX0_enviesBy_41 rfl ?_
                refine xx_get dX0_enviesBy_43 sX0_98 rfl (hq.mv hs hX0) (by omega) ⟨Nat.le_of_ble_eq_true rfl, Nat.le_of_ble_eq_true rfl⟩ (by exact Nat.le_of_ble_eq_true rfl) ?_
                refine aw_castS (y := yX0_enviesBy) dX0_enviesBy_46 q378 aw_cl7 ((hq.mv hs hX0).ten (by omega)) ?_
                refine aw_get dX0_enviesBy_49 fX0_198 rfl ((hq.mv hs hX0).ten (by omega)) (by rfl) ?_
                refine aw_aload_n dX0_enviesBy_52 rfl ?_
                refine aw_get dX0_enviesBy_53 fX0_19 rfl (hX.1 0 (by decide)) (by rfl) ?_
                refine aw_get dX0_enviesBy_56 fX0_95 rfl (hq.mv hs hX0).1 (by rfl) ?_
                refine aw_iload_n dX0_enviesBy_59 rfl ?_
                refine xx_get dX0_enviesBy_60 sX0_98 rfl (hq.mv hs hX0) (by omega) ⟨Nat.le_of_ble_eq_true rfl, Nat.le_of_ble_eq_true rfl⟩ (by exact Nat.le_of_ble_eq_true rfl) ?_
                refine aw_castS (y := yX0_enviesBy) dX0_enviesBy_63 q378 aw_cl7 ((hq.mv hs hX0).ten (by omega)) ?_
                refine aw_get dX0_enviesBy_66 fX0_198 rfl ((hq.mv hs hX0).ten (by omega)) (by rfl) ?_
                refine aw_icmp_geN (tgt := 75) dX0_enviesBy_69 (by decide) (by omega) (by omega) (fun c_69 => ?_) (fun c_69 => ?_)
                · refine next h _ ?_ hX hs
                  show _ = _ + (sp_sum (sp_envT H (mm_a s 72) a) b + sp_envT H (mm_a s 72) a b)
                  unfold sp_envT
                  first
                    | (rw [if_pos (show mm_a s 72 b ≤ mm_a s 72 a ∧ sp_ow H b < sp_ow H a by omega)]; rfl)
                    | (rw [if_neg (show ¬ (mm_a s 72 b ≤ mm_a s 72 a ∧ sp_ow H b < sp_ow H a) by omega)]; rfl)
                · refine aw_iincN (b := 1) dX0_enviesBy_72 rfl rfl (by decide) rfl rfl ?_
                  refine next h _ ?_ hX hs
                  show _ = _ + (sp_sum (sp_envT H (mm_a s 72) a) b + sp_envT H (mm_a s 72) a b)
                  unfold sp_envT
                  first
                    | (rw [if_pos (show mm_a s 72 b ≤ mm_a s 72 a ∧ sp_ow H b < sp_ow H a by omega)]; rfl)
                    | (rw [if_neg (show ¬ (mm_a s 72 b ≤ mm_a s 72 a ∧ sp_ow H b < sp_ow H a) by omega)]; rfl)
            ·
              refine aw_iload dX0_enviesBy_15 rfl ?_
              refine aw_aload_n dX0_enviesBy_17 rfl ?_
              refine xx_call0 dX0_enviesBy_18 sX0_91 rfl hW hX (hq.mv hs hX0).xh hs xo_many rfl (hX.1 0 (by decide)) rfl rfl ⟨Nat.le_of_ble_eq_true rfl, Nat.le_of_ble_eq_true rfl⟩ (by exact Nat.le_of_ble_eq_true rfl) (fun h hX hs => ?_)
              refine aw_icmp_geN (tgt := 81) dX0_enviesBy_21 (by decide) (by omega) (by omega) (fun c_21 => ?_) (fun c_21 => by exfalso; omega)
              refine aw_iincN (b := 1) dX0_enviesBy_81 rfl rfl (by decide) rfl rfl ?_
              refine aw_goto (tgt := 4) dX0_enviesBy_84 (by decide) ?_
              refine AW_ls ?_ (AW_dr (r := [(4, .int (nI b))]) (ih (sp_hn H - (a + 1)) (by omega) (a + 1) h rfl (by omega) hX hs))
              rw [show b = sp_hn H by omega]
              rfl
        refine aw_iload_n dX0_enviesBy_4 rfl ?_
        refine aw_aload_n dX0_enviesBy_5 rfl ?_
        refine xx_call0 dX0_enviesBy_6 sX0_91 rfl hW hX (hq.mv hs hX0).xh hs xo_many rfl (hX.1 0 (by decide)) rfl rfl ⟨Nat.le_of_ble_eq_true rfl, Nat.le_of_ble_eq_true rfl⟩ (by exact Nat.le_of_ble_eq_true rfl) (fun h hX hs => ?_)
        refine aw_icmp_geN (tgt := 87) dX0_enviesBy_9 (by decide) (by omega) (by omega) (fun c_9 => by exfalso; omega) (fun c_9 => ?_)
        refine aw_iconst (v := nI 0) dX0_enviesBy_12 rfl ?_
        refine aw_istore dX0_enviesBy_13 (by decide) rfl rfl ?_
        exact inner _ 0 h rfl (Nat.zero_le _) hX hs
      ·
        refine aw_iload_n dX0_enviesBy_4 rfl ?_
        refine aw_aload_n dX0_enviesBy_5 rfl ?_
        refine xx_call0 dX0_enviesBy_6 sX0_91 rfl hW hX (hq.mv hs hX0).xh hs xo_many rfl (hX.1 0 (by decide)) rfl rfl ⟨Nat.le_of_ble_eq_true rfl, Nat.le_of_ble_eq_true rfl⟩ (by exact Nat.le_of_ble_eq_true rfl) (fun h hX hs => ?_)
        refine aw_icmp_geN (tgt := 87) dX0_enviesBy_9 (by decide) (by omega) (by omega) (fun c_9 => ?_) (fun c_9 => by exfalso; omega)
        refine aw_iload_n dX0_enviesBy_87 rfl ?_
        refine aw_ireturn dX0_enviesBy_88 rfl ?_
        exact ⟨by rw [show a = sp_hn H by omega]; rfl, hX, hs⟩
  refine aw_iconst (v := nI 0) dX0_enviesBy_0 rfl ?_
  refine aw_istore_n dX0_enviesBy_1 (by decide) rfl rfl ?_
  refine aw_iconst (v := nI 0) dX0_enviesBy_2 rfl ?_
  refine aw_istore_n dX0_enviesBy_3 (by decide) rfl rfl ?_
  exact outer _ 0 h0 rfl (Nat.zero_le _) hX hs
theorem sp_lay_le {H : sp_H} {f : Nat → Nat} (hn : sp_hn H ≤ 8) (hl : ∀ t, t < 8 → sp_lv H t ≤ 20) : ∀ t, t < sp_hn H → sp_tk1 (sp_hn H) (sp_lv H) f t ≤ 20 := fun t ht => by
  rw [sp_lay_at t ht]
  exact hl t (by omega)
set_option maxHeartbeats 4000000 in
theorem xo_quar {s : mm_S} {H : sp_H} {u : Nat} (hOK : sp_okH H) : xx_Met yX0_quarrel cX0_quarrel 1 (some .int) 6 0 0 (fun w => [.ref (w.1 0)]) s H u (some (.int (nI (sp_envs H (sp_lv H))))) (mm_setA s 72 (sp_tk1 (sp_hn H) (sp_lv H) (mm_a s 72))) := by
  refine xx_Met.of (by decide +kernel) (fun _ => Nat.le_of_ble_eq_true rfl) (fun G w h0 hW hX hH => ?_)
  have hX0 := hX
  have hs : xx_same w h0 h0 := xx_same.rf
  obtain ⟨tl, te, cap, m9, f9, tn, nm9, c9, mo9, D9, hq⟩ := hH
  show AW G (aw_rm 6 0 0) yX0_quarrel cX0_quarrel 1 (some .int) (aw_N G (xx_Po G w h0 (some (.int (nI (sp_envs H (sp_lv H))))) (mm_setA s 72 (sp_tk1 (sp_hn H) (sp_lv H) (mm_a s 72)))) 0 0) 0 0 h0 0 [(0, .ref (w.1 0))] []
  have hs1 : 1 ≤ sp_hs H := hOK.1.1; have hs20 : sp_hs H ≤ 20 := hOK.1.2; have hn : sp_hn H ≤ 8 := hOK.2.1; have hlv : ∀ t, t < 8 → sp_lv H t ≤ 20 := fun t ht => (hOK.2.2.1 t ht).1; have hsg : ∀ t, t < 8 → sp_sg8 H t ≤ 40 := fun t ht => (hOK.2.2.1 t ht).2.1; have hhv : ∀ t, t < 8 → sp_hv H t ≤ 9 := fun t ht => (hOK.2.2.1 t ht).2.2.1; have how : ∀ t, t < 8 → sp_ow H t ≤ 999 := fun t ht => (hOK.2.2.1 t ht).2.2.2.1; have hfl : ∀ t, t < 8 → sp_fl H t ≤ 100 := fun t ht => (hOK.2.2.1 t ht).2.2.2.2
  refine aw_aload_n dX0_quarrel_0 rfl ?_
  refine xx_call0 dX0_quarrel_1 sX0_289 rfl hW hX (hq.mv hs hX0).xh hs (xo_lay hn) rfl (hX.1 0 (by decide)) rfl rfl ⟨Nat.le_of_ble_eq_true rfl, Nat.le_of_ble_eq_true rfl⟩ (by exact Nat.le_of_ble_eq_true rfl) (fun h hX hs => ?_)
  refine aw_aload_n dX0_quarrel_4 rfl ?_
  refine aw_aload_n dX0_quarrel_5 rfl ?_
  refine aw_get dX0_quarrel_6 fX0_64 rfl (hX.1 0 (by decide)) (by rfl) ?_
  refine xx_call0 dX0_quarrel_9 sX0_292 rfl hW hX (hq.mv hs hX0).xh hs ((xo_env (s := mm_setA s 72 (sp_tk1 (sp_hn H) (sp_lv H) (mm_a s 72))) hOK (sp_lay_le hn hlv)).eqv (r' := some (.int (nI (sp_envs H (sp_lv H))))) (congrArg (fun x => some (Value.int (nI x))) (sp_envs_c (fun t ht => sp_lay_at t ht))) rfl) rfl (hX.1 0 (by decide)) rfl rfl ⟨Nat.le_of_ble_eq_true rfl, Nat.le_of_ble_eq_true rfl⟩ (by exact Nat.le_of_ble_eq_true rfl) (fun h hX hs => ?_)
  try simp only [mm_n_N, mm_n_A, mm_n_V, mm_n_Fp, mm_n_W, mm_n_Nm, mm_a_N, mm_a_A, mm_a_V, mm_a_Fp, mm_a_W, mm_a_Nm, mm_v_N, mm_v_A, mm_v_V, mm_fp_N, mm_fp_A, mm_fp_Fp, mm_w_N, mm_w_W, Nat.reduceEqDiff, reduceIte, if_true, if_false, mm_H_45, mm_H_46, mm_H_47, mm_H_50, mm_H_53, mm_H_54, mm_H_55, mm_H_56, mm_H_57, mm_H_58, mm_H_66, mm_H_67, mm_H_68, eq_self]
  refine aw_ireturn dX0_quarrel_12 rfl ?_
  exact ⟨rfl, hX, hs⟩
set_option maxHeartbeats 4000000 in
theorem xo_quarrel {s : mm_S} {H : sp_H} {u : Nat} (hOK : sp_okH H) : xx_Op yX0_quarrel cX0_quarrel 1 (some .int) 7 0 0 (fun w => [.ref (w.1 0)]) s H u (some (.int (op_quarrel H))) (s) := by
  refine xx_Op.of (by decide +kernel) (fun _ => Nat.le_of_ble_eq_true rfl) (fun G w h0 hW hX hH => ?_)
  have hX0 := hX
  have hs : xx_same w h0 h0 := xx_same.rf
  obtain ⟨tl, te, cap, m9, f9, tn, nm9, c9, mo9, D9, hq⟩ := hH
  show AW G (aw_rm 7 0 0) yX0_quarrel cX0_quarrel 1 (some .int) (aw_N G (xx_PoC G w h0 (some (.int (op_quarrel H))) (s)) 0 0) 0 0 h0 0 [(0, .ref (w.1 0))] []
  have hs1 : 1 ≤ sp_hs H := hOK.1.1; have hs20 : sp_hs H ≤ 20 := hOK.1.2; have hn : sp_hn H ≤ 8 := hOK.2.1; have hlv : ∀ t, t < 8 → sp_lv H t ≤ 20 := fun t ht => (hOK.2.2.1 t ht).1; have hsg : ∀ t, t < 8 → sp_sg8 H t ≤ 40 := fun t ht => (hOK.2.2.1 t ht).2.1; have hhv : ∀ t, t < 8 → sp_hv H t ≤ 9 := fun t ht => (hOK.2.2.1 t ht).2.2.1; have how : ∀ t, t < 8 → sp_ow H t ≤ 999 := fun t ht => (hOK.2.2.1 t ht).2.2.2.1; have hfl : ∀ t, t < 8 → sp_fl H t ≤ 100 := fun t ht => (hOK.2.2.1 t ht).2.2.2.2
  refine aw_aload_n dX0_quarrel_0 rfl ?_
  refine xx_call0 dX0_quarrel_1 sX0_289 rfl hW hX (hq.mv hs hX0).xh hs (xo_lay hn) rfl (hX.1 0 (by decide)) rfl rfl ⟨Nat.le_of_ble_eq_true rfl, Nat.le_of_ble_eq_true rfl⟩ (by exact Nat.le_of_ble_eq_true rfl) (fun h hX hs => ?_)
  refine aw_aload_n dX0_quarrel_4 rfl ?_
  refine aw_aload_n dX0_quarrel_5 rfl ?_
  refine aw_get dX0_quarrel_6 fX0_64 rfl (hX.1 0 (by decide)) (by rfl) ?_
  refine xx_call0 dX0_quarrel_9 sX0_292 rfl hW hX (hq.mv hs hX0).xh hs ((xo_env (s := mm_setA s 72 (sp_tk1 (sp_hn H) (sp_lv H) (mm_a s 72))) hOK (sp_lay_le hn hlv)).eqv (r' := some (.int (nI (sp_envs H (sp_lv H))))) (congrArg (fun x => some (Value.int (nI x))) (sp_envs_c (fun t ht => sp_lay_at t ht))) rfl) rfl (hX.1 0 (by decide)) rfl rfl ⟨Nat.le_of_ble_eq_true rfl, Nat.le_of_ble_eq_true rfl⟩ (by exact Nat.le_of_ble_eq_true rfl) (fun h hX hs => ?_)
  try simp only [mm_n_N, mm_n_A, mm_n_V, mm_n_Fp, mm_n_W, mm_n_Nm, mm_a_N, mm_a_A, mm_a_V, mm_a_Fp, mm_a_W, mm_a_Nm, mm_v_N, mm_v_A, mm_v_V, mm_fp_N, mm_fp_A, mm_fp_Fp, mm_w_N, mm_w_W, Nat.reduceEqDiff, reduceIte, if_true, if_false, mm_H_45, mm_H_46, mm_H_47, mm_H_50, mm_H_53, mm_H_54, mm_H_55, mm_H_56, mm_H_57, mm_H_58, mm_H_66, mm_H_67, mm_H_68, eq_self]
  refine aw_ireturn dX0_quarrel_12 rfl ?_
  exact ⟨rfl, _, mm_core.A rfl mm_core.rf, hX, hs⟩
set_option maxHeartbeats 4000000 in
theorem xo_envies {s : mm_S} {H : sp_H} {u : Nat} {t : Int32} (hOK : sp_okH H) : xx_Op yX0_envies cX0_envies 5 (some .int) 6 0 0 (fun w => [.ref (w.1 0), .int (t)]) s H u (some (.int (op_envies H t))) (s) := by
  refine xx_Op.of (by decide +kernel) (fun _ => Nat.le_of_ble_eq_true rfl) (fun G w h0 hW hX hH => ?_)
  have hX0 := hX
  have hs : xx_same w h0 h0 := xx_same.rf
  obtain ⟨tl, te, cap, m9, f9, tn, nm9, c9, mo9, D9, hq⟩ := hH
  show AW G (aw_rm 6 0 0) yX0_envies cX0_envies 5 (some .int) (aw_N G (xx_PoC G w h0 (some (.int (op_envies H t))) (s)) 0 0) 0 0 h0 0 [(0, .ref (w.1 0)), (1, .int (t))] []
  have hs1 : 1 ≤ sp_hs H := hOK.1.1; have hs20 : sp_hs H ≤ 20 := hOK.1.2; have hn : sp_hn H ≤ 8 := hOK.2.1; have hlv : ∀ t, t < 8 → sp_lv H t ≤ 20 := fun t ht => (hOK.2.2.1 t ht).1; have hsg : ∀ t, t < 8 → sp_sg8 H t ≤ 40 := fun t ht => (hOK.2.2.1 t ht).2.1; have hhv : ∀ t, t < 8 → sp_hv H t ≤ 9 := fun t ht => (hOK.2.2.1 t ht).2.2.1; have how : ∀ t, t < 8 → sp_ow H t ≤ 999 := fun t ht => (hOK.2.2.1 t ht).2.2.2.1; have hfl : ∀ t, t < 8 → sp_fl H t ≤ 100 := fun t ht => (hOK.2.2.1 t ht).2.2.2.2
  by_cases z : sp_isT H t
  · have z2 := z
    obtain ⟨t', ht, rfl, t1, t2⟩ := aw_ofN z2.1
    have ht9 : t' < sp_hn H := by have := z.2; omega
    have fin : op_envies H (nI t') = nI (sp_or (sp_envT H (sp_lv H) t') (sp_hn H)) := by rw [op_envies, aw_if1 z, t2]
    rw [fin]
    have lt := hlv t' (by omega)
    have ot := how t' (by omega)
    have loop : ∀ (d k : Nat) (h : aw_H), sp_hn H - k = d → k ≤ sp_hn H → XC G w h s → xx_same w h0 h → AW G (aw_rm 6 0 0) yX0_envies cX0_envies 5 (some .int) (aw_N G (xx_PoC G w h0 (some (.int (nI (sp_or (sp_envT H (sp_lv H) t') (sp_hn H))))) (s)) 0 0) 0 0 (h) 30 [(0, .ref (w.1 0)), (1, .int (nI t')), (2, .ref (tn t')), (3, .int (nI (sp_or (sp_envT H (sp_lv H) t') k))), (4, .int (nI k))] [] := by
      intro d
      induction d using Nat.strongRecOn with
      | _ d ih =>
        intro k h hd hk hX hs
        by_cases hk9 : k < sp_hn H
        · have lk := hlv k (by omega)
          have ok := how k (by omega)
          have next : ∀ (h : aw_H) (v : Nat), v = sp_or (sp_envT H (sp_lv H) t') (k + 1) → XC G w h s → xx_same w h0 h → AW G (aw_rm 6 0 0) yX0_envies cX0_envies 5 (some .int) (aw_N G (xx_PoC G w h0 (some (.int (nI (sp_or (sp_envT H (sp_lv H) t') (sp_hn H))))) (s)) 0 0) 0 0 (h) 96 [(0, .ref (w.1 0)), (1, .int (nI t')), (2, .ref (tn t')), (3, .int (nI v)), (4, .int (nI k))] [] := by
            intro h v ev hX hs
            subst ev
            refine aw_iincN (b := 1) dX0_envies_96 rfl rfl (by decide) rfl rfl ?_
            refine aw_goto (tgt := 30) dX0_envies_99 (by decide) ?_
            exact ih (sp_hn H - (k + 1)) (by omega) (k + 1) h rfl (by omega) hX hs
          refine aw_iload dX0_envies_30 rfl ?_
          refine aw_aload_n dX0_envies_32 rfl ?_
          refine xx_call0 dX0_envies_33 sX0_91 rfl hW hX (hq.mv hs hX0).xh hs xo_many rfl (hX.1 0 (by decide)) rfl rfl ⟨Nat.le_of_ble_eq_true rfl, Nat.le_of_ble_eq_true rfl⟩ (by exact Nat.le_of_ble_eq_true rfl) (fun h hX hs => ?_)
          refine aw_icmp_geN (tgt := 102) dX0_envies_36 (by decide) (by omega) (by omega) (fun c_36 => by exfalso; omega) (fun c_36 => ?_)
          refine aw_aload_n dX0_envies_39 rfl ?_
          refine aw_get dX0_envies_40 fX0_19 rfl (hX.1 0 (by decide)) (by rfl) ?_
          refine aw_get dX0_envies_43 fX0_95 rfl (hq.mv hs hX0).1 (by rfl) ?_
          refine aw_iload dX0_envies_46 rfl ?_
          refine xx_get dX0_envies_48 sX0_98 rfl (hq.mv hs hX0) (by omega) ⟨Nat.le_of_ble_eq_true rfl, Nat.le_of_ble_eq_true rfl⟩ (by exact Nat.le_of_ble_eq_true rfl) ?_
          refine aw_castS (y := yX0_envies) dX0_envies_51 q378 aw_cl7 ((hq.mv hs hX0).ten (by omega)) ?_
          refine aw_get dX0_envies_54 fX0_192 rfl ((hq.mv hs hX0).ten (by omega)) (by rfl) ?_
          refine aw_aload_n dX0_envies_57 rfl ?_
          refine aw_get dX0_envies_58 fX0_192 rfl ((hq.mv hs hX0).ten (by omega)) (by rfl) ?_
          refine aw_icmp_gtN (tgt := 96) dX0_envies_61 (by decide) (by omega) (by omega) (fun c_61 => ?_) (fun c_61 => ?_)
          · refine next h _ ?_ hX hs
            show _ = sp_or _ k ||| sp_envT H (sp_lv H) t' k * 2 ^ k
            unfold sp_envT
            first
              | rw [if_pos (show sp_lv H k ≤ sp_lv H t' ∧ sp_ow H k < sp_ow H t' by omega)]
              | rw [if_neg (show ¬ (sp_lv H k ≤ sp_lv H t' ∧ sp_ow H k < sp_ow H t') by omega), Nat.zero_mul, Nat.or_zero]
          · refine aw_aload_n dX0_envies_64 rfl ?_
            refine aw_get dX0_envies_65 fX0_19 rfl (hX.1 0 (by decide)) (by rfl) ?_
            refine aw_get dX0_envies_68 fX0_95 rfl (hq.mv hs hX0).1 (by rfl) ?_
            refine aw_iload dX0_envies_71 rfl ?_
            refine xx_get dX0_envies_73 sX0_98 rfl (hq.mv hs hX0) (by omega) ⟨Nat.le_of_ble_eq_true rfl, Nat.le_of_ble_eq_true rfl⟩ (by exact Nat.le_of_ble_eq_true rfl) ?_
            refine aw_castS (y := yX0_envies) dX0_envies_76 q378 aw_cl7 ((hq.mv hs hX0).ten (by omega)) ?_
            refine aw_get dX0_envies_79 fX0_198 rfl ((hq.mv hs hX0).ten (by omega)) (by rfl) ?_
            refine aw_aload_n dX0_envies_82 rfl ?_
            refine aw_get dX0_envies_83 fX0_198 rfl ((hq.mv hs hX0).ten (by omega)) (by rfl) ?_
            refine aw_icmp_geN (tgt := 96) dX0_envies_86 (by decide) (by omega) (by omega) (fun c_86 => ?_) (fun c_86 => ?_)
            · refine next h _ ?_ hX hs
              show _ = sp_or _ k ||| sp_envT H (sp_lv H) t' k * 2 ^ k
              unfold sp_envT
              first
                | rw [if_pos (show sp_lv H k ≤ sp_lv H t' ∧ sp_ow H k < sp_ow H t' by omega)]
                | rw [if_neg (show ¬ (sp_lv H k ≤ sp_lv H t' ∧ sp_ow H k < sp_ow H t') by omega), Nat.zero_mul, Nat.or_zero]
            · refine aw_iload_n dX0_envies_89 rfl ?_
              refine aw_iconst (v := nI 1) dX0_envies_90 rfl ?_
              refine aw_iload dX0_envies_91 rfl ?_
              refine aw_ishlN dX0_envies_93 (by first | omega | exact aw_sh1 (by decide) (by omega)) (by first | omega | exact aw_sh1 (by decide) (by omega)) ?_
              refine aw_iorN dX0_envies_94 ?_
              refine aw_istore_n dX0_envies_95 (by decide) rfl rfl ?_
              refine next h _ ?_ hX hs
              show _ = sp_or _ k ||| sp_envT H (sp_lv H) t' k * 2 ^ k
              unfold sp_envT
              first
                | rw [if_pos (show sp_lv H k ≤ sp_lv H t' ∧ sp_ow H k < sp_ow H t' by omega)]
                | rw [if_neg (show ¬ (sp_lv H k ≤ sp_lv H t' ∧ sp_ow H k < sp_ow H t') by omega), Nat.zero_mul, Nat.or_zero]
        ·
          refine aw_iload dX0_envies_30 rfl ?_
          refine aw_aload_n dX0_envies_32 rfl ?_
          refine xx_call0 dX0_envies_33 sX0_91 rfl hW hX (hq.mv hs hX0).xh hs xo_many rfl (hX.1 0 (by decide)) rfl rfl ⟨Nat.le_of_ble_eq_true rfl, Nat.le_of_ble_eq_true rfl⟩ (by exact Nat.le_of_ble_eq_true rfl) (fun h hX hs => ?_)
          refine aw_icmp_geN (tgt := 102) dX0_envies_36 (by decide) (by omega) (by omega) (fun c_36 => ?_) (fun c_36 => by exfalso; omega)
          refine aw_iload_n dX0_envies_102 rfl ?_
          refine aw_ireturn dX0_envies_103 rfl ?_
          exact ⟨by rw [show sp_hn H = k by omega], _, mm_core.rf, hX, hs⟩
    refine aw_aload_n dX0_envies_0 rfl ?_
    refine aw_iload_n dX0_envies_1 rfl ?_
    refine xx_call0 dX0_envies_2 sX0_188 rfl hW hX (hq.mv hs hX0).xh hs (xo_isT hn) rfl (hX.1 0 (by decide)) rfl rfl ⟨Nat.le_of_ble_eq_true rfl, Nat.le_of_ble_eq_true rfl⟩ (by exact Nat.le_of_ble_eq_true rfl) (fun h hX hs => ?_)
    refine aw_if_neB (tgt := 10) dX0_envies_5 (by decide) (fun c_5 => ?_) (fun c_5 => by exfalso; exact c_5 z)
    refine aw_aload_n dX0_envies_10 rfl ?_
    refine aw_get dX0_envies_11 fX0_19 rfl (hX.1 0 (by decide)) (by rfl) ?_
    refine aw_get dX0_envies_14 fX0_95 rfl (hq.mv hs hX0).1 (by rfl) ?_
    refine aw_iload_n dX0_envies_17 rfl ?_
    refine xx_get dX0_envies_18 sX0_98 rfl (hq.mv hs hX0) (by omega) ⟨Nat.le_of_ble_eq_true rfl, Nat.le_of_ble_eq_true rfl⟩ (by exact Nat.le_of_ble_eq_true rfl) ?_
    refine aw_castS (y := yX0_envies) dX0_envies_21 q378 aw_cl7 ((hq.mv hs hX0).ten (by omega)) ?_
    refine aw_astore_n dX0_envies_24 (by decide) rfl rfl ?_
    refine aw_iconst (v := nI 0) dX0_envies_25 rfl ?_
    refine aw_istore_n dX0_envies_26 (by decide) rfl rfl ?_
    refine aw_iconst (v := nI 0) dX0_envies_27 rfl ?_
    refine aw_istore dX0_envies_28 (by decide) rfl rfl ?_
    exact loop _ 0 h rfl (Nat.zero_le _) hX hs
  ·
    refine aw_aload_n dX0_envies_0 rfl ?_
    refine aw_iload_n dX0_envies_1 rfl ?_
    refine xx_call0 dX0_envies_2 sX0_188 rfl hW hX (hq.mv hs hX0).xh hs (xo_isT hn) rfl (hX.1 0 (by decide)) rfl rfl ⟨Nat.le_of_ble_eq_true rfl, Nat.le_of_ble_eq_true rfl⟩ (by exact Nat.le_of_ble_eq_true rfl) (fun h hX hs => ?_)
    refine aw_if_neB (tgt := 10) dX0_envies_5 (by decide) (fun c_5 => by exfalso; exact z c_5) (fun c_5 => ?_)
    refine aw_iconst (v := -1) dX0_envies_8 rfl ?_
    refine aw_ireturn dX0_envies_9 rfl ?_
    exact ⟨by rw [op_envies, aw_if0 z], _, mm_core.rf, hX, hs⟩

