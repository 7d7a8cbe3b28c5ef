set_option maxRecDepth 100000
/-! the component: calm -/
set_option maxHeartbeats 4000000 in
theorem xo_calm {s : mm_S} {H : sp_H} {u : Nat} {q : Int32} (hOK : sp_okH H) : xx_Op yX0_calm cX0_calm 7 (some .int) 7 0 0 (fun w => [.ref (w.1 0), .int (q)]) s H u (some (.int (op_calm H q))) (s) := by
  refine xx_Op.of (by decide +kernel) (fun _ => Nat.le_of_ble_eq_true rfl) (fun G w h0 hW hX hH => ?_)
  have hX0 := hX
  have hs : xx_same w h0 h0 := xx_same.rf
  obtain ⟨tl, te, cap, m9, f9, tn, nm9, c9, mo9, D9, hq⟩ := hH
  show AW G (aw_rm 7 0 0) yX0_calm cX0_calm 7 (some .int) (aw_N G (xx_PoC G w h0 (some (.int (op_calm H q))) (s)) 0 0) 0 0 h0 0 [(0, .ref (w.1 0)), (1, .int (q))] []
  have hs1 : 1 ≤ sp_hs H := hOK.1.1; have hs20 : sp_hs H ≤ 20 := hOK.1.2; have hn : sp_hn H ≤ 8 := hOK.2.1; have hlv : ∀ t, t < 8 → sp_lv H t ≤ 20 := fun t ht => (hOK.2.2.1 t ht).1; have hsg : ∀ t, t < 8 → sp_sg8 H t ≤ 40 := fun t ht => (hOK.2.2.1 t ht).2.1; have hhv : ∀ t, t < 8 → sp_hv H t ≤ 9 := fun t ht => (hOK.2.2.1 t ht).2.2.1; have how : ∀ t, t < 8 → sp_ow H t ≤ 999 := fun t ht => (hOK.2.2.1 t ht).2.2.2.1; have hfl : ∀ t, t < 8 → sp_fl H t ≤ 100 := fun t ht => (hOK.2.2.1 t ht).2.2.2.2
  have p0 : ((0 : Nat), sp_envs H (sp_lv H)).1 ≤ 64 ∧ ((0 : Nat), sp_envs H (sp_lv H)).2 ≤ 64 := ⟨Nat.zero_le _, sp_envs_le hn⟩
  have okC := sp_co_ok (H := H) hn p0
  have fin : ∀ (h : aw_H) (p : Nat × Nat) (B : Nat → Nat), p = sp_calm H → XC G w h (mm_setA s 72 B) → xx_same w h0 h → AW G (aw_rm 7 0 0) yX0_calm cX0_calm 7 (some .int) (aw_N G (xx_PoC G w h0 (some (.int (op_calm H q))) (s)) 0 0) 0 0 (h) 131 [(0, .ref (w.1 0)), (1, .int q), (2, .int (nI p.2)), (3, .int (sp_cv p.1))] [] := by
    intro h p B hp hX hs
    have okp : p.1 ≤ 64 ∧ p.2 ≤ 64 := by rw [hp]; exact okC _ (Nat.le_refl _)
    rcases (show p.1 = 0 ∨ ∃ j, p.1 = j + 1 by cases p.1; exact Or.inl rfl; exact Or.inr ⟨_, rfl⟩) with e | ⟨j, e⟩
    · rw [e]
      refine aw_iload_n dX0_calm_131 rfl ?_
      refine aw_if_ge (tgt := 139) dX0_calm_132 (by decide) (fun c_132 => by exfalso; exact absurd c_132 (by decide)) (fun c_132 => ?_)
      refine aw_iconst (v := -1) dX0_calm_135 rfl ?_
      refine aw_goto (tgt := 172) dX0_calm_136 (by decide) ?_
      refine aw_ireturn dX0_calm_172 rfl ?_
      exact ⟨by rw [op_calm, aw_if0 (fun z => z.2.2 (by rw [← hp]; exact e))], _, mm_core.A rfl mm_core.rf, hX, hs⟩
    · rw [e, sp_cv_s]
      by_cases hq : 0 ≤ q.toInt ∧ q.toInt ≤ 2
      · obtain ⟨q', hq', eq, q1, q2⟩ := aw_ofN hq.1
        have er : op_calm H q = if q' = 0 then nI (j / 8) else if q' = 1 then nI (j % 8) else nI p.2 := by
          rw [op_calm, aw_if1 ⟨hq.1, hq.2, by rw [← hp]; omega⟩, ← hp, e, q1]
          by_cases z : q' = 0
          · rw [if_pos z, if_pos (by omega)]; rfl
          · rw [if_neg z, if_neg (by omega)]
            by_cases z1 : q' = 1
            · rw [if_pos z1, if_pos (by omega)]; rfl
            · rw [if_neg z1, if_neg (by omega)]
        rw [show Value.int q = Value.int (nI q') by rw [eq]]
        refine aw_iload_n dX0_calm_131 rfl ?_
        refine aw_if_geN (tgt := 139) dX0_calm_132 (by decide) (by omega) ?_
        refine aw_iload_n dX0_calm_139 rfl ?_
        refine aw_if_neN (tgt := 150) dX0_calm_140 (by decide) (by omega) (fun c_140 => ?_) (fun c_140 => ?_)
        · refine aw_iload_n dX0_calm_150 rfl ?_
          refine aw_iconst (v := nI 1) dX0_calm_151 rfl ?_
          refine aw_icmp_neN (tgt := 162) dX0_calm_152 (by decide) (by omega) (by omega) (fun c_152 => ?_) (fun c_152 => ?_)
          · refine aw_iload_n dX0_calm_162 rfl ?_
            refine aw_iconst (v := nI 2) dX0_calm_163 rfl ?_
            refine aw_icmp_neN (tgt := 171) dX0_calm_164 (by decide) (by omega) (by omega) (fun c_164 => by exfalso; have q29 := hq.2; omega) (fun c_164 => ?_)
            refine aw_iload_n dX0_calm_167 rfl ?_
            refine aw_goto (tgt := 172) dX0_calm_168 (by decide) ?_
            refine aw_ireturn dX0_calm_172 rfl ?_
            refine ⟨?_, _, mm_core.A rfl mm_core.rf, hX, hs⟩
            rw [er]
            first
              | rw [if_pos c_140]
              | rw [if_neg c_140, if_pos c_152]
              | rw [if_neg c_140, if_neg c_152]
              | (exfalso; omega)
          · refine aw_iload_n dX0_calm_155 rfl ?_
            refine aw_bipush (v := nI 8) dX0_calm_156 rfl ?_
            refine aw_iremN dX0_calm_158 (by omega) (by omega) (by omega) ?_
            refine aw_goto (tgt := 172) dX0_calm_159 (by decide) ?_
            refine aw_ireturn dX0_calm_172 rfl ?_
            refine ⟨?_, _, mm_core.A rfl mm_core.rf, hX, hs⟩
            rw [er]
            first
              | rw [if_pos c_140]
              | rw [if_neg c_140, if_pos c_152]
              | rw [if_neg c_140, if_neg c_152]
              | (exfalso; omega)
        · refine aw_iload_n dX0_calm_143 rfl ?_
          refine aw_bipush (v := nI 8) dX0_calm_144 rfl ?_
          refine aw_idivN dX0_calm_146 (by omega) (by omega) (by omega) ?_
          refine aw_goto (tgt := 172) dX0_calm_147 (by decide) ?_
          refine aw_ireturn dX0_calm_172 rfl ?_
          refine ⟨?_, _, mm_core.A rfl mm_core.rf, hX, hs⟩
          rw [er]
          first
            | rw [if_pos c_140]
            | rw [if_neg c_140, if_pos c_152]
            | rw [if_neg c_140, if_neg c_152]
            | (exfalso; omega)
      · have n0 : q ≠ nI 0 := fun z => hq (by rw [z]; decide)
        have n1 : q ≠ nI 1 := fun z => hq (by rw [z]; decide)
        have n2 : q ≠ nI 2 := fun z => hq (by rw [z]; decide)
        refine aw_iload_n dX0_calm_131 rfl ?_
        refine aw_if_geN (tgt := 139) dX0_calm_132 (by decide) (by omega) ?_
        refine aw_iload_n dX0_calm_139 rfl ?_
        refine aw_if_ne (tgt := 150) dX0_calm_140 (by decide) (fun c_140 => ?_) (fun c_140 => by exfalso; exact n0 c_140)
        refine aw_iload_n dX0_calm_150 rfl ?_
        refine aw_iconst (v := nI 1) dX0_calm_151 rfl ?_
        refine aw_icmp_ne (tgt := 162) dX0_calm_152 (by decide) (fun c_152 => ?_) (fun c_152 => by exfalso; exact n1 c_152)
        refine aw_iload_n dX0_calm_162 rfl ?_
        refine aw_iconst (v := nI 2) dX0_calm_163 rfl ?_
        refine aw_icmp_ne (tgt := 171) dX0_calm_164 (by decide) (fun c_164 => ?_) (fun c_164 => by exfalso; exact n2 c_164)
        refine aw_iconst (v := -1) dX0_calm_171 rfl ?_
        refine aw_ireturn dX0_calm_172 rfl ?_
        exact ⟨by rw [op_calm, aw_if0 (fun z => hq ⟨z.1, z.2.1⟩)], _, mm_core.A rfl mm_core.rf, hX, hs⟩
  have inner : ∀ (a : Nat) (pa : Nat × Nat), pa.1 ≤ 64 ∧ pa.2 ≤ 64 → a < sp_hn H → (∀ (h : aw_H) (B : Nat → Nat), XC G w h (mm_setA s 72 B) → xx_same w h0 h → AW G (aw_rm 7 0 0) yX0_calm cX0_calm 7 (some .int) (aw_N G (xx_PoC G w h0 (some (.int (op_calm H q))) (s)) 0 0) 0 0 (h) 125 [(0, .ref (w.1 0)), (1, .int q), (2, .int (nI (sp_ci H a (sp_hn H - 1 - a) pa).2)), (3, .int (sp_cv (sp_ci H a (sp_hn H - 1 - a) pa).1)), (4, .int (nI a))] []) → ∀ (m k : Nat) (h : aw_H) (B : Nat → Nat), sp_hn H - 1 - a - k = m → k ≤ sp_hn H - 1 - a → XC G w h (mm_setA s 72 B) → xx_same w h0 h → AW G (aw_rm 7 0 0) yX0_calm cX0_calm 7 (some .int) (aw_N G (xx_PoC G w h0 (some (.int (op_calm H q))) (s)) 0 0) 0 0 (h) 25 [(0, .ref (w.1 0)), (1, .int q), (2, .int (nI (sp_ci H a k pa).2)), (3, .int (sp_cv (sp_ci H a k pa).1)), (4, .int (nI a)), (5, .int (nI (a + 1 + k)))] [] := by
    intro a pa hpa ha hgo m
    induction m using Nat.strongRecOn with
    | _ m ih =>
      intro k h B hm hk hX hs
      have okp := sp_ci_ok (H := H) hn (show a < 8 by omega) hpa k (by omega)
      by_cases hk8 : a + 1 + k < sp_hn H
      · have next : ∀ (h : aw_H) (z : Int32) (p : Nat × Nat) (B : Nat → Nat), p = sp_ci H a (k + 1) pa → XC G w h (mm_setA s 72 B) → xx_same w h0 h → AW G (aw_rm 7 0 0) yX0_calm cX0_calm 7 (some .int) (aw_N G (xx_PoC G w h0 (some (.int (op_calm H q))) (s)) 0 0) 0 0 (h) 119 [(0, .ref (w.1 0)), (1, .int q), (2, .int (nI p.2)), (3, .int (sp_cv p.1)), (4, .int (nI a)), (5, .int (nI (a + 1 + k))), (6, .int z)] [] := by
          intro h z p B hp hX hs
          subst hp
          refine aw_iincN (b := 1) dX0_calm_119 rfl rfl (by decide) rfl rfl ?_
          refine aw_goto (tgt := 25) dX0_calm_122 (by decide) ?_
          exact AW_dr (r := [(6, .int z)]) (ih (sp_hn H - 1 - a - (k + 1)) (by omega) (k + 1) h B rfl (by omega) hX hs)
        have ec : sp_ci H a (k + 1) pa = sp_cst H a (a + 1 + k) (sp_ci H a k pa) := rfl
        have la := hlv a (by omega)
        have lb := hlv (a + 1 + k) (by omega)
        have es : ∀ t, t < sp_hn H → aw_u (aw_u (sp_tk1 (sp_hn H) (sp_lv H) B) a (sp_lv H (a + 1 + k))) (a + 1 + k) (sp_lv H a) t = sp_swap (sp_lv H) a (a + 1 + k) t := fun t ht => by
          unfold sp_swap aw_u
          rw [sp_lay_at t ht]
        have e2 := sp_envs_c es
        have ebd : ∀ t, t < sp_hn H → aw_u (aw_u (sp_tk1 (sp_hn H) (sp_lv H) B) a (sp_lv H (a + 1 + k))) (a + 1 + k) (sp_lv H a) t ≤ 20 := fun t ht => by
          unfold aw_u
          split
          · exact la
          · split
            · exact lb
            · rw [sp_lay_at t ht]; exact hlv t (by omega)
        have eB := @sp_envs_le H (sp_swap (sp_lv H) a (a + 1 + k)) hn
        have cov := (xo_env (s := mm_setA s 72 (aw_u (aw_u (sp_tk1 (sp_hn H) (sp_lv H) B) a (sp_lv H (a + 1 + k))) (a + 1 + k) (sp_lv H a))) (u := u) hOK ebd).eqv (r' := some (.int (nI (sp_envs H (sp_swap (sp_lv H) a (a + 1 + k)))))) (congrArg (fun x => some (Value.int (nI x))) e2) rfl
        refine aw_iload dX0_calm_25 rfl ?_
        refine aw_aload_n dX0_calm_27 rfl ?_
        refine xx_call0 dX0_calm_28 sX0_91 rfl hW hX (hq.mv hs hX0).xh hs xo_many rfl (hX.1 0 (by decide)) rfl rfl ⟨Nat.le_of_ble_eq_true rfl, Nat.le_of_ble_eq_true rfl⟩ (by exact Nat.le_of_ble_eq_true rfl) (fun h hX hs => ?_)
        refine aw_icmp_geN (tgt := 125) dX0_calm_31 (by decide) (by omega) (by omega) (fun c_31 => by exfalso; omega) (fun c_31 => ?_)
        refine aw_aload_n dX0_calm_34 rfl ?_
        refine xx_call0 dX0_calm_35 sX0_289 rfl hW hX (hq.mv hs hX0).xh hs (xo_lay hn) rfl (hX.1 0 (by decide)) rfl rfl ⟨Nat.le_of_ble_eq_true rfl, Nat.le_of_ble_eq_true rfl⟩ (by exact Nat.le_of_ble_eq_true rfl) (fun h hX hs => ?_)
        have hX : XC G w h (mm_setA s 72 (sp_tk1 (sp_hn H) (sp_lv H) B)) := xx_AA hX
        refine aw_aload_n dX0_calm_38 rfl ?_
        refine aw_get dX0_calm_39 fX0_64 rfl (hX.1 0 (by decide)) (by rfl) ?_
        refine aw_iload dX0_calm_42 rfl ?_
        refine aw_aload_n dX0_calm_44 rfl ?_
        refine aw_get dX0_calm_45 fX0_19 rfl (hX.1 0 (by decide)) (by rfl) ?_
        refine aw_get dX0_calm_48 fX0_95 rfl (hq.mv hs hX0).1 (by rfl) ?_
        refine aw_iload dX0_calm_51 rfl ?_
        refine xx_get dX0_calm_53 sX0_98 rfl (hq.mv hs hX0) (by omega) ⟨Nat.le_of_ble_eq_true rfl, Nat.le_of_ble_eq_true rfl⟩ (by exact Nat.le_of_ble_eq_true rfl) ?_
        refine aw_castS (y := yX0_calm) dX0_calm_56 q378 aw_cl7 ((hq.mv hs hX0).ten (by omega)) ?_
        refine aw_get dX0_calm_59 fX0_192 rfl ((hq.mv hs hX0).ten (by omega)) (by rfl) ?_
        try simp only [mm_n_N, mm_n_A, mm_n_V, mm_n_Fp, mm_n_W, mm_n_Nm, mm_a_N, mm_a_A, mm_a_V, mm_a_Fp, mm_a_W, mm_a_Nm, mm_v_N, mm_v_A, mm_v_V, mm_fp_N, mm_fp_A, mm_fp_Fp, mm_w_N, mm_w_W, Nat.reduceEqDiff, reduceIte, if_true, if_false, mm_H_45, mm_H_46, mm_H_47, mm_H_50, mm_H_53, mm_H_54, mm_H_55, mm_H_56, mm_H_57, mm_H_58, mm_H_66, mm_H_67, mm_H_68, eq_self]
        refine xx_stA (c := 12) hW hX hs dX0_calm_62 rfl (by omega) (fun h hX hs => ?_)
        have hX : XC G w h (mm_setA s 72 (aw_u (sp_tk1 (sp_hn H) (sp_lv H) B) a (sp_lv H (a + 1 + k)))) := xx_AU hX rfl
        refine aw_aload_n dX0_calm_63 rfl ?_
        refine aw_get dX0_calm_64 fX0_64 rfl (hX.1 0 (by decide)) (by rfl) ?_
        refine aw_iload dX0_calm_67 rfl ?_
        refine aw_aload_n dX0_calm_69 rfl ?_
        refine aw_get dX0_calm_70 fX0_19 rfl (hX.1 0 (by decide)) (by rfl) ?_
        refine aw_get dX0_calm_73 fX0_95 rfl (hq.mv hs hX0).1 (by rfl) ?_
        refine aw_iload dX0_calm_76 rfl ?_
        refine xx_get dX0_calm_78 sX0_98 rfl (hq.mv hs hX0) (by omega) ⟨Nat.le_of_ble_eq_true rfl, Nat.le_of_ble_eq_true rfl⟩ (by exact Nat.le_of_ble_eq_true rfl) ?_
        refine aw_castS (y := yX0_calm) dX0_calm_81 q378 aw_cl7 ((hq.mv hs hX0).ten (by omega)) ?_
        refine aw_get dX0_calm_84 fX0_192 rfl ((hq.mv hs hX0).ten (by omega)) (by rfl) ?_
        try simp only [mm_n_N, mm_n_A, mm_n_V, mm_n_Fp, mm_n_W, mm_n_Nm, mm_a_N, mm_a_A, mm_a_V, mm_a_Fp, mm_a_W, mm_a_Nm, mm_v_N, mm_v_A, mm_v_V, mm_fp_N, mm_fp_A, mm_fp_Fp, mm_w_N, mm_w_W, Nat.reduceEqDiff, reduceIte, if_true, if_false, mm_H_45, mm_H_46, mm_H_47, mm_H_50, mm_H_53, mm_H_54, mm_H_55, mm_H_56, mm_H_57, mm_H_58, mm_H_66, mm_H_67, mm_H_68, eq_self]
        refine xx_stA (c := 12) hW hX hs dX0_calm_87 rfl (by omega) (fun h hX hs => ?_)
        have hX : XC G w h (mm_setA s 72 (aw_u (aw_u (sp_tk1 (sp_hn H) (sp_lv H) B) a (sp_lv H (a + 1 + k))) (a + 1 + k) (sp_lv H a))) := xx_AU hX rfl
        refine aw_aload_n dX0_calm_88 rfl ?_
        refine aw_aload_n dX0_calm_89 rfl ?_
        refine aw_get dX0_calm_90 fX0_64 rfl (hX.1 0 (by decide)) (by rfl) ?_
        refine xx_call0 dX0_calm_93 sX0_292 rfl hW hX (hq.mv hs hX0).xh hs cov rfl (hX.1 0 (by decide)) rfl rfl ⟨Nat.le_of_ble_eq_true rfl, Nat.le_of_ble_eq_true rfl⟩ (by exact Nat.le_of_ble_eq_true rfl) (fun h hX hs => ?_)
        try simp only [mm_n_N, mm_n_A, mm_n_V, mm_n_Fp, mm_n_W, mm_n_Nm, mm_a_N, mm_a_A, mm_a_V, mm_a_Fp, mm_a_W, mm_a_Nm, mm_v_N, mm_v_A, mm_v_V, mm_fp_N, mm_fp_A, mm_fp_Fp, mm_w_N, mm_w_W, Nat.reduceEqDiff, reduceIte, if_true, if_false, mm_H_45, mm_H_46, mm_H_47, mm_H_50, mm_H_53, mm_H_54, mm_H_55, mm_H_56, mm_H_57, mm_H_58, mm_H_66, mm_H_67, mm_H_68, eq_self]
        refine aw_istore dX0_calm_96 (by decide) rfl rfl ?_
        refine aw_iload dX0_calm_98 rfl ?_
        refine aw_iload_n dX0_calm_100 rfl ?_
        refine aw_icmp_ltN (tgt := 107) dX0_calm_101 (by decide) (by omega) (by omega) (fun c_101 => ?_) (fun c_101 => ?_)
        · refine aw_bipush (v := nI 8) dX0_calm_107 rfl ?_
          refine aw_iload dX0_calm_109 rfl ?_
          refine aw_imulN dX0_calm_111 ?_
          refine aw_iload dX0_calm_112 rfl ?_
          refine aw_iaddN dX0_calm_114 ?_
          refine aw_istore_n dX0_calm_115 (by decide) rfl rfl ?_
          refine aw_iload dX0_calm_116 rfl ?_
          refine aw_istore_n dX0_calm_118 (by decide) rfl rfl ?_
          first
            | exact next h _ (sp_ci H a k pa) _ (by rw [ec, sp_cst, if_neg (by omega)]) hX hs
            | exact AW_ls (by rw [sp_cv_s]; rfl) (next h _ (8 * a + (a + 1 + k) + 1, sp_envs H (sp_swap (sp_lv H) a (a + 1 + k))) _ (by rw [ec, sp_cst, if_pos (by omega)]) hX hs)
        · refine aw_goto (tgt := 119) dX0_calm_104 (by decide) ?_
          first
            | exact next h _ (sp_ci H a k pa) _ (by rw [ec, sp_cst, if_neg (by omega)]) hX hs
            | exact AW_ls (by rw [sp_cv_s]; rfl) (next h _ (8 * a + (a + 1 + k) + 1, sp_envs H (sp_swap (sp_lv H) a (a + 1 + k))) _ (by rw [ec, sp_cst, if_pos (by omega)]) hX hs)
      · obtain rfl : k = sp_hn H - 1 - a := by omega
        refine aw_iload dX0_calm_25 rfl ?_
        refine aw_aload_n dX0_calm_27 rfl ?_
        refine xx_call0 dX0_calm_28 sX0_91 rfl hW hX (hq.mv hs hX0).xh hs xo_many rfl (hX.1 0 (by decide)) rfl rfl ⟨Nat.le_of_ble_eq_true rfl, Nat.le_of_ble_eq_true rfl⟩ (by exact Nat.le_of_ble_eq_true rfl) (fun h hX hs => ?_)
        refine aw_icmp_geN (tgt := 125) dX0_calm_31 (by decide) (by omega) (by omega) (fun c_31 => ?_) (fun c_31 => by exfalso; omega)
        exact AW_dr (r := [(5, .int (nI (a + 1 + (sp_hn H - 1 - a))))]) (hgo h B hX hs)
  have outer : ∀ (m k : Nat) (h : aw_H) (B : Nat → Nat), sp_hn H - k = m → k ≤ sp_hn H → XC G w h (mm_setA s 72 B) → xx_same w h0 h → AW G (aw_rm 7 0 0) yX0_calm cX0_calm 7 (some .int) (aw_N G (xx_PoC G w h0 (some (.int (op_calm H q))) (s)) 0 0) 0 0 (h) 10 [(0, .ref (w.1 0)), (1, .int q), (2, .int (nI (sp_co H k (0, sp_envs H (sp_lv H))).2)), (3, .int (sp_cv (sp_co H k (0, sp_envs H (sp_lv H))).1)), (4, .int (nI k))] [] := by
    intro m
    induction m using Nat.strongRecOn with
    | _ m ih =>
      intro k h B hm hk hX hs
      have okp := okC k hk
      by_cases hk9 : k < sp_hn H
      · have back : ∀ (h : aw_H) (B : Nat → Nat), XC G w h (mm_setA s 72 B) → xx_same w h0 h → AW G (aw_rm 7 0 0) yX0_calm cX0_calm 7 (some .int) (aw_N G (xx_PoC G w h0 (some (.int (op_calm H q))) (s)) 0 0) 0 0 (h) 125 [(0, .ref (w.1 0)), (1, .int q), (2, .int (nI (sp_ci H k (sp_hn H - 1 - k) (sp_co H k (0, sp_envs H (sp_lv H)))).2)), (3, .int (sp_cv (sp_ci H k (sp_hn H - 1 - k) (sp_co H k (0, sp_envs H (sp_lv H)))).1)), (4, .int (nI k))] [] := by
          intro h B hX hs
          refine aw_iincN (b := 1) dX0_calm_125 rfl rfl (by decide) rfl rfl ?_
          refine aw_goto (tgt := 10) dX0_calm_128 (by decide) ?_
          exact ih (sp_hn H - (k + 1)) (by omega) (k + 1) h B rfl (by omega) hX hs
        refine aw_iload dX0_calm_10 rfl ?_
        refine aw_aload_n dX0_calm_12 rfl ?_
        refine xx_call0 dX0_calm_13 sX0_91 rfl hW hX (hq.mv hs hX0).xh hs xo_many rfl (hX.1 0 (by decide)) rfl rfl ⟨Nat.le_of_ble_eq_true rfl, Nat.le_of_ble_eq_true rfl⟩ (by exact Nat.le_of_ble_eq_true rfl) (fun h hX hs => ?_)
        refine aw_icmp_geN (tgt := 131) dX0_calm_16 (by decide) (by omega) (by omega) (fun c_16 => by exfalso; omega) (fun c_16 => ?_)
        refine aw_iload dX0_calm_19 rfl ?_
        refine aw_iconst (v := nI 1) dX0_calm_21 rfl ?_
        refine aw_iaddN dX0_calm_22 ?_
        refine aw_istore dX0_calm_23 (by decide) rfl rfl ?_
        exact inner k _ okp hk9 back _ 0 h B rfl (Nat.zero_le _) hX hs
      ·
        refine aw_iload dX0_calm_10 rfl ?_
        refine aw_aload_n dX0_calm_12 rfl ?_
        refine xx_call0 dX0_calm_13 sX0_91 rfl hW hX (hq.mv hs hX0).xh hs xo_many rfl (hX.1 0 (by decide)) rfl rfl ⟨Nat.le_of_ble_eq_true rfl, Nat.le_of_ble_eq_true rfl⟩ (by exact Nat.le_of_ble_eq_true rfl) (fun h hX hs => ?_)
        refine aw_icmp_geN (tgt := 131) dX0_calm_16 (by decide) (by omega) (by omega) (fun c_16 => ?_) (fun c_16 => by exfalso; omega)
        exact AW_dr (r := [(4, .int (nI k))]) (fin h _ B (by rw [sp_calm, show k = sp_hn H by omega]) hX hs)
  refine aw_aload_n dX0_calm_0 rfl ?_
  refine xx_call0 dX0_calm_1 sX0_296 rfl hW hX (hq.mv hs hX0).xh hs (xo_quar hOK) rfl (hX.1 0 (by decide)) rfl rfl ⟨Nat.le_of_ble_eq_true rfl, Nat.le_of_ble_eq_true rfl⟩ (by exact Nat.le_of_ble_eq_true rfl) (fun h hX hs => ?_)
  refine aw_istore_n dX0_calm_4 (by decide) rfl rfl ?_
  refine aw_iconst (v := -1) dX0_calm_5 rfl ?_
  refine aw_istore_n dX0_calm_6 (by decide) rfl rfl ?_
  refine aw_iconst (v := nI 0) dX0_calm_7 rfl ?_
  refine aw_istore dX0_calm_8 (by decide) rfl rfl ?_
  exact outer _ 0 h _ rfl (Nat.zero_le _) hX hs

