set_option maxRecDepth 100000
/-! the model: climbs and weeks in the air -/
set_option maxHeartbeats 4000000 in
theorem mm_goClimb {s : mm_S} {t a c n : Nat} (ht : t < 8) (hc : c ≤ 8) (hh : ∀ k, k < 8 → mm_a s 34 k ≤ 9) (hb : a * sp_brc (mm_H s) c ≤ mm_a s 46 t) (hp : mm_a s 46 (8 + t) + n < 2147483648) : mm_Met yX5_goClimb cX5_goClimb 5 none 1 [.int (nI (t)), .int (nI (a)), .int ((sp_cv c)), .int (nI (n))] s none (mm_setA s 46 (sp_climb (mm_H s) (mm_a s 46) t a c n)) := by
  refine mm_Met.of (by decide +kernel) (fun _ => Nat.le_of_ble_eq_true rfl) (fun G w h0 hW hR => ?_)
  have hs : mm_same w h0 h0 := mm_same.rf
  show AW G (aw_rm 1 0 0) yX5_goClimb cX5_goClimb 5 none (aw_N G (mm_Po G w h0 none (mm_setA s 46 (sp_climb (mm_H s) (mm_a s 46) t a c n))) 0 0) 0 0 h0 0 [(0, .ref w.1), (1, .int (nI (t))), (2, .int (nI (a))), (3, .int ((sp_cv c))), (4, .int (nI (n)))] []
  have e8 : mm_a s 46 (8 + t) + n < 2 ^ 31 := by omega
  refine aw_aload_n dX5_goClimb_0 rfl ?_
  refine aw_get dX5_goClimb_1 fX5_88 rfl hR.1 (by rfl) ?_
  refine aw_bipush (v := nI 8) dX5_goClimb_4 rfl ?_
  refine aw_iload_n dX5_goClimb_6 rfl ?_
  refine aw_iaddN dX5_goClimb_7 ?_
  refine aw_aload_n dX5_goClimb_8 rfl ?_
  refine aw_get dX5_goClimb_9 fX5_88 rfl hR.1 (by rfl) ?_
  refine aw_bipush (v := nI 8) dX5_goClimb_12 rfl ?_
  refine aw_iload_n dX5_goClimb_14 rfl ?_
  refine aw_iaddN dX5_goClimb_15 ?_
  refine aw_ialdN dX5_goClimb_16 (hR.2.1 46 28 rfl) (by omega) (by decide) ?_
  refine aw_iload dX5_goClimb_17 rfl ?_
  refine aw_iaddN dX5_goClimb_19 ?_
  refine aw_sipush (v := nI 9999) dX5_goClimb_20 rfl ?_
  refine aw_callP (r := _) dX5_goClimb_23 sX5_379 rfl (mp_within (by decide)) rfl rfl ⟨Nat.le_of_ble_eq_true rfl, Nat.le_of_ble_eq_true rfl⟩ (Nat.le_of_ble_eq_true rfl) ?_
  refine mm_iast (k := 46) rfl hW hR hs dX5_goClimb_26 (by omega) (by decide) (fun h hR hs => ?_)
  refine aw_aload_n dX5_goClimb_27 rfl ?_
  refine aw_get dX5_goClimb_28 fX5_88 rfl hR.1 (by rfl) ?_
  refine aw_iload_n dX5_goClimb_31 rfl ?_
  refine aw_dup2 dX5_goClimb_32 rfl rfl ?_
  refine aw_ialdN dX5_goClimb_33 (hR.2.1 46 28 rfl) (by omega) (by decide) ?_
  try simp only [mm_n_N, mm_n_A, mm_n_V, mm_n_Fp, mm_n_W, mm_n_Nm, mm_a_N, mm_a_A, mm_a_V, mm_a_Fp, mm_a_W, mm_a_Nm, mm_v_N, mm_v_A, mm_v_V, mm_fp_N, mm_fp_A, mm_fp_Fp, mm_w_N, mm_w_W, Nat.reduceEqDiff, reduceIte, if_true, if_false, mm_H_45, mm_H_46, mm_H_47, mm_H_50, mm_H_53, mm_H_54, mm_H_55, mm_H_56, mm_H_57, mm_H_58, mm_H_66, mm_H_67, mm_H_68]
  refine aw_aload_n dX5_goClimb_34 rfl ?_
  refine aw_iload_n dX5_goClimb_35 rfl ?_
  refine aw_iload_n dX5_goClimb_36 rfl ?_
  refine mm_call dX5_goClimb_37 sX5_385 rfl hW hR hs (mm_breathFor hc (by simpa only [mm_n_N, mm_n_A, mm_n_V, mm_n_Fp, mm_n_W, mm_n_Nm, mm_a_N, mm_a_A, mm_a_V, mm_a_Fp, mm_a_W, mm_a_Nm, mm_v_N, mm_v_A, mm_v_V, mm_fp_N, mm_fp_A, mm_fp_Fp, mm_w_N, mm_w_W, Nat.reduceEqDiff, reduceIte, if_true, if_false, mm_H_45, mm_H_46, mm_H_47, mm_H_50, mm_H_53, mm_H_54, mm_H_55, mm_H_56, mm_H_57, mm_H_58, mm_H_66, mm_H_67, mm_H_68] using hh)) rfl rfl ⟨Nat.le_of_ble_eq_true rfl, Nat.le_of_ble_eq_true rfl⟩ (Nat.le_of_ble_eq_true rfl) (fun h hR hs => ?_)
  try simp only [mm_n_N, mm_n_A, mm_n_V, mm_n_Fp, mm_n_W, mm_n_Nm, mm_a_N, mm_a_A, mm_a_V, mm_a_Fp, mm_a_W, mm_a_Nm, mm_v_N, mm_v_A, mm_v_V, mm_fp_N, mm_fp_A, mm_fp_Fp, mm_w_N, mm_w_W, Nat.reduceEqDiff, reduceIte, if_true, if_false, mm_H_45, mm_H_46, mm_H_47, mm_H_50, mm_H_53, mm_H_54, mm_H_55, mm_H_56, mm_H_57, mm_H_58, mm_H_66, mm_H_67, mm_H_68]
  refine aw_isubN dX5_goClimb_40 (by rw [aw_u_n (by omega)]; exact hb) ?_
  refine mm_iast (k := 46) rfl hW hR hs dX5_goClimb_41 (by omega) (by decide) (fun h hR hs => ?_)
  refine aw_aload_n dX5_goClimb_42 rfl ?_
  refine aw_get dX5_goClimb_43 fX5_88 rfl hR.1 (by rfl) ?_
  refine aw_bipush (v := nI 24) dX5_goClimb_46 rfl ?_
  refine aw_dup2 dX5_goClimb_48 rfl rfl ?_
  refine aw_ialdN dX5_goClimb_49 (hR.2.1 46 28 rfl) (by omega) (by decide) ?_
  try simp only [mm_n_N, mm_n_A, mm_n_V, mm_n_Fp, mm_n_W, mm_n_Nm, mm_a_N, mm_a_A, mm_a_V, mm_a_Fp, mm_a_W, mm_a_Nm, mm_v_N, mm_v_A, mm_v_V, mm_fp_N, mm_fp_A, mm_fp_Fp, mm_w_N, mm_w_W, Nat.reduceEqDiff, reduceIte, if_true, if_false, mm_H_45, mm_H_46, mm_H_47, mm_H_50, mm_H_53, mm_H_54, mm_H_55, mm_H_56, mm_H_57, mm_H_58, mm_H_66, mm_H_67, mm_H_68]
  refine aw_iload_n dX5_goClimb_50 rfl ?_
  refine aw_iaddN dX5_goClimb_51 ?_
  refine mm_iast (k := 46) rfl hW hR hs dX5_goClimb_52 (by omega) (by decide) (fun h hR hs => ?_)
  refine aw_vreturn dX5_goClimb_53 rfl ?_
  refine ⟨rfl, mm_eq hR ?_, hs⟩
  rw [mm_A_A, mm_A_A]
  congr 1
  funext j
  simp only [mm_n_N, mm_n_A, mm_n_V, mm_n_Fp, mm_n_W, mm_n_Nm, mm_a_N, mm_a_A, mm_a_V, mm_a_Fp, mm_a_W, mm_a_Nm, mm_v_N, mm_v_A, mm_v_V, mm_fp_N, mm_fp_A, mm_fp_Fp, mm_w_N, mm_w_W, Nat.reduceEqDiff, reduceIte, if_true, if_false, mm_H_45, mm_H_46, mm_H_47, mm_H_50, mm_H_53, mm_H_54, mm_H_55, mm_H_56, mm_H_57, mm_H_58, mm_H_66, mm_H_67, mm_H_68]
  unfold sp_climb aw_u
  simp only [nI_clamp e8, if_neg (show ¬ t = 8 + t by omega), if_neg (show ¬ 24 = t by omega), if_neg (show ¬ 24 = 8 + t by omega)]
  by_cases h1 : j = t
  · rw [if_neg (show ¬ j = 24 by omega), if_pos h1, if_pos h1]
  · by_cases h2 : j = 8 + t
    · rw [if_neg (show ¬ j = 24 by omega), if_neg h1, if_pos h2, if_neg h1, if_pos h2]
    · rw [if_neg h1, if_neg h2, if_neg h1, if_neg h2]
set_option maxHeartbeats 4000000 in
theorem mm_allHeavy {s : mm_S} (hn : mm_n s 42 ≤ 8) : mm_Met yX5_allHeavy cX5_allHeavy 3 (some .int) 0 [] s (some (.int (nI (sp_sum (sp_hv (mm_H s)) (sp_hn (mm_H s)))))) (s) := by
  refine mm_Met.of (by decide +kernel) (fun _ => Nat.le_of_ble_eq_true rfl) (fun G w h0 hW hR => ?_)
  have hs : mm_same w h0 h0 := mm_same.rf
  show AW G (aw_rm 0 0 0) yX5_allHeavy cX5_allHeavy 3 (some .int) (aw_N G (mm_Po G w h0 (some (.int (nI (sp_sum (sp_hv (mm_H s)) (sp_hn (mm_H s)))))) (s)) 0 0) 0 0 h0 0 [(0, .ref w.1)] []
  have loop : ∀ (m k : Nat), mm_n s 42 - k = m → k ≤ mm_n s 42 → AW G (aw_rm 0 0 0) yX5_allHeavy cX5_allHeavy 3 (some .int) (aw_N G (mm_Po G w h0 (some (.int (nI (sp_sum (sp_hv (mm_H s)) (sp_hn (mm_H s)))))) (s)) 0 0) 0 0 h0 4 [(0, .ref w.1), (1, .int (nI (sp_sum (sp_hv (mm_H s)) k))), (2, .int (nI k))] [] := by
    intro m
    induction m using Nat.strongRecOn with
    | _ m ih =>
      intro k hm hk
      refine aw_iload_n dX5_allHeavy_4 rfl ?_
      refine aw_aload_n dX5_allHeavy_5 rfl ?_
      refine aw_get dX5_allHeavy_6 fX5_350 rfl hR.1 (by rfl) ?_
      refine aw_icmp_geN (tgt := 27) dX5_allHeavy_9 (by decide) (by omega) (by omega) (fun c_9 => ?_) (fun c_9 => ?_)
      · refine aw_iload_n dX5_allHeavy_27 rfl ?_
        refine aw_ireturn dX5_allHeavy_28 rfl ?_
        exact ⟨by rw [show sp_hn (mm_H s) = mm_n s 42 from rfl, show k = mm_n s 42 by omega], hR, hs⟩
      · refine aw_iload_n dX5_allHeavy_12 rfl ?_
        refine aw_aload_n dX5_allHeavy_13 rfl ?_
        refine aw_get dX5_allHeavy_14 fX5_73 rfl hR.1 (by rfl) ?_
        refine aw_iload_n dX5_allHeavy_17 rfl ?_
        refine aw_ialdN dX5_allHeavy_18 (hR.2.1 34 8 rfl) (by omega) (by decide) ?_
        refine aw_iaddN dX5_allHeavy_19 ?_
        refine aw_istore_n dX5_allHeavy_20 (by decide) rfl rfl ?_
        refine aw_iincN (b := 1) dX5_allHeavy_21 rfl rfl (by decide) rfl rfl ?_
        refine aw_goto (tgt := 4) dX5_allHeavy_24 (by decide) ?_
        exact ih (mm_n s 42 - (k + 1)) (by omega) (k + 1) rfl (by omega)
  refine aw_iconst (v := nI 0) dX5_allHeavy_0 rfl ?_
  refine aw_istore_n dX5_allHeavy_1 (by decide) rfl rfl ?_
  refine aw_iconst (v := nI 0) dX5_allHeavy_2 rfl ?_
  refine aw_istore_n dX5_allHeavy_3 (by decide) rfl rfl ?_
  exact loop (mm_n s 42) 0 rfl (Nat.zero_le _)
set_option maxHeartbeats 4000000 in
theorem mm_pullHere {s : mm_S} (hn : mm_n s 42 ≤ 8) (hF : sp_fok (mm_steps s 1)) (hc : mm_a s 46 24 < 2147483648) : mm_Met yX5_pullHere cX5_pullHere 1 (some .int) 3 [] s (some (.int (sp_pull (mm_H s) (mm_a s 46)))) (s) := by
  refine mm_Met.of (by decide +kernel) (fun _ => Nat.le_of_ble_eq_true rfl) (fun G w h0 hW hR => ?_)
  have hs : mm_same w h0 h0 := mm_same.rf
  show AW G (aw_rm 3 0 0) yX5_pullHere cX5_pullHere 1 (some .int) (aw_N G (mm_Po G w h0 (some (.int (sp_pull (mm_H s) (mm_a s 46)))) (s)) 0 0) 0 0 h0 0 [(0, .ref w.1)] []
  refine aw_aload_n dX5_pullHere_0 rfl ?_
  refine aw_iconst (v := nI 1) dX5_pullHere_1 rfl ?_
  refine aw_aload_n dX5_pullHere_2 rfl ?_
  refine aw_get dX5_pullHere_3 fX5_82 rfl hR.1 (by rfl) ?_
  refine aw_aload_n dX5_pullHere_6 rfl ?_
  refine mm_call dX5_pullHere_7 sX5_388 rfl hW hR hs (mm_allHeavy hn) rfl rfl ⟨Nat.le_of_ble_eq_true rfl, Nat.le_of_ble_eq_true rfl⟩ (Nat.le_of_ble_eq_true rfl) (fun h hR hs => ?_)
  refine aw_iconst (v := nI 0) dX5_pullHere_10 rfl ?_
  refine aw_aload_n dX5_pullHere_11 rfl ?_
  refine aw_get dX5_pullHere_12 fX5_88 rfl hR.1 (by rfl) ?_
  refine aw_bipush (v := nI 24) dX5_pullHere_15 rfl ?_
  refine aw_ialdN dX5_pullHere_17 (hR.2.1 46 28 rfl) (by omega) (by decide) ?_
  refine aw_bipush (v := nI 10) dX5_pullHere_18 rfl ?_
  refine aw_idivN dX5_pullHere_20 (by omega) (by omega) (by omega) ?_
  refine mm_call dX5_pullHere_21 sX5_375 rfl hW hR hs (mm_worked (by decide) hF) rfl rfl ⟨Nat.le_of_ble_eq_true rfl, Nat.le_of_ble_eq_true rfl⟩ (Nat.le_of_ble_eq_true rfl) (fun h hR hs => ?_)
  refine aw_ireturn dX5_pullHere_24 rfl ?_
  exact ⟨rfl, hR, hs⟩
theorem sp_wk_ge {k j : Nat} {H : sp_H} {A : Nat → Nat} (hj : j < 8) (hk : k ≤ j) : sp_wk k H A j = A j ∧ sp_wk k H A (8 + j) = A (8 + j) ∧ sp_wk k H A (16 + j) = A (16 + j) := by
  unfold sp_wk
  refine ⟨?_, ?_, ?_⟩
  · rw [if_pos hj, if_neg (by omega)]
  · rw [if_neg (by omega), if_pos (by omega), if_neg (by omega)]
  · rw [if_neg (by omega), if_neg (by omega), if_pos (by omega), if_neg (by omega)]
/-- the week of one more tenant: his breath, and a month's dues -/
theorem sp_wk_s {k : Nat} {H : sp_H} {A B : Nat → Nat} (hk : k < 8) (h0 : B k = sp_sg8 H k) (h1 : B (8 + k) = if (A 26 + 1) % 4 = 0 then A (8 + k) - min (A (8 + k)) (A (16 + k) + sp_ow H k) else A (8 + k)) (h2 : B (16 + k) = if (A 26 + 1) % 4 = 0 then A (16 + k) + sp_ow H k - min (A (8 + k)) (A (16 + k) + sp_ow H k) else A (16 + k)) (h3 : ∀ j, j ≠ k → j ≠ 8 + k → j ≠ 16 + k → B j = sp_wk k H A j) : B = sp_wk (k + 1) H A := by
  funext j
  by_cases e1 : j = k
  · subst e1
    rw [h0]
    unfold sp_wk
    rw [if_pos hk, if_pos (by omega)]
  · by_cases e2 : j = 8 + k
    · subst e2
      rw [h1]
      unfold sp_wk
      by_cases z : (A 26 + 1) % 4 = 0
      · rw [if_pos z, if_neg (show ¬ 8 + k < 8 by omega), if_pos (show 8 + k < 16 by omega), show 8 + k - 8 = k by omega, show 8 + k + 8 = 16 + k by omega, if_pos ⟨by omega, z⟩]
      · rw [if_neg z, if_neg (show ¬ 8 + k < 8 by omega), if_pos (show 8 + k < 16 by omega), if_neg (fun q => z q.2)]
    · by_cases e3 : j = 16 + k
      · subst e3
        rw [h2]
        unfold sp_wk
        by_cases z : (A 26 + 1) % 4 = 0
        · rw [if_pos z, if_neg (show ¬ 16 + k < 8 by omega), if_neg (show ¬ 16 + k < 16 by omega), if_pos (show 16 + k < 24 by omega), show 16 + k - 16 = k by omega, show 16 + k - 8 = 8 + k by omega, if_pos ⟨by omega, z⟩]
        · rw [if_neg z, if_neg (show ¬ 16 + k < 8 by omega), if_neg (show ¬ 16 + k < 16 by omega), if_pos (show 16 + k < 24 by omega), if_neg (fun q => z q.2)]
      · rw [h3 j e1 e2 e3]
        unfold sp_wk
        by_cases l8 : j < 8
        · rw [if_pos l8, if_pos l8]
          by_cases z : j < k
          · rw [if_pos z, if_pos (by omega)]
          · rw [if_neg z, if_neg (by omega)]
        · by_cases l16 : j < 16
          · rw [if_neg l8, if_neg l8, if_pos l16, if_pos l16]
            by_cases z : j - 8 < k ∧ (A 26 + 1) % 4 = 0
            · rw [if_pos z, if_pos ⟨by omega, z.2⟩]
            · rw [if_neg z, if_neg (fun q => z ⟨by omega, q.2⟩)]
          · by_cases l24 : j < 24
            · rw [if_neg l8, if_neg l8, if_neg l16, if_neg l16, if_pos l24, if_pos l24]
              by_cases z : j - 16 < k ∧ (A 26 + 1) % 4 = 0
              · rw [if_pos z, if_pos ⟨by omega, z.2⟩]
              · rw [if_neg z, if_neg (fun q => z ⟨by omega, q.2⟩)]
            · rw [if_neg l8, if_neg l16, if_neg l24, if_neg l8, if_neg l16, if_neg l24]
theorem mm_AU {G : aw_G} {w : mm_Wd} {h : aw_H} {s : mm_S} {k j v : Nat} {B : Nat → Nat} (hR : mm_R G w h (mm_setA (mm_setA s k B) k (aw_u (mm_a (mm_setA s k B) k) j v))) : mm_R G w h (mm_setA s k (aw_u B j v)) := mm_eq hR (by rw [mm_A_A, mm_a_A, if_pos rfl])
theorem mm_AA {G : aw_G} {w : mm_Wd} {h : aw_H} {s : mm_S} {k : Nat} {B C : Nat → Nat} (hR : mm_R G w h (mm_setA (mm_setA s k B) k C)) : mm_R G w h (mm_setA s k C) := mm_eq hR (mm_A_A _ _ _ _)
set_option maxHeartbeats 4000000 in
theorem mm_goWeek {s : mm_S} (hn : mm_n s 42 ≤ 8) (hs20 : mm_n s 41 < 2147483648) (hF : sp_fok (mm_steps s 1)) (hc : mm_a s 46 24 < 2147483648) (hw9 : mm_a s 46 26 + 1 < 2147483648) (hd : ∀ t, t < 8 → mm_a s 46 (8 + t) < 2147483648 ∧ mm_a s 46 (16 + t) + mm_a s 35 t < 2147483648) : mm_Met yX5_goWeek cX5_goWeek 3 none 4 [] s none (mm_setA s 46 (sp_week (mm_H s) (mm_a s 46))) := by
  refine mm_Met.of (by decide +kernel) (fun _ => Nat.le_of_ble_eq_true rfl) (fun G w h0 hW hR => ?_)
  have hs : mm_same w h0 h0 := mm_same.rf
  show AW G (aw_rm 4 0 0) yX5_goWeek cX5_goWeek 3 none (aw_N G (mm_Po G w h0 none (mm_setA s 46 (sp_week (mm_H s) (mm_a s 46)))) 0 0) 0 0 h0 0 [(0, .ref w.1)] []
  have loop : ∀ (m k : Nat) (h : aw_H) (ls2 : List (Nat × Value)), (ls2 = [] ∨ ∃ q, ls2 = [(2, .int q)]) → mm_n s 42 - k = m → k ≤ mm_n s 42 → mm_R G w h (mm_setA s 46 (sp_wk k (mm_H s) (mm_a s 46))) → mm_same w h0 h → AW G (aw_rm 4 0 0) yX5_goWeek cX5_goWeek 3 none (aw_N G (mm_Po G w h0 none (mm_setA s 46 (sp_week (mm_H s) (mm_a s 46)))) 0 0) 0 0 h 47 ((0, .ref w.1) :: (1, .int (nI k)) :: ls2) [] := by
    intro m
    induction m using Nat.strongRecOn with
    | _ m ih =>
      intro k h ls2 hls hm hk hR hs
      obtain ⟨B, hB⟩ : ∃ B, B = sp_wk k (mm_H s) (mm_a s 46) := ⟨_, rfl⟩
      rw [← hB] at hR
      have b26 : B 26 = mm_a s 46 26 + 1 := by rw [hB]; rfl
      have next : ∀ (B5 : Nat → Nat) (h : aw_H) (ls2 : List (Nat × Value)), (ls2 = [] ∨ ∃ q, ls2 = [(2, .int q)]) → k < mm_n s 42 → B5 = sp_wk (k + 1) (mm_H s) (mm_a s 46) → mm_R G w h (mm_setA s 46 B5) → mm_same w h0 h → AW G (aw_rm 4 0 0) yX5_goWeek cX5_goWeek 3 none (aw_N G (mm_Po G w h0 none (mm_setA s 46 (sp_week (mm_H s) (mm_a s 46)))) 0 0) 0 0 h 169 ((0, .ref w.1) :: (1, .int (nI k)) :: ls2) [] := by
        intro B5 h ls2 hls hk2 e5 hR hs
        rw [e5] at hR
        rcases hls with rfl | ⟨q, rfl⟩
        ·
          refine aw_iincN (b := 1) dX5_goWeek_169 rfl rfl (by decide) rfl rfl ?_
          refine aw_goto (tgt := 47) dX5_goWeek_172 (by decide) ?_
          exact ih (mm_n s 42 - (k + 1)) (by omega) (k + 1) h _ (Or.inl rfl) rfl (by omega) hR hs
        ·
          refine aw_iincN (b := 1) dX5_goWeek_169 rfl rfl (by decide) rfl rfl ?_
          refine aw_goto (tgt := 47) dX5_goWeek_172 (by decide) ?_
          exact ih (mm_n s 42 - (k + 1)) (by omega) (k + 1) h _ (Or.inr ⟨q, rfl⟩) rfl (by omega) hR hs
      have pay : ∀ (h : aw_H) (B1 : Nat → Nat) (ls2 : List (Nat × Value)), (ls2 = [] ∨ ∃ q, ls2 = [(2, .int q)]) → k < mm_n s 42 → B1 = aw_u B k (mm_a s 33 k) → mm_R G w h (mm_setA s 46 B1) → mm_same w h0 h → AW G (aw_rm 4 0 0) yX5_goWeek cX5_goWeek 3 none (aw_N G (mm_Po G w h0 none (mm_setA s 46 (sp_week (mm_H s) (mm_a s 46)))) 0 0) 0 0 h 67 ((0, .ref w.1) :: (1, .int (nI k)) :: ls2) [] := by
        intro h B1 ls2 hls hk2 hB1 hR hs
        have hd' := hd k (by omega)
        obtain ⟨g0, g8, g16⟩ := sp_wk_ge (k := k) (H := mm_H s) (A := mm_a s 46) (show k < 8 by omega) (Nat.le_refl _)
        have q0 : B1 k = mm_a s 33 k := by rw [hB1, aw_u_s]
        have q8 : B1 (8 + k) = mm_a s 46 (8 + k) := by rw [hB1, aw_u_n (by omega), hB, g8]
        have q16 : B1 (16 + k) = mm_a s 46 (16 + k) := by rw [hB1, aw_u_n (by omega), hB, g16]
        have q26 : B1 26 = mm_a s 46 26 + 1 := by rw [hB1, aw_u_n (by omega), b26]
        have qo : ∀ j, j ≠ k → B1 j = sp_wk k (mm_H s) (mm_a s 46) j := fun j hj => by rw [hB1, aw_u_n hj, hB]
        have eo : sp_ow (mm_H s) k = mm_a s 35 k := rfl
        have fin : ∀ (p : Nat) (h : aw_H) (B2 : Nat → Nat), (mm_a s 46 26 + 1) % 4 = 0 → B2 = aw_u B1 (16 + k) (mm_a s 46 (16 + k) + mm_a s 35 k) → p = min (mm_a s 46 (8 + k)) (mm_a s 46 (16 + k) + mm_a s 35 k) → mm_R G w h (mm_setA s 46 B2) → mm_same w h0 h → AW G (aw_rm 4 0 0) yX5_goWeek cX5_goWeek 3 none (aw_N G (mm_Po G w h0 none (mm_setA s 46 (sp_week (mm_H s) (mm_a s 46)))) 0 0) 0 0 h 143 [(0, .ref w.1), (1, .int (nI k)), (2, .int (nI p))] [] := by
          intro p h B2 h4 hB2 hp hR hs
          have r8 : B2 (8 + k) = mm_a s 46 (8 + k) := by rw [hB2, aw_u_n (by omega), q8]
          have r16 : B2 (16 + k) = mm_a s 46 (16 + k) + mm_a s 35 k := by rw [hB2, aw_u_s]
          refine aw_aload_n dX5_goWeek_143 rfl ?_
          refine aw_get dX5_goWeek_144 fX5_88 rfl hR.1 (by rfl) ?_
          refine aw_bipush (v := nI 8) dX5_goWeek_147 rfl ?_
          refine aw_iload_n dX5_goWeek_149 rfl ?_
          refine aw_iaddN dX5_goWeek_150 ?_
          refine aw_dup2 dX5_goWeek_151 rfl rfl ?_
          refine aw_ialdN dX5_goWeek_152 (hR.2.1 46 28 rfl) (by omega) (by decide) ?_
          try simp only [mm_n_N, mm_n_A, mm_n_V, mm_n_Fp, mm_n_W, mm_n_Nm, mm_a_N, mm_a_A, mm_a_V, mm_a_Fp, mm_a_W, mm_a_Nm, mm_v_N, mm_v_A, mm_v_V, mm_fp_N, mm_fp_A, mm_fp_Fp, mm_w_N, mm_w_W, Nat.reduceEqDiff, reduceIte, if_true, if_false, mm_H_45, mm_H_46, mm_H_47, mm_H_50, mm_H_53, mm_H_54, mm_H_55, mm_H_56, mm_H_57, mm_H_58, mm_H_66, mm_H_67, mm_H_68]
          refine aw_iload_n dX5_goWeek_153 rfl ?_
          refine aw_isubN dX5_goWeek_154 (by omega) ?_
          refine mm_iast (k := 46) rfl hW hR hs dX5_goWeek_155 (by omega) (by decide) (fun h hR hs => ?_)
          have hR := mm_AU hR
          refine aw_aload_n dX5_goWeek_156 rfl ?_
          refine aw_get dX5_goWeek_157 fX5_88 rfl hR.1 (by rfl) ?_
          refine aw_bipush (v := nI 16) dX5_goWeek_160 rfl ?_
          refine aw_iload_n dX5_goWeek_162 rfl ?_
          refine aw_iaddN dX5_goWeek_163 ?_
          refine aw_dup2 dX5_goWeek_164 rfl rfl ?_
          refine aw_ialdN dX5_goWeek_165 (hR.2.1 46 28 rfl) (by omega) (by decide) ?_
          try simp only [mm_n_N, mm_n_A, mm_n_V, mm_n_Fp, mm_n_W, mm_n_Nm, mm_a_N, mm_a_A, mm_a_V, mm_a_Fp, mm_a_W, mm_a_Nm, mm_v_N, mm_v_A, mm_v_V, mm_fp_N, mm_fp_A, mm_fp_Fp, mm_w_N, mm_w_W, Nat.reduceEqDiff, reduceIte, if_true, if_false, mm_H_45, mm_H_46, mm_H_47, mm_H_50, mm_H_53, mm_H_54, mm_H_55, mm_H_56, mm_H_57, mm_H_58, mm_H_66, mm_H_67, mm_H_68]
          refine aw_iload_n dX5_goWeek_166 rfl ?_
          refine aw_isubN dX5_goWeek_167 (by rw [aw_u_n (by omega)]; omega) ?_
          refine mm_iast (k := 46) rfl hW hR hs dX5_goWeek_168 (by omega) (by decide) (fun h hR hs => ?_)
          have hR := mm_AU hR
          refine next _ h _ (Or.inr ⟨_, rfl⟩) hk2 ?_ hR hs
          refine sp_wk_s (by omega) ?_ ?_ ?_ ?_
          · rw [aw_u_n (by omega), aw_u_n (by omega), hB2, aw_u_n (by omega), q0]; rfl
          · rw [aw_u_n (by omega)]
            rw [aw_u_s, if_pos h4, eo, r8, hp]
          · rw [aw_u_s, if_pos h4, eo, ← hp]
            rw [aw_u_n (by omega), r16]
          · intro j j1 j2 j3
            rw [aw_u_n j3]
            rw [aw_u_n j2, hB2, aw_u_n j3, qo j j1]
        have main : ∀ (lsx : List (Nat × Value)), True := fun _ => trivial
        rcases hls with rfl | ⟨q, rfl⟩
        ·
          refine aw_aload_n dX5_goWeek_67 rfl ?_
          refine aw_get dX5_goWeek_68 fX5_88 rfl hR.1 (by rfl) ?_
          refine aw_bipush (v := nI 26) dX5_goWeek_71 rfl ?_
          refine aw_ialdN dX5_goWeek_73 (hR.2.1 46 28 rfl) (by omega) (by decide) ?_
          try simp only [mm_n_N, mm_n_A, mm_n_V, mm_n_Fp, mm_n_W, mm_n_Nm, mm_a_N, mm_a_A, mm_a_V, mm_a_Fp, mm_a_W, mm_a_Nm, mm_v_N, mm_v_A, mm_v_V, mm_fp_N, mm_fp_A, mm_fp_Fp, mm_w_N, mm_w_W, Nat.reduceEqDiff, reduceIte, if_true, if_false, mm_H_45, mm_H_46, mm_H_47, mm_H_50, mm_H_53, mm_H_54, mm_H_55, mm_H_56, mm_H_57, mm_H_58, mm_H_66, mm_H_67, mm_H_68]
          refine aw_iconst (v := nI 4) dX5_goWeek_74 rfl ?_
          refine aw_iremN dX5_goWeek_75 (by omega) (by omega) (by omega) ?_
          refine aw_if_leN (tgt := 82) dX5_goWeek_76 (by decide) (by omega) (fun c_76 => ?_) (fun c_76 => ?_)
          · refine aw_aload_n dX5_goWeek_82 rfl ?_
            refine aw_get dX5_goWeek_83 fX5_88 rfl hR.1 (by rfl) ?_
            refine aw_bipush (v := nI 16) dX5_goWeek_86 rfl ?_
            refine aw_iload_n dX5_goWeek_88 rfl ?_
            refine aw_iaddN dX5_goWeek_89 ?_
            refine aw_dup2 dX5_goWeek_90 rfl rfl ?_
            refine aw_ialdN dX5_goWeek_91 (hR.2.1 46 28 rfl) (by omega) (by decide) ?_
            try simp only [mm_n_N, mm_n_A, mm_n_V, mm_n_Fp, mm_n_W, mm_n_Nm, mm_a_N, mm_a_A, mm_a_V, mm_a_Fp, mm_a_W, mm_a_Nm, mm_v_N, mm_v_A, mm_v_V, mm_fp_N, mm_fp_A, mm_fp_Fp, mm_w_N, mm_w_W, Nat.reduceEqDiff, reduceIte, if_true, if_false, mm_H_45, mm_H_46, mm_H_47, mm_H_50, mm_H_53, mm_H_54, mm_H_55, mm_H_56, mm_H_57, mm_H_58, mm_H_66, mm_H_67, mm_H_68]
            refine aw_aload_n dX5_goWeek_92 rfl ?_
            refine aw_get dX5_goWeek_93 fX5_76 rfl hR.1 (by rfl) ?_
            refine aw_iload_n dX5_goWeek_96 rfl ?_
            refine aw_ialdN dX5_goWeek_97 (hR.2.1 35 8 rfl) (by omega) (by decide) ?_
            try simp only [mm_n_N, mm_n_A, mm_n_V, mm_n_Fp, mm_n_W, mm_n_Nm, mm_a_N, mm_a_A, mm_a_V, mm_a_Fp, mm_a_W, mm_a_Nm, mm_v_N, mm_v_A, mm_v_V, mm_fp_N, mm_fp_A, mm_fp_Fp, mm_w_N, mm_w_W, Nat.reduceEqDiff, reduceIte, if_true, if_false, mm_H_45, mm_H_46, mm_H_47, mm_H_50, mm_H_53, mm_H_54, mm_H_55, mm_H_56, mm_H_57, mm_H_58, mm_H_66, mm_H_67, mm_H_68]
            refine aw_iaddN dX5_goWeek_98 ?_
            refine mm_iast (k := 46) rfl hW hR hs dX5_goWeek_99 (by omega) (by decide) (fun h hR hs => ?_)
            have hR := mm_AU hR
            refine aw_aload_n dX5_goWeek_100 rfl ?_
            refine aw_get dX5_goWeek_101 fX5_88 rfl hR.1 (by rfl) ?_
            refine aw_bipush (v := nI 8) dX5_goWeek_104 rfl ?_
            refine aw_iload_n dX5_goWeek_106 rfl ?_
            refine aw_iaddN dX5_goWeek_107 ?_
            have r8 : aw_u B1 (16 + k) (B1 (16 + k) + mm_a s 35 k) (8 + k) = mm_a s 46 (8 + k) := by rw [aw_u_n (by omega), q8]
            have r16 : aw_u B1 (16 + k) (B1 (16 + k) + mm_a s 35 k) (16 + k) = mm_a s 46 (16 + k) + mm_a s 35 k := by rw [aw_u_s, q16]
            refine aw_ialdN dX5_goWeek_108 (hR.2.1 46 28 rfl) (by omega) (by decide) ?_
            try simp only [mm_n_N, mm_n_A, mm_n_V, mm_n_Fp, mm_n_W, mm_n_Nm, mm_a_N, mm_a_A, mm_a_V, mm_a_Fp, mm_a_W, mm_a_Nm, mm_v_N, mm_v_A, mm_v_V, mm_fp_N, mm_fp_A, mm_fp_Fp, mm_w_N, mm_w_W, Nat.reduceEqDiff, reduceIte, if_true, if_false, mm_H_45, mm_H_46, mm_H_47, mm_H_50, mm_H_53, mm_H_54, mm_H_55, mm_H_56, mm_H_57, mm_H_58, mm_H_66, mm_H_67, mm_H_68]
            refine aw_aload_n dX5_goWeek_109 rfl ?_
            refine aw_get dX5_goWeek_110 fX5_88 rfl hR.1 (by rfl) ?_
            refine aw_bipush (v := nI 16) dX5_goWeek_113 rfl ?_
            refine aw_iload_n dX5_goWeek_115 rfl ?_
            refine aw_iaddN dX5_goWeek_116 ?_
            refine aw_ialdN dX5_goWeek_117 (hR.2.1 46 28 rfl) (by omega) (by decide) ?_
            try simp only [mm_n_N, mm_n_A, mm_n_V, mm_n_Fp, mm_n_W, mm_n_Nm, mm_a_N, mm_a_A, mm_a_V, mm_a_Fp, mm_a_W, mm_a_Nm, mm_v_N, mm_v_A, mm_v_V, mm_fp_N, mm_fp_A, mm_fp_Fp, mm_w_N, mm_w_W, Nat.reduceEqDiff, reduceIte, if_true, if_false, mm_H_45, mm_H_46, mm_H_47, mm_H_50, mm_H_53, mm_H_54, mm_H_55, mm_H_56, mm_H_57, mm_H_58, mm_H_66, mm_H_67, mm_H_68]
            refine aw_icmp_geN (tgt := 133) dX5_goWeek_118 (by decide) (by omega) (by omega) (fun c_118 => ?_) (fun c_118 => ?_)
            · refine aw_aload_n dX5_goWeek_133 rfl ?_
              refine aw_get dX5_goWeek_134 fX5_88 rfl hR.1 (by rfl) ?_
              refine aw_bipush (v := nI 16) dX5_goWeek_137 rfl ?_
              refine aw_iload_n dX5_goWeek_139 rfl ?_
              refine aw_iaddN dX5_goWeek_140 ?_
              refine aw_ialdN dX5_goWeek_141 (hR.2.1 46 28 rfl) (by omega) (by decide) ?_
              try simp only [mm_n_N, mm_n_A, mm_n_V, mm_n_Fp, mm_n_W, mm_n_Nm, mm_a_N, mm_a_A, mm_a_V, mm_a_Fp, mm_a_W, mm_a_Nm, mm_v_N, mm_v_A, mm_v_V, mm_fp_N, mm_fp_A, mm_fp_Fp, mm_w_N, mm_w_W, Nat.reduceEqDiff, reduceIte, if_true, if_false, mm_H_45, mm_H_46, mm_H_47, mm_H_50, mm_H_53, mm_H_54, mm_H_55, mm_H_56, mm_H_57, mm_H_58, mm_H_66, mm_H_67, mm_H_68]
              refine aw_istore_n dX5_goWeek_142 (by decide) rfl rfl ?_
              exact fin _ h _ (by omega) (by rw [q16]) (by omega) hR hs
            · refine aw_aload_n dX5_goWeek_121 rfl ?_
              refine aw_get dX5_goWeek_122 fX5_88 rfl hR.1 (by rfl) ?_
              refine aw_bipush (v := nI 8) dX5_goWeek_125 rfl ?_
              refine aw_iload_n dX5_goWeek_127 rfl ?_
              refine aw_iaddN dX5_goWeek_128 ?_
              refine aw_ialdN dX5_goWeek_129 (hR.2.1 46 28 rfl) (by omega) (by decide) ?_
              try simp only [mm_n_N, mm_n_A, mm_n_V, mm_n_Fp, mm_n_W, mm_n_Nm, mm_a_N, mm_a_A, mm_a_V, mm_a_Fp, mm_a_W, mm_a_Nm, mm_v_N, mm_v_A, mm_v_V, mm_fp_N, mm_fp_A, mm_fp_Fp, mm_w_N, mm_w_W, Nat.reduceEqDiff, reduceIte, if_true, if_false, mm_H_45, mm_H_46, mm_H_47, mm_H_50, mm_H_53, mm_H_54, mm_H_55, mm_H_56, mm_H_57, mm_H_58, mm_H_66, mm_H_67, mm_H_68]
              refine aw_goto (tgt := 142) dX5_goWeek_130 (by decide) ?_
              refine aw_istore_n dX5_goWeek_142 (by decide) rfl rfl ?_
              exact fin _ h _ (by omega) (by rw [q16]) (by omega) hR hs
          · refine aw_goto (tgt := 169) dX5_goWeek_79 (by decide) ?_
            refine next _ h _ (Or.inl rfl) hk2 ?_ hR hs
            refine sp_wk_s (by omega) q0 (by rw [if_neg (by omega), q8]) (by rw [if_neg (by omega), q16]) (fun j j1 _ _ => qo j j1)
        ·
          refine aw_aload_n dX5_goWeek_67 rfl ?_
          refine aw_get dX5_goWeek_68 fX5_88 rfl hR.1 (by rfl) ?_
          refine aw_bipush (v := nI 26) dX5_goWeek_71 rfl ?_
          refine aw_ialdN dX5_goWeek_73 (hR.2.1 46 28 rfl) (by omega) (by decide) ?_
          try simp only [mm_n_N, mm_n_A, mm_n_V, mm_n_Fp, mm_n_W, mm_n_Nm, mm_a_N, mm_a_A, mm_a_V, mm_a_Fp, mm_a_W, mm_a_Nm, mm_v_N, mm_v_A, mm_v_V, mm_fp_N, mm_fp_A, mm_fp_Fp, mm_w_N, mm_w_W, Nat.reduceEqDiff, reduceIte, if_true, if_false, mm_H_45, mm_H_46, mm_H_47, mm_H_50, mm_H_53, mm_H_54, mm_H_55, mm_H_56, mm_H_57, mm_H_58, mm_H_66, mm_H_67, mm_H_68]
          refine aw_iconst (v := nI 4) dX5_goWeek_74 rfl ?_
          refine aw_iremN dX5_goWeek_75 (by omega) (by omega) (by omega) ?_
          refine aw_if_leN (tgt := 82) dX5_goWeek_76 (by decide) (by omega) (fun c_76 => ?_) (fun c_76 => ?_)
          · refine aw_aload_n dX5_goWeek_82 rfl ?_
            refine aw_get dX5_goWeek_83 fX5_88 rfl hR.1 (by rfl) ?_
            refine aw_bipush (v := nI 16) dX5_goWeek_86 rfl ?_
            refine aw_iload_n dX5_goWeek_88 rfl ?_
            refine aw_iaddN dX5_goWeek_89 ?_
            refine aw_dup2 dX5_goWeek_90 rfl rfl ?_
            refine aw_ialdN dX5_goWeek_91 (hR.2.1 46 28 rfl) (by omega) (by decide) ?_
            try simp only [mm_n_N, mm_n_A, mm_n_V, mm_n_Fp, mm_n_W, mm_n_Nm, mm_a_N, mm_a_A, mm_a_V, mm_a_Fp, mm_a_W, mm_a_Nm, mm_v_N, mm_v_A, mm_v_V, mm_fp_N, mm_fp_A, mm_fp_Fp, mm_w_N, mm_w_W, Nat.reduceEqDiff, reduceIte, if_true, if_false, mm_H_45, mm_H_46, mm_H_47, mm_H_50, mm_H_53, mm_H_54, mm_H_55, mm_H_56, mm_H_57, mm_H_58, mm_H_66, mm_H_67, mm_H_68]
            refine aw_aload_n dX5_goWeek_92 rfl ?_
            refine aw_get dX5_goWeek_93 fX5_76 rfl hR.1 (by rfl) ?_
            refine aw_iload_n dX5_goWeek_96 rfl ?_
            refine aw_ialdN dX5_goWeek_97 (hR.2.1 35 8 rfl) (by omega) (by decide) ?_
            try simp only [mm_n_N, mm_n_A, mm_n_V, mm_n_Fp, mm_n_W, mm_n_Nm, mm_a_N, mm_a_A, mm_a_V, mm_a_Fp, mm_a_W, mm_a_Nm, mm_v_N, mm_v_A, mm_v_V, mm_fp_N, mm_fp_A, mm_fp_Fp, mm_w_N, mm_w_W, Nat.reduceEqDiff, reduceIte, if_true, if_false, mm_H_45, mm_H_46, mm_H_47, mm_H_50, mm_H_53, mm_H_54, mm_H_55, mm_H_56, mm_H_57, mm_H_58, mm_H_66, mm_H_67, mm_H_68]
            refine aw_iaddN dX5_goWeek_98 ?_
            refine mm_iast (k := 46) rfl hW hR hs dX5_goWeek_99 (by omega) (by decide) (fun h hR hs => ?_)
            have hR := mm_AU hR
            refine aw_aload_n dX5_goWeek_100 rfl ?_
            refine aw_get dX5_goWeek_101 fX5_88 rfl hR.1 (by rfl) ?_
            refine aw_bipush (v := nI 8) dX5_goWeek_104 rfl ?_
            refine aw_iload_n dX5_goWeek_106 rfl ?_
            refine aw_iaddN dX5_goWeek_107 ?_
            have r8 : aw_u B1 (16 + k) (B1 (16 + k) + mm_a s 35 k) (8 + k) = mm_a s 46 (8 + k) := by rw [aw_u_n (by omega), q8]
            have r16 : aw_u B1 (16 + k) (B1 (16 + k) + mm_a s 35 k) (16 + k) = mm_a s 46 (16 + k) + mm_a s 35 k := by rw [aw_u_s, q16]
            refine aw_ialdN dX5_goWeek_108 (hR.2.1 46 28 rfl) (by omega) (by decide) ?_
            try simp only [mm_n_N, mm_n_A, mm_n_V, mm_n_Fp, mm_n_W, mm_n_Nm, mm_a_N, mm_a_A, mm_a_V, mm_a_Fp, mm_a_W, mm_a_Nm, mm_v_N, mm_v_A, mm_v_V, mm_fp_N, mm_fp_A, mm_fp_Fp, mm_w_N, mm_w_W, Nat.reduceEqDiff, reduceIte, if_true, if_false, mm_H_45, mm_H_46, mm_H_47, mm_H_50, mm_H_53, mm_H_54, mm_H_55, mm_H_56, mm_H_57, mm_H_58, mm_H_66, mm_H_67, mm_H_68]
            refine aw_aload_n dX5_goWeek_109 rfl ?_
            refine aw_get dX5_goWeek_110 fX5_88 rfl hR.1 (by rfl) ?_
            refine aw_bipush (v := nI 16) dX5_goWeek_113 rfl ?_
            refine aw_iload_n dX5_goWeek_115 rfl ?_
            refine aw_iaddN dX5_goWeek_116 ?_
            refine aw_ialdN dX5_goWeek_117 (hR.2.1 46 28 rfl) (by omega) (by decide) ?_
            try simp only [mm_n_N, mm_n_A, mm_n_V, mm_n_Fp, mm_n_W, mm_n_Nm, mm_a_N, mm_a_A, mm_a_V, mm_a_Fp, mm_a_W, mm_a_Nm, mm_v_N, mm_v_A, mm_v_V, mm_fp_N, mm_fp_A, mm_fp_Fp, mm_w_N, mm_w_W, Nat.reduceEqDiff, reduceIte, if_true, if_false, mm_H_45, mm_H_46, mm_H_47, mm_H_50, mm_H_53, mm_H_54, mm_H_55, mm_H_56, mm_H_57, mm_H_58, mm_H_66, mm_H_67, mm_H_68]
            refine aw_icmp_geN (tgt := 133) dX5_goWeek_118 (by decide) (by omega) (by omega) (fun c_118 => ?_) (fun c_118 => ?_)
            · refine aw_aload_n dX5_goWeek_133 rfl ?_
              refine aw_get dX5_goWeek_134 fX5_88 rfl hR.1 (by rfl) ?_
              refine aw_bipush (v := nI 16) dX5_goWeek_137 rfl ?_
              refine aw_iload_n dX5_goWeek_139 rfl ?_
              refine aw_iaddN dX5_goWeek_140 ?_
              refine aw_ialdN dX5_goWeek_141 (hR.2.1 46 28 rfl) (by omega) (by decide) ?_
              try simp only [mm_n_N, mm_n_A, mm_n_V, mm_n_Fp, mm_n_W, mm_n_Nm, mm_a_N, mm_a_A, mm_a_V, mm_a_Fp, mm_a_W, mm_a_Nm, mm_v_N, mm_v_A, mm_v_V, mm_fp_N, mm_fp_A, mm_fp_Fp, mm_w_N, mm_w_W, Nat.reduceEqDiff, reduceIte, if_true, if_false, mm_H_45, mm_H_46, mm_H_47, mm_H_50, mm_H_53, mm_H_54, mm_H_55, mm_H_56, mm_H_57, mm_H_58, mm_H_66, mm_H_67, mm_H_68]
              refine aw_istore_n dX5_goWeek_142 (by decide) rfl rfl ?_
              exact fin _ h _ (by omega) (by rw [q16]) (by omega) hR hs
            · refine aw_aload_n dX5_goWeek_121 rfl ?_
              refine aw_get dX5_goWeek_122 fX5_88 rfl hR.1 (by rfl) ?_
              refine aw_bipush (v := nI 8) dX5_goWeek_125 rfl ?_
              refine aw_iload_n dX5_goWeek_127 rfl ?_
              refine aw_iaddN dX5_goWeek_128 ?_
              refine aw_ialdN dX5_goWeek_129 (hR.2.1 46 28 rfl) (by omega) (by decide) ?_
              try simp only [mm_n_N, mm_n_A, mm_n_V, mm_n_Fp, mm_n_W, mm_n_Nm, mm_a_N, mm_a_A, mm_a_V, mm_a_Fp, mm_a_W, mm_a_Nm, mm_v_N, mm_v_A, mm_v_V, mm_fp_N, mm_fp_A, mm_fp_Fp, mm_w_N, mm_w_W, Nat.reduceEqDiff, reduceIte, if_true, if_false, mm_H_45, mm_H_46, mm_H_47, mm_H_50, mm_H_53, mm_H_54, mm_H_55, mm_H_56, mm_H_57, mm_H_58, mm_H_66, mm_H_67, mm_H_68]
              refine aw_goto (tgt := 142) dX5_goWeek_130 (by decide) ?_
              refine aw_istore_n dX5_goWeek_142 (by decide) rfl rfl ?_
              exact fin _ h _ (by omega) (by rw [q16]) (by omega) hR hs
          · refine aw_goto (tgt := 169) dX5_goWeek_79 (by decide) ?_
            refine next _ h _ (Or.inr ⟨_, rfl⟩) hk2 ?_ hR hs
            refine sp_wk_s (by omega) q0 (by rw [if_neg (by omega), q8]) (by rw [if_neg (by omega), q16]) (fun j j1 _ _ => qo j j1)
      rcases hls with rfl | ⟨q, rfl⟩
      ·
        refine aw_iload_n dX5_goWeek_47 rfl ?_
        refine aw_aload_n dX5_goWeek_48 rfl ?_
        refine aw_get dX5_goWeek_49 fX5_350 rfl hR.1 (by rfl) ?_
        try simp only [mm_n_N, mm_n_A, mm_n_V, mm_n_Fp, mm_n_W, mm_n_Nm, mm_a_N, mm_a_A, mm_a_V, mm_a_Fp, mm_a_W, mm_a_Nm, mm_v_N, mm_v_A, mm_v_V, mm_fp_N, mm_fp_A, mm_fp_Fp, mm_w_N, mm_w_W, Nat.reduceEqDiff, reduceIte, if_true, if_false, mm_H_45, mm_H_46, mm_H_47, mm_H_50, mm_H_53, mm_H_54, mm_H_55, mm_H_56, mm_H_57, mm_H_58, mm_H_66, mm_H_67, mm_H_68]
        refine aw_icmp_geN (tgt := 175) dX5_goWeek_52 (by decide) (by omega) (by omega) (fun c_52 => ?_) (fun c_52 => ?_)
        · refine aw_vreturn dX5_goWeek_175 rfl ?_
          exact ⟨rfl, mm_eq hR (by rw [hB, show k = sp_hn (mm_H s) from (by show k = mm_n s 42; omega)]; rfl), hs⟩
        · refine aw_aload_n dX5_goWeek_55 rfl ?_
          refine aw_get dX5_goWeek_56 fX5_88 rfl hR.1 (by rfl) ?_
          refine aw_iload_n dX5_goWeek_59 rfl ?_
          refine aw_aload_n dX5_goWeek_60 rfl ?_
          refine aw_get dX5_goWeek_61 fX5_70 rfl hR.1 (by rfl) ?_
          refine aw_iload_n dX5_goWeek_64 rfl ?_
          refine aw_ialdN dX5_goWeek_65 (hR.2.1 33 8 rfl) (by omega) (by decide) ?_
          try simp only [mm_n_N, mm_n_A, mm_n_V, mm_n_Fp, mm_n_W, mm_n_Nm, mm_a_N, mm_a_A, mm_a_V, mm_a_Fp, mm_a_W, mm_a_Nm, mm_v_N, mm_v_A, mm_v_V, mm_fp_N, mm_fp_A, mm_fp_Fp, mm_w_N, mm_w_W, Nat.reduceEqDiff, reduceIte, if_true, if_false, mm_H_45, mm_H_46, mm_H_47, mm_H_50, mm_H_53, mm_H_54, mm_H_55, mm_H_56, mm_H_57, mm_H_58, mm_H_66, mm_H_67, mm_H_68]
          refine mm_iast (k := 46) rfl hW hR hs dX5_goWeek_66 (by omega) (by decide) (fun h hR hs => ?_)
          have hR := mm_AU hR
          exact pay h _ _ (Or.inl rfl) (by omega) rfl hR hs
      ·
        refine aw_iload_n dX5_goWeek_47 rfl ?_
        refine aw_aload_n dX5_goWeek_48 rfl ?_
        refine aw_get dX5_goWeek_49 fX5_350 rfl hR.1 (by rfl) ?_
        try simp only [mm_n_N, mm_n_A, mm_n_V, mm_n_Fp, mm_n_W, mm_n_Nm, mm_a_N, mm_a_A, mm_a_V, mm_a_Fp, mm_a_W, mm_a_Nm, mm_v_N, mm_v_A, mm_v_V, mm_fp_N, mm_fp_A, mm_fp_Fp, mm_w_N, mm_w_W, Nat.reduceEqDiff, reduceIte, if_true, if_false, mm_H_45, mm_H_46, mm_H_47, mm_H_50, mm_H_53, mm_H_54, mm_H_55, mm_H_56, mm_H_57, mm_H_58, mm_H_66, mm_H_67, mm_H_68]
        refine aw_icmp_geN (tgt := 175) dX5_goWeek_52 (by decide) (by omega) (by omega) (fun c_52 => ?_) (fun c_52 => ?_)
        · refine aw_vreturn dX5_goWeek_175 rfl ?_
          exact ⟨rfl, mm_eq hR (by rw [hB, show k = sp_hn (mm_H s) from (by show k = mm_n s 42; omega)]; rfl), hs⟩
        · refine aw_aload_n dX5_goWeek_55 rfl ?_
          refine aw_get dX5_goWeek_56 fX5_88 rfl hR.1 (by rfl) ?_
          refine aw_iload_n dX5_goWeek_59 rfl ?_
          refine aw_aload_n dX5_goWeek_60 rfl ?_
          refine aw_get dX5_goWeek_61 fX5_70 rfl hR.1 (by rfl) ?_
          refine aw_iload_n dX5_goWeek_64 rfl ?_
          refine aw_ialdN dX5_goWeek_65 (hR.2.1 33 8 rfl) (by omega) (by decide) ?_
          try simp only [mm_n_N, mm_n_A, mm_n_V, mm_n_Fp, mm_n_W, mm_n_Nm, mm_a_N, mm_a_A, mm_a_V, mm_a_Fp, mm_a_W, mm_a_Nm, mm_v_N, mm_v_A, mm_v_V, mm_fp_N, mm_fp_A, mm_fp_Fp, mm_w_N, mm_w_W, Nat.reduceEqDiff, reduceIte, if_true, if_false, mm_H_45, mm_H_46, mm_H_47, mm_H_50, mm_H_53, mm_H_54, mm_H_55, mm_H_56, mm_H_57, mm_H_58, mm_H_66, mm_H_67, mm_H_68]
          refine mm_iast (k := 46) rfl hW hR hs dX5_goWeek_66 (by omega) (by decide) (fun h hR hs => ?_)
          have hR := mm_AU hR
          exact pay h _ _ (Or.inr ⟨_, rfl⟩) (by omega) rfl hR hs
  refine aw_aload_n dX5_goWeek_0 rfl ?_
  refine aw_get dX5_goWeek_1 fX5_88 rfl hR.1 (by rfl) ?_
  refine aw_bipush (v := nI 25) dX5_goWeek_4 rfl ?_
  refine aw_aload_n dX5_goWeek_6 rfl ?_
  refine aw_get dX5_goWeek_7 fX5_88 rfl hR.1 (by rfl) ?_
  refine aw_bipush (v := nI 25) dX5_goWeek_10 rfl ?_
  refine aw_ialdN dX5_goWeek_12 (hR.2.1 46 28 rfl) (by omega) (by decide) ?_
  refine aw_aload_n dX5_goWeek_13 rfl ?_
  refine mm_call dX5_goWeek_14 sX5_391 rfl hW hR hs (mm_pullHere hn hF hc) rfl rfl ⟨Nat.le_of_ble_eq_true rfl, Nat.le_of_ble_eq_true rfl⟩ (Nat.le_of_ble_eq_true rfl) (fun h hR hs => ?_)
  refine aw_iadd dX5_goWeek_17 ?_
  refine aw_aload_n dX5_goWeek_18 rfl ?_
  refine aw_get dX5_goWeek_19 fX5_82 rfl hR.1 (by rfl) ?_
  refine aw_callP (r := _) dX5_goWeek_22 sX5_379 rfl (mp_within hs20) rfl rfl ⟨Nat.le_of_ble_eq_true rfl, Nat.le_of_ble_eq_true rfl⟩ (Nat.le_of_ble_eq_true rfl) ?_
  refine mm_iast (k := 46) rfl hW hR hs dX5_goWeek_25 (by omega) (by decide) (fun h hR hs => ?_)
  refine aw_aload_n dX5_goWeek_26 rfl ?_
  refine aw_get dX5_goWeek_27 fX5_88 rfl hR.1 (by rfl) ?_
  refine aw_bipush (v := nI 24) dX5_goWeek_30 rfl ?_
  refine aw_iconst (v := nI 0) dX5_goWeek_32 rfl ?_
  refine mm_iast (k := 46) rfl hW hR hs dX5_goWeek_33 (by omega) (by decide) (fun h hR hs => ?_)
  have hR := mm_AU hR
  refine aw_aload_n dX5_goWeek_34 rfl ?_
  refine aw_get dX5_goWeek_35 fX5_88 rfl hR.1 (by rfl) ?_
  refine aw_bipush (v := nI 26) dX5_goWeek_38 rfl ?_
  refine aw_dup2 dX5_goWeek_40 rfl rfl ?_
  refine aw_ialdN dX5_goWeek_41 (hR.2.1 46 28 rfl) (by omega) (by decide) ?_
  try simp only [mm_n_N, mm_n_A, mm_n_V, mm_n_Fp, mm_n_W, mm_n_Nm, mm_a_N, mm_a_A, mm_a_V, mm_a_Fp, mm_a_W, mm_a_Nm, mm_v_N, mm_v_A, mm_v_V, mm_fp_N, mm_fp_A, mm_fp_Fp, mm_w_N, mm_w_W, Nat.reduceEqDiff, reduceIte, if_true, if_false, mm_H_45, mm_H_46, mm_H_47, mm_H_50, mm_H_53, mm_H_54, mm_H_55, mm_H_56, mm_H_57, mm_H_58, mm_H_66, mm_H_67, mm_H_68]
  refine aw_iconst (v := nI 1) dX5_goWeek_42 rfl ?_
  refine aw_iaddN dX5_goWeek_43 ?_
  refine mm_iast (k := 46) rfl hW hR hs dX5_goWeek_44 (by omega) (by decide) (fun h hR hs => ?_)
  have hR := mm_AU hR
  refine aw_iconst (v := nI 0) dX5_goWeek_45 rfl ?_
  refine aw_istore_n dX5_goWeek_46 (by decide) rfl rfl ?_
  refine loop (mm_n s 42) 0 h [] (Or.inl rfl) rfl (Nat.zero_le _) (mm_eq hR ?_) hs
  congr 1
  funext j
  by_cases h26 : j = 26
  · subst h26; rfl
  · by_cases h25 : j = 25
    · subst h25; rfl
    · by_cases h24 : j = 24
      · subst h24; rfl
      · rw [aw_u_n h26, aw_u_n h24, aw_u_n h25]
        unfold sp_wk
        simp only [Nat.not_lt_zero, false_and, if_false, if_neg h24, if_neg h25, if_neg h26, ite_self]

