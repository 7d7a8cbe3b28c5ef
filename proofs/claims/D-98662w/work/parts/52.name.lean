set_option maxRecDepth 100000
/-! the model: names -/
def mm_dup (s : mm_S) : Nat → Bool
  | 0 => false
  | k + 1 => mm_dup s k || decide (mm_nm s k = mm_w s)
def mm_nn1 (s : mm_S) : mm_S := if mm_n s 6 = 1 ∧ mm_own (mm_w s) = false then (if mm_dup s (mm_n s 39) = true then mm_wr s 3 else mm_tk (mm_setNm s (aw_u (mm_nm s) (mm_n s 39) (mm_w s)))) else mm_wr s 2
set_option maxHeartbeats 4000000 in
theorem mm_newName {s : mm_S} (hP : mm_okP s) (h2 : mm_n s 2 = 0) (h39 : mm_n s 39 < 8) : mm_Met yX5_newName cX5_newName 2 none 2 [] s none (mm_nn1 (mm_tk s)) := by
  refine mm_Met.of (by decide +kernel) (fun _ => Nat.le_of_ble_eq_true rfl) (fun G w h0 hW hR => ?_)
  have hs : mm_same w h0 h0 := mm_same.rf
  show AW G (aw_rm 2 0 0) yX5_newName cX5_newName 2 none (aw_N G (mm_Po G w h0 none (mm_nn1 (mm_tk s))) 0 0) 0 0 h0 0 [(0, .ref w.1)] []
  obtain ⟨t, et⟩ : ∃ t, t = mm_tk s := ⟨_, rfl⟩
  have hP2 : mm_okP t := by rw [et]; exact mm_tk_ok hP
  have t2 : mm_n t 2 = 0 := by rw [et]; exact h2
  have t39 : mm_n t 39 = mm_n s 39 := by rw [et]; rfl
  have ctk := mm_token hP.1 hP.2.1 hP.2.2.1
  rw [← et] at ctk ⊢
  obtain ⟨p1, p2, p3, p4, p5, p6, p7⟩ := hP2
  have out : ∀ (v : Nat) (ls9 : List (Nat × Value)) (h : aw_H), 0 < v → v ≤ 4 → mm_nn1 t = mm_wr t v → mm_R G w h (mm_wr t v) → mm_same w h0 h → AW G (aw_rm 2 0 0) yX5_newName cX5_newName 2 none (aw_N G (mm_Po G w h0 none (mm_nn1 t)) 0 0) 0 0 h 58 [(0, .ref w.1)] [] := by
    intro v ls9 h hv hv4 e hR hs
    have e2 : mm_n (mm_wr t v) 2 = if mm_n t 6 = 3 then 1 else v := mm_wr_n t2
    have e3 : 0 < mm_n (mm_wr t v) 2 ∧ mm_n (mm_wr t v) 2 ≤ 4 := by rw [e2]; split <;> omega
    refine aw_aload_n dX5_newName_58 rfl ?_
    refine aw_get dX5_newName_59 fX5_182 rfl hR.1 (by rfl) ?_
    refine aw_if_leN (tgt := 66) dX5_newName_62 (by decide) (by omega) (fun c_62 => by exfalso; omega) (fun c_62 => ?_)
    refine aw_vreturn dX5_newName_65 rfl ?_
    exact ⟨rfl, mm_eq hR e.symm, hs⟩
  have cwr2 : mm_Met _ _ _ _ _ _ t none (mm_wr t 2) := mm_wrong (s := t) (v := 2) (by omega) (by omega)
  have cwr3 : mm_Met _ _ _ _ _ _ t none (mm_wr t 3) := mm_wrong (s := t) (v := 3) (by omega) (by omega)
  have e22 : 0 < mm_n (mm_wr t 2) 2 ∧ mm_n (mm_wr t 2) 2 ≤ 4 := by rw [mm_wr_n t2]; split <;> omega
  have e32 : 0 < mm_n (mm_wr t 3) 2 ∧ mm_n (mm_wr t 3) 2 ≤ 4 := by rw [mm_wr_n t2]; split <;> omega
  have dup2 : ∀ (k : Nat) (h : aw_H), mm_nn1 t = mm_wr t 2 → mm_R G w h (mm_wr t 2) → mm_same w h0 h → k < 100 → AW G (aw_rm 2 0 0) yX5_newName cX5_newName 2 none (aw_N G (mm_Po G w h0 none (mm_nn1 t)) 0 0) 0 0 h 18 [(0, .ref w.1), (1, .int (nI k))] [] := by
    intro k h e9 hR hs hk
    have e39 : mm_n (mm_wr t 2) 39 = mm_n t 39 := by rw [mm_wr_0 t2]; rfl
    refine aw_iload_n dX5_newName_18 rfl ?_
    refine aw_aload_n dX5_newName_19 rfl ?_
    refine aw_get dX5_newName_20 fX5_248 rfl hR.1 (by rfl) ?_
    refine aw_icmp_geN (tgt := 58) dX5_newName_23 (by decide) (by omega) (by omega) (fun c_23 => ?_) (fun c_23 => ?_)
    · exact AW_dr (out 2 [] h (by decide) (by decide) e9 hR hs)
    · refine aw_aload_n dX5_newName_26 rfl ?_
      refine aw_get dX5_newName_27 fX5_182 rfl hR.1 (by rfl) ?_
      refine aw_if_neN (tgt := 58) dX5_newName_30 (by decide) (by omega) (fun c_30 => ?_) (fun c_30 => by exfalso; omega)
      exact AW_dr (out 2 [] h (by decide) (by decide) e9 hR hs)
  have dupx : ∀ (k : Nat) (h : aw_H), mm_nn1 t = mm_wr t 3 → mm_R G w h (mm_wr t 3) → mm_same w h0 h → k < 100 → AW G (aw_rm 2 0 0) yX5_newName cX5_newName 2 none (aw_N G (mm_Po G w h0 none (mm_nn1 t)) 0 0) 0 0 h 52 [(0, .ref w.1), (1, .int (nI k))] [] := by
    intro k h e9 hR hs hk
    have e39 : mm_n (mm_wr t 3) 39 = mm_n t 39 := by rw [mm_wr_0 t2]; rfl
    refine aw_iincN (b := 1) dX5_newName_52 rfl rfl (by decide) rfl rfl ?_
    refine aw_goto (tgt := 18) dX5_newName_55 (by decide) ?_
    refine aw_iload_n dX5_newName_18 rfl ?_
    refine aw_aload_n dX5_newName_19 rfl ?_
    refine aw_get dX5_newName_20 fX5_248 rfl hR.1 (by rfl) ?_
    refine aw_icmp_geN (tgt := 58) dX5_newName_23 (by decide) (by omega) (by omega) (fun c_23 => ?_) (fun c_23 => ?_)
    · exact AW_dr (out 3 [] h (by decide) (by decide) e9 hR hs)
    · refine aw_aload_n dX5_newName_26 rfl ?_
      refine aw_get dX5_newName_27 fX5_182 rfl hR.1 (by rfl) ?_
      refine aw_if_neN (tgt := 58) dX5_newName_30 (by decide) (by omega) (fun c_30 => ?_) (fun c_30 => by exfalso; omega)
      exact AW_dr (out 3 [] h (by decide) (by decide) e9 hR hs)
  have nxt : ∀ (k : Nat) (h : aw_H), (∀ h : aw_H, mm_R G w h t → mm_same w h0 h → AW G (aw_rm 2 0 0) yX5_newName cX5_newName 2 none (aw_N G (mm_Po G w h0 none (mm_nn1 t)) 0 0) 0 0 h 18 [(0, .ref w.1), (1, .int (nI (k + 1)))] []) → mm_R G w h t → mm_same w h0 h → AW G (aw_rm 2 0 0) yX5_newName cX5_newName 2 none (aw_N G (mm_Po G w h0 none (mm_nn1 t)) 0 0) 0 0 h 52 [(0, .ref w.1), (1, .int (nI k))] [] := by
    intro k h hgo hR hs
    refine aw_iincN (b := 1) dX5_newName_52 rfl rfl (by decide) rfl rfl ?_
    refine aw_goto (tgt := 18) dX5_newName_55 (by decide) ?_
    exact hgo h hR hs
  have loop : (mm_n t 6 = 1 ∧ mm_own (mm_w t) = false) → ∀ (m k : Nat) (h : aw_H), mm_n t 39 - k = m → k ≤ mm_n t 39 → mm_dup t k = false → mm_R G w h t → mm_same w h0 h → AW G (aw_rm 2 0 0) yX5_newName cX5_newName 2 none (aw_N G (mm_Po G w h0 none (mm_nn1 t)) 0 0) 0 0 h 18 [(0, .ref w.1), (1, .int (nI k))] [] := by
    intro hN m
    induction m using Nat.strongRecOn with
    | _ m ih =>
      intro k h hm hk hd hR hs
      by_cases hk9 : k < mm_n t 39
      · have eS : mm_dup t (k + 1) = (mm_dup t k || decide (mm_nm t k = mm_w t)) := rfl
        have mono : mm_dup t (k + 1) = true → mm_dup t (mm_n t 39) = true := by
          have g : ∀ d, mm_dup t (k + 1) = true → mm_dup t (k + 1 + d) = true := by
            intro d
            induction d with
            | zero => intro y; exact y
            | succ d ihd => intro y; show (mm_dup t (k + 1 + d) || _) = true; rw [ihd y, Bool.true_or]
          intro y
          have := g (mm_n t 39 - (k + 1)) y
          rw [show k + 1 + (mm_n t 39 - (k + 1)) = mm_n t 39 by omega] at this
          exact this
        refine aw_iload_n dX5_newName_18 rfl ?_
        refine aw_aload_n dX5_newName_19 rfl ?_
        refine aw_get dX5_newName_20 fX5_248 rfl hR.1 (by rfl) ?_
        refine aw_icmp_geN (tgt := 58) dX5_newName_23 (by decide) (by omega) (by omega) (fun c_23 => by exfalso; omega) (fun c_23 => ?_)
        refine aw_aload_n dX5_newName_26 rfl ?_
        refine aw_get dX5_newName_27 fX5_182 rfl hR.1 (by rfl) ?_
        refine aw_if_neN (tgt := 58) dX5_newName_30 (by decide) (by omega) (fun c_30 => by exfalso; omega) (fun c_30 => ?_)
        refine aw_aload_n dX5_newName_33 rfl ?_
        refine aw_get dX5_newName_34 fX5_17 rfl hR.1 (by rfl) ?_
        refine aw_iload_n dX5_newName_37 rfl ?_
        refine aw_laldN dX5_newName_38 hR.2.2.2.2.1 (by omega) (by decide) ?_
        refine aw_aload_n dX5_newName_39 rfl ?_
        refine aw_get dX5_newName_40 fX5_162 rfl hR.1 (by rfl) ?_
        refine aw_lcmp dX5_newName_43 ?_
        refine aw_if_neL (tgt := 52) dX5_newName_44 (by decide) (fun c_44 => ?_) (fun c_44 => ?_)
        · first
            | (have e9 : mm_nn1 t = mm_wr t 3 := by (unfold mm_nn1; rw [if_pos hN, if_pos (mono (by rw [eS, decide_eq_true c_44, Bool.or_true]))])
               have hR : mm_R G w h (mm_wr t 3) := hR
               exact dupx k h e9 hR hs (by omega))
            | exact nxt k h (fun h hR hs => ih (mm_n t 39 - (k + 1)) (by omega) (k + 1) h rfl (by omega) (by rw [eS, hd, decide_eq_false c_44]; rfl) hR hs) hR hs
        · refine aw_aload_n dX5_newName_47 rfl ?_
          refine aw_iconst (v := nI 3) dX5_newName_48 rfl ?_
          refine mm_call dX5_newName_49 sX5_227 rfl hW hR hs cwr3 rfl rfl ⟨Nat.le_of_ble_eq_true rfl, Nat.le_of_ble_eq_true rfl⟩ (Nat.le_of_ble_eq_true rfl) (fun h hR hs => ?_)
          first
            | (have e9 : mm_nn1 t = mm_wr t 3 := by (unfold mm_nn1; rw [if_pos hN, if_pos (mono (by rw [eS, decide_eq_true c_44, Bool.or_true]))])
               have hR : mm_R G w h (mm_wr t 3) := hR
               exact dupx k h e9 hR hs (by omega))
            | exact nxt k h (fun h hR hs => ih (mm_n t 39 - (k + 1)) (by omega) (k + 1) h rfl (by omega) (by rw [eS, hd, decide_eq_false c_44]; rfl) hR hs) hR hs
      · obtain rfl : k = mm_n t 39 := by omega
        have e9 : mm_nn1 t = mm_tk (mm_setNm t (aw_u (mm_nm t) (mm_n t 39) (mm_w t))) := by (unfold mm_nn1; rw [if_pos hN, if_neg (by rw [hd]; exact Bool.false_ne_true)])
        refine aw_iload_n dX5_newName_18 rfl ?_
        refine aw_aload_n dX5_newName_19 rfl ?_
        refine aw_get dX5_newName_20 fX5_248 rfl hR.1 (by rfl) ?_
        refine aw_icmp_geN (tgt := 58) dX5_newName_23 (by decide) (by omega) (by omega) (fun c_23 => ?_) (fun c_23 => by exfalso; omega)
        refine aw_aload_n dX5_newName_58 rfl ?_
        refine aw_get dX5_newName_59 fX5_182 rfl hR.1 (by rfl) ?_
        refine aw_if_leN (tgt := 66) dX5_newName_62 (by decide) (by omega) (fun c_62 => ?_) (fun c_62 => by exfalso; omega)
        refine aw_aload_n dX5_newName_66 rfl ?_
        refine aw_get dX5_newName_67 fX5_17 rfl hR.1 (by rfl) ?_
        refine aw_aload_n dX5_newName_70 rfl ?_
        refine aw_get dX5_newName_71 fX5_248 rfl hR.1 (by rfl) ?_
        refine aw_aload_n dX5_newName_74 rfl ?_
        refine aw_get dX5_newName_75 fX5_162 rfl hR.1 (by rfl) ?_
        refine mm_last hW hR hs dX5_newName_78 (by omega) (fun h hR hs => ?_)
        refine aw_aload_n dX5_newName_79 rfl ?_
        refine mm_call dX5_newName_80 sX5_230 rfl hW hR hs (mm_token (s := mm_setNm t (aw_u (mm_nm t) (mm_n t 39) (mm_w t))) p1 p2 p3) rfl rfl ⟨Nat.le_of_ble_eq_true rfl, Nat.le_of_ble_eq_true rfl⟩ (Nat.le_of_ble_eq_true rfl) (fun h hR hs => ?_)
        refine aw_vreturn dX5_newName_83 rfl ?_
        exact ⟨rfl, mm_eq hR e9.symm, hs⟩
  refine aw_aload_n dX5_newName_0 rfl ?_
  refine mm_call dX5_newName_1 sX5_230 rfl hW hR hs ctk rfl rfl ⟨Nat.le_of_ble_eq_true rfl, Nat.le_of_ble_eq_true rfl⟩ (Nat.le_of_ble_eq_true rfl) (fun h hR hs => ?_)
  refine aw_aload_n dX5_newName_4 rfl ?_
  refine mm_call dX5_newName_5 sX5_245 rfl hW hR hs (mm_isName p4) rfl rfl ⟨Nat.le_of_ble_eq_true rfl, Nat.le_of_ble_eq_true rfl⟩ (Nat.le_of_ble_eq_true rfl) (fun h hR hs => ?_)
  try simp only [mm_n_N, mm_n_A, mm_n_V, mm_n_Fp, mm_n_W, mm_n_Nm, mm_a_N, mm_a_A, mm_a_V, mm_a_Fp, mm_a_W, mm_a_Nm, mm_v_N, mm_v_A, mm_v_V, mm_fp_N, mm_fp_A, mm_fp_Fp, mm_w_N, mm_w_W, Nat.reduceEqDiff, reduceIte, if_true, if_false, mm_H_45, mm_H_46, mm_H_47, mm_H_50, mm_H_53, mm_H_54, mm_H_55, mm_H_56, mm_H_57, mm_H_58, mm_H_66, mm_H_67, mm_H_68]
  refine aw_if_neB (tgt := 16) dX5_newName_8 (by decide) (fun c_8 => ?_) (fun c_8 => ?_)
  · refine aw_iconst (v := nI 0) dX5_newName_16 rfl ?_
    refine aw_istore_n dX5_newName_17 (by decide) rfl rfl ?_
    first
      | exact loop c_8 _ 0 h rfl (Nat.zero_le _) rfl hR hs
      | (have e9 : mm_nn1 t = mm_wr t 2 := by (unfold mm_nn1; rw [if_neg c_8])
         have hR : mm_R G w h (mm_wr t 2) := hR
         exact dup2 0 h e9 hR hs (by decide))
  · refine aw_aload_n dX5_newName_11 rfl ?_
    refine aw_iconst (v := nI 2) dX5_newName_12 rfl ?_
    refine mm_call dX5_newName_13 sX5_227 rfl hW hR hs cwr2 rfl rfl ⟨Nat.le_of_ble_eq_true rfl, Nat.le_of_ble_eq_true rfl⟩ (Nat.le_of_ble_eq_true rfl) (fun h hR hs => ?_)
    refine aw_iconst (v := nI 0) dX5_newName_16 rfl ?_
    refine aw_istore_n dX5_newName_17 (by decide) rfl rfl ?_
    first
      | exact loop c_8 _ 0 h rfl (Nat.zero_le _) rfl hR hs
      | (have e9 : mm_nn1 t = mm_wr t 2 := by (unfold mm_nn1; rw [if_neg c_8])
         have hR : mm_R G w h (mm_wr t 2) := hR
         exact dup2 0 h e9 hR hs (by decide))

