set_option maxRecDepth 100000
/-! the model: calls, the second lot -/
theorem sp_cv0 : sp_cv 0 = -1 := rfl
theorem aw_tn {n : Nat} (h : n < 2147483648) : (nI n).toNatClampNeg = n := nI_clamp (by omega)
set_option maxHeartbeats 4000000 in
theorem mm_carriesOf {s : mm_S} {t o : Nat} (hH : sp_okH (mm_H s)) (ht : t < 8) (ho : o < 8) (hb9 : mm_a s 46 t ≤ 40) : mm_Met yX5_carriesOf cX5_carriesOf 5 (some .int) 1 [.int (nI (t)), .int (nI (o))] s (some (.int (nI (sp_carr (mm_H s) (mm_a s 46) t o)))) (s) := by
  refine mm_Met.of (by decide +kernel) (fun _ => Nat.le_of_ble_eq_true rfl) (fun G w h0 hW hR => ?_)
  have hs : mm_same w h0 h0 := mm_same.rf
  show AW G (aw_rm 1 0 0) yX5_carriesOf cX5_carriesOf 5 (some .int) (aw_N G (mm_Po G w h0 (some (.int (nI (sp_carr (mm_H s) (mm_a s 46) t o)))) (s)) 0 0) 0 0 h0 0 [(0, .ref w.1), (1, .int (nI (t))), (2, .int (nI (o)))] []
  have hs1 : 1 ≤ mm_n s 41 := hH.1.1; have hs20 : mm_n s 41 ≤ 20 := hH.1.2; have hn : mm_n s 42 ≤ 8 := hH.2.1; have hlv : ∀ t, t < 8 → mm_a s 32 t ≤ 20 := fun t ht => (hH.2.2.1 t ht).1; have hsg : ∀ t, t < 8 → mm_a s 33 t ≤ 40 := fun t ht => (hH.2.2.1 t ht).2.1; have hhv : ∀ t, t < 8 → mm_a s 34 t ≤ 9 := fun t ht => (hH.2.2.1 t ht).2.2.1; have how : ∀ t, t < 8 → mm_a s 35 t ≤ 999 := fun t ht => (hH.2.2.1 t ht).2.2.2.1; have hfl : ∀ t, t < 8 → mm_a s 36 t ≤ 100 := fun t ht => (hH.2.2.1 t ht).2.2.2.2; have hF0 : sp_fok (mm_steps s 0) := hH.2.2.2.1; have hF1 : sp_fok (mm_steps s 1) := hH.2.2.2.2; have h42 : sp_hn (mm_H s) = mm_n s 42 := rfl; have h41 : sp_hs (mm_H s) = mm_n s 41 := rfl
  have hbr := sp_brc_le (H := mm_H s) (c := o + 1) (fun k hk => hhv k hk) (by omega)
  have ediv : ∀ a, a * sp_brc (mm_H s) (o + 1) ≤ mm_a s 46 t ↔ a ≤ mm_a s 46 t / sp_brc (mm_H s) (o + 1) := fun a => (Nat.le_div_iff_mul_le (by omega)).symm
  obtain ⟨q, hq⟩ : ∃ q, q = mm_a s 46 t / sp_brc (mm_H s) (o + 1) := ⟨_, rfl⟩
  rw [← hq] at ediv
  have loop : ∀ (m k : Nat) (h : aw_H), mm_n s 41 + 1 - k = m → 1 ≤ k → k ≤ mm_n s 41 + 1 → mm_R G w h s → mm_same w h0 h → AW G (aw_rm 1 0 0) yX5_carriesOf cX5_carriesOf 5 (some .int) (aw_N G (mm_Po G w h0 (some (.int (nI (sp_carr (mm_H s) (mm_a s 46) t o)))) (s)) 0 0) 0 0 h 5 [(0, .ref w.1), (1, .int (nI t)), (2, .int (nI o)), (3, .int (nI (min (k - 1) q))), (4, .int (nI k))] [] := by
    intro m
    induction m using Nat.strongRecOn with
    | _ m ih =>
      intro k h hm hk1 hk2 hR hs
      have hm4 : k * sp_brc (mm_H s) (o + 1) ≤ 21 * 4 := Nat.mul_le_mul (by omega) (by omega)
      have ek := ediv k
      refine aw_iload dX5_carriesOf_5 rfl ?_
      refine aw_aload_n dX5_carriesOf_7 rfl ?_
      refine aw_get dX5_carriesOf_8 fX5_82 rfl hR.1 (by rfl) ?_
      refine aw_icmp_gtN (tgt := 39) dX5_carriesOf_11 (by decide) (by omega) (by omega) (fun c_11 => ?_) (fun c_11 => ?_)
      · refine aw_iload_n dX5_carriesOf_39 rfl ?_
        refine aw_ireturn dX5_carriesOf_40 rfl ?_
        exact ⟨by unfold sp_carr; rw [← hq, h41, show k - 1 = mm_n s 41 by omega], hR, hs⟩
      · refine aw_aload_n dX5_carriesOf_14 rfl ?_
        refine aw_iload dX5_carriesOf_15 rfl ?_
        refine aw_iload_n dX5_carriesOf_17 rfl ?_
        refine mm_call dX5_carriesOf_18 sX5_385 rfl hW hR hs (by have z := mm_breathFor (s := s) (a := k) (c := o + 1) (by omega) (by exact hhv); rw [sp_cv_s] at z; exact z) rfl rfl ⟨Nat.le_of_ble_eq_true rfl, Nat.le_of_ble_eq_true rfl⟩ (Nat.le_of_ble_eq_true rfl) (fun h hR hs => ?_)
        refine aw_aload_n dX5_carriesOf_21 rfl ?_
        refine aw_get dX5_carriesOf_22 fX5_88 rfl hR.1 (by rfl) ?_
        refine aw_iload_n dX5_carriesOf_25 rfl ?_
        refine aw_ialdN dX5_carriesOf_26 (hR.2.1 46 28 rfl) (by omega) (by decide) ?_
        refine aw_icmp_gtN (tgt := 33) dX5_carriesOf_27 (by decide) (by omega) (by omega) (fun c_27 => ?_) (fun c_27 => ?_)
        · refine aw_iincN (b := 1) dX5_carriesOf_33 rfl rfl (by decide) rfl rfl ?_
          refine aw_goto (tgt := 5) dX5_carriesOf_36 (by decide) ?_
          by_cases z : k ≤ q
          · refine AW_ls ?_ (ih (mm_n s 41 + 1 - (k + 1)) (by omega) (k + 1) h rfl (by omega) (by omega) hR hs)
            rw [show min (k + 1 - 1) q = k by omega]
            first
              | rfl
              | exact absurd c_27 (by omega)
          · refine AW_ls ?_ (ih (mm_n s 41 + 1 - (k + 1)) (by omega) (k + 1) h rfl (by omega) (by omega) hR hs)
            rw [show min (k + 1 - 1) q = min (k - 1) q by omega]
            first
              | rfl
              | exact absurd c_27 (by omega)
        · refine aw_iload dX5_carriesOf_30 rfl ?_
          refine aw_istore_n dX5_carriesOf_32 (by decide) rfl rfl ?_
          refine aw_iincN (b := 1) dX5_carriesOf_33 rfl rfl (by decide) rfl rfl ?_
          refine aw_goto (tgt := 5) dX5_carriesOf_36 (by decide) ?_
          by_cases z : k ≤ q
          · refine AW_ls ?_ (ih (mm_n s 41 + 1 - (k + 1)) (by omega) (k + 1) h rfl (by omega) (by omega) hR hs)
            rw [show min (k + 1 - 1) q = k by omega]
            first
              | rfl
              | exact absurd c_27 (by omega)
          · refine AW_ls ?_ (ih (mm_n s 41 + 1 - (k + 1)) (by omega) (k + 1) h rfl (by omega) (by omega) hR hs)
            rw [show min (k + 1 - 1) q = min (k - 1) q by omega]
            first
              | rfl
              | exact absurd c_27 (by omega)
  refine aw_iconst (v := nI 0) dX5_carriesOf_0 rfl ?_
  refine aw_istore_n dX5_carriesOf_1 (by decide) rfl rfl ?_
  refine aw_iconst (v := nI 1) dX5_carriesOf_2 rfl ?_
  refine aw_istore dX5_carriesOf_3 (by decide) rfl rfl ?_
  refine AW_ls ?_ (loop (mm_n s 41) 1 h0 (by omega) (by omega) (by omega) hR hs)
  rw [show min (1 - 1) q = 0 by omega]
  rfl
set_option maxHeartbeats 4000000 in
theorem mo_carries {s : mm_S} {t o : Int32} {N : Nat} (hH : sp_okH (mm_H s)) (hA : sp_okA N (mm_a s 45)) : mm_Op yX5_carries cX5_carries 3 (some .int) 2 [.int (t), .int (o)] s (some (.int (op_carries (mm_H s) (mm_a s 45) t o))) (s) := by
  refine mm_Op.of (by decide +kernel) (fun _ => Nat.le_of_ble_eq_true rfl) (fun G w h0 hW hR => ?_)
  have hs : mm_same w h0 h0 := mm_same.rf
  show AW G (aw_rm 2 0 0) yX5_carries cX5_carries 3 (some .int) (aw_N G (mm_PoC G w h0 (some (.int (op_carries (mm_H s) (mm_a s 45) t o))) (s)) 0 0) 0 0 h0 0 [(0, .ref w.1), (1, .int (t)), (2, .int (o))] []
  have hs1 : 1 ≤ mm_n s 41 := hH.1.1; have hs20 : mm_n s 41 ≤ 20 := hH.1.2; have hn : mm_n s 42 ≤ 8 := hH.2.1; have hlv : ∀ t, t < 8 → mm_a s 32 t ≤ 20 := fun t ht => (hH.2.2.1 t ht).1; have hsg : ∀ t, t < 8 → mm_a s 33 t ≤ 40 := fun t ht => (hH.2.2.1 t ht).2.1; have hhv : ∀ t, t < 8 → mm_a s 34 t ≤ 9 := fun t ht => (hH.2.2.1 t ht).2.2.1; have how : ∀ t, t < 8 → mm_a s 35 t ≤ 999 := fun t ht => (hH.2.2.1 t ht).2.2.2.1; have hfl : ∀ t, t < 8 → mm_a s 36 t ≤ 100 := fun t ht => (hH.2.2.1 t ht).2.2.2.2; have hF0 : sp_fok (mm_steps s 0) := hH.2.2.2.1; have hF1 : sp_fok (mm_steps s 1) := hH.2.2.2.2; have h42 : sp_hn (mm_H s) = mm_n s 42 := rfl; have h41 : sp_hs (mm_H s) = mm_n s 41 := rfl
  have no : ¬ (sp_isT (mm_H s) t ∧ sp_isT (mm_H s) o ∧ t ≠ o) → op_carries (mm_H s) (mm_a s 45) t o = -1 := fun z => by rw [op_carries, aw_if0 z]
  refine aw_aload_n dX5_carries_0 rfl ?_
  refine aw_iload_n dX5_carries_1 rfl ?_
  refine mm_call dX5_carries_2 sX5_382 rfl hW hR hs (mm_isTenant hn) rfl rfl ⟨Nat.le_of_ble_eq_true rfl, Nat.le_of_ble_eq_true rfl⟩ (Nat.le_of_ble_eq_true rfl) (fun h hR hs => ?_)
  refine aw_if_eqB (tgt := 21) dX5_carries_5 (by decide) (fun c_5 => ?_) (fun c_5 => ?_)
  · refine aw_iconst (v := -1) dX5_carries_21 rfl ?_
    refine aw_ireturn dX5_carries_22 rfl ?_
    refine ⟨?_, _, mm_core.rf, hR, hs⟩
    rw [no (fun z => by first | exact c_5 z.1 | exact c_13 z.2.1 | exact z.2.2 c_18)]
  · refine aw_aload_n dX5_carries_8 rfl ?_
    refine aw_iload_n dX5_carries_9 rfl ?_
    refine mm_call dX5_carries_10 sX5_382 rfl hW hR hs (mm_isTenant hn) rfl rfl ⟨Nat.le_of_ble_eq_true rfl, Nat.le_of_ble_eq_true rfl⟩ (Nat.le_of_ble_eq_true rfl) (fun h hR hs => ?_)
    refine aw_if_eqB (tgt := 21) dX5_carries_13 (by decide) (fun c_13 => ?_) (fun c_13 => ?_)
    · refine aw_iconst (v := -1) dX5_carries_21 rfl ?_
      refine aw_ireturn dX5_carries_22 rfl ?_
      refine ⟨?_, _, mm_core.rf, hR, hs⟩
      rw [no (fun z => by first | exact c_5 z.1 | exact c_13 z.2.1 | exact z.2.2 c_18)]
    · refine aw_iload_n dX5_carries_16 rfl ?_
      refine aw_iload_n dX5_carries_17 rfl ?_
      refine aw_icmp_ne (tgt := 23) dX5_carries_18 (by decide) (fun c_18 => ?_) (fun c_18 => ?_)
      · obtain ⟨t', ht, et, t1, t2⟩ := aw_ofN c_5.1
        obtain ⟨o', ho, eo, o1, o2⟩ := aw_ofN c_13.1
        have ht8 : t' < 8 := by have := c_5.2; omega
        have ho8 : o' < 8 := by have := c_13.2; omega
        have fin : op_carries (mm_H s) (mm_a s 45) t o = nI (sp_carr (mm_H s) (mm_a s 45) t' o') := by rw [op_carries, aw_if1 ⟨c_5, c_13, c_18⟩, t2, o2]
        refine AW_ls (show _ = [(0, .ref w.1), (1, .int (nI t')), (2, .int (nI o'))] by rw [← et, ← eo]) ?_
        refine aw_aload_n dX5_carries_23 rfl ?_
        refine mm_call dX5_carries_24 sX5_394 rfl hW hR hs (mm_load) rfl rfl ⟨Nat.le_of_ble_eq_true rfl, Nat.le_of_ble_eq_true rfl⟩ (Nat.le_of_ble_eq_true rfl) (fun h hR hs => ?_)
        refine aw_aload_n dX5_carries_27 rfl ?_
        refine aw_iload_n dX5_carries_28 rfl ?_
        refine aw_iload_n dX5_carries_29 rfl ?_
        refine mm_call dX5_carries_30 sX5_430 rfl hW hR hs (mm_carriesOf hH ht8 ho8 (hA.1 t' ht8).1) rfl rfl ⟨Nat.le_of_ble_eq_true rfl, Nat.le_of_ble_eq_true rfl⟩ (Nat.le_of_ble_eq_true rfl) (fun h hR hs => ?_)
        try simp only [mm_n_N, mm_n_A, mm_n_V, mm_n_Fp, mm_n_W, mm_n_Nm, mm_a_N, mm_a_A, mm_a_V, mm_a_Fp, mm_a_W, mm_a_Nm, mm_v_N, mm_v_A, mm_v_V, mm_fp_N, mm_fp_A, mm_fp_Fp, mm_w_N, mm_w_W, Nat.reduceEqDiff, reduceIte, if_true, if_false, mm_H_45, mm_H_46, mm_H_47, mm_H_50, mm_H_53, mm_H_54, mm_H_55, mm_H_56, mm_H_57, mm_H_58, mm_H_66, mm_H_67, mm_H_68]
        refine aw_ireturn dX5_carries_33 rfl ?_
        exact ⟨by rw [fin], _, mm_core.A rfl mm_core.rf, hR, hs⟩
      · refine aw_iconst (v := -1) dX5_carries_21 rfl ?_
        refine aw_ireturn dX5_carries_22 rfl ?_
        refine ⟨?_, _, mm_core.rf, hR, hs⟩
        rw [no (fun z => by first | exact c_5 z.1 | exact c_13 z.2.1 | exact z.2.2 c_18)]
set_option maxHeartbeats 4000000 in
theorem mm_storeysFor {s : mm_S} {d : Nat} (hH : sp_okH (mm_H s)) (hd : d < 2147483648) : mm_Met yX5_storeysFor cX5_storeysFor 3 (some .int) 4 [.int (nI (d))] s (some (.int (sp_cz (sp_few (fun a => sp_cnt (mm_H s) (mm_a s 46) a 0 0) d (mm_n s 41))))) (s) := by
  refine mm_Met.of (by decide +kernel) (fun _ => Nat.le_of_ble_eq_true rfl) (fun G w h0 hW hR => ?_)
  have hs : mm_same w h0 h0 := mm_same.rf
  show AW G (aw_rm 4 0 0) yX5_storeysFor cX5_storeysFor 3 (some .int) (aw_N G (mm_Po G w h0 (some (.int (sp_cz (sp_few (fun a => sp_cnt (mm_H s) (mm_a s 46) a 0 0) d (mm_n s 41))))) (s)) 0 0) 0 0 h0 0 [(0, .ref w.1), (1, .int (nI (d)))] []
  have hs1 : 1 ≤ mm_n s 41 := hH.1.1; have hs20 : mm_n s 41 ≤ 20 := hH.1.2; have hn : mm_n s 42 ≤ 8 := hH.2.1; have hlv : ∀ t, t < 8 → mm_a s 32 t ≤ 20 := fun t ht => (hH.2.2.1 t ht).1; have hsg : ∀ t, t < 8 → mm_a s 33 t ≤ 40 := fun t ht => (hH.2.2.1 t ht).2.1; have hhv : ∀ t, t < 8 → mm_a s 34 t ≤ 9 := fun t ht => (hH.2.2.1 t ht).2.2.1; have how : ∀ t, t < 8 → mm_a s 35 t ≤ 999 := fun t ht => (hH.2.2.1 t ht).2.2.2.1; have hfl : ∀ t, t < 8 → mm_a s 36 t ≤ 100 := fun t ht => (hH.2.2.1 t ht).2.2.2.2; have hF0 : sp_fok (mm_steps s 0) := hH.2.2.2.1; have hF1 : sp_fok (mm_steps s 1) := hH.2.2.2.2; have h42 : sp_hn (mm_H s) = mm_n s 42 := rfl; have h41 : sp_hs (mm_H s) = mm_n s 41 := rfl
  have loop : ∀ (m k : Nat) (h : aw_H), mm_n s 41 + 1 - k = m → 1 ≤ k → k ≤ mm_n s 41 + 1 → (∀ j, 1 ≤ j → j < k → sp_cnt (mm_H s) (mm_a s 46) j 0 0 < d) → mm_R G w h s → mm_same w h0 h → AW G (aw_rm 4 0 0) yX5_storeysFor cX5_storeysFor 3 (some .int) (aw_N G (mm_Po G w h0 (some (.int (sp_cz (sp_few (fun a => sp_cnt (mm_H s) (mm_a s 46) a 0 0) d (mm_n s 41))))) (s)) 0 0) 0 0 h 2 [(0, .ref w.1), (1, .int (nI d)), (2, .int (nI k))] [] := by
    intro m
    induction m using Nat.strongRecOn with
    | _ m ih =>
      intro k h hm hk1 hk2 hno hR hs
      have := @sp_cnt_le (mm_H s) (mm_a s 46) k (sp_hvc (mm_H s) 0) 0
      refine aw_iload_n dX5_storeysFor_2 rfl ?_
      refine aw_aload_n dX5_storeysFor_3 rfl ?_
      refine aw_get dX5_storeysFor_4 fX5_82 rfl hR.1 (by rfl) ?_
      refine aw_icmp_gtN (tgt := 29) dX5_storeysFor_7 (by decide) (by omega) (by omega) (fun c_7 => ?_) (fun c_7 => ?_)
      · refine aw_iconst (v := -1) dX5_storeysFor_29 rfl ?_
        refine aw_ireturn dX5_storeysFor_30 rfl ?_
        refine ⟨?_, hR, hs⟩
        rw [sp_few_no (c := fun a => sp_cnt (mm_H s) (mm_a s 46) a 0 0) (fun j j1 j2 => hno j j1 (by omega))]
        rfl
      · refine aw_aload_n dX5_storeysFor_10 rfl ?_
        refine aw_iload_n dX5_storeysFor_11 rfl ?_
        refine aw_iconst (v := -1) dX5_storeysFor_12 rfl ?_
        refine aw_iconst (v := nI 0) dX5_storeysFor_13 rfl ?_
        refine mm_call dX5_storeysFor_14 sX5_404 rfl hW hR hs (mm_countOf (c := 0) (by omega) hF0) rfl rfl ⟨Nat.le_of_ble_eq_true rfl, Nat.le_of_ble_eq_true rfl⟩ (Nat.le_of_ble_eq_true rfl) (fun h hR hs => ?_)
        refine aw_iload_n dX5_storeysFor_17 rfl ?_
        refine aw_icmp_ltN (tgt := 23) dX5_storeysFor_18 (by decide) (by omega) (by omega) (fun c_18 => ?_) (fun c_18 => ?_)
        · refine aw_iincN (b := 1) dX5_storeysFor_23 rfl rfl (by decide) rfl rfl ?_
          refine aw_goto (tgt := 2) dX5_storeysFor_26 (by decide) ?_
          refine ih (mm_n s 41 + 1 - (k + 1)) (by omega) (k + 1) h rfl (by omega) (by omega) (fun j j1 j2 => ?_) hR hs
          by_cases e : j = k
          · subst e; exact c_18
          · exact hno j j1 (by omega)
        · refine aw_iload_n dX5_storeysFor_21 rfl ?_
          refine aw_ireturn dX5_storeysFor_22 rfl ?_
          refine ⟨?_, hR, hs⟩
          rw [sp_few_yes (c := fun a => sp_cnt (mm_H s) (mm_a s 46) a 0 0) hk1 (by omega) hno (Nat.le_of_not_lt c_18)]
          unfold sp_cz
          rw [if_neg (by omega)]
  refine aw_iconst (v := nI 1) dX5_storeysFor_0 rfl ?_
  refine aw_istore_n dX5_storeysFor_1 (by decide) rfl rfl ?_
  exact loop (mm_n s 41) 1 h0 (by omega) (by omega) (by omega) (fun j j1 j2 => by omega) hR hs
set_option maxHeartbeats 4000000 in
theorem mm_giver {s : mm_S} {N : Nat} (hH : sp_okH (mm_H s)) (hA : sp_okA N (mm_a s 46)) (hN : N ≤ 100000000) : mm_Met yX5_giver cX5_giver 2 (some .int) 1 [] s (some (.int (sp_cv (sp_gvr (mm_H s) (mm_a s 46))))) (s) := by
  refine mm_Met.of (by decide +kernel) (fun _ => Nat.le_of_ble_eq_true rfl) (fun G w h0 hW hR => ?_)
  have hs : mm_same w h0 h0 := mm_same.rf
  show AW G (aw_rm 1 0 0) yX5_giver cX5_giver 2 (some .int) (aw_N G (mm_Po G w h0 (some (.int (sp_cv (sp_gvr (mm_H s) (mm_a s 46))))) (s)) 0 0) 0 0 h0 0 [(0, .ref w.1)] []
  have hs1 : 1 ≤ mm_n s 41 := hH.1.1; have hs20 : mm_n s 41 ≤ 20 := hH.1.2; have hn : mm_n s 42 ≤ 8 := hH.2.1; have hlv : ∀ t, t < 8 → mm_a s 32 t ≤ 20 := fun t ht => (hH.2.2.1 t ht).1; have hsg : ∀ t, t < 8 → mm_a s 33 t ≤ 40 := fun t ht => (hH.2.2.1 t ht).2.1; have hhv : ∀ t, t < 8 → mm_a s 34 t ≤ 9 := fun t ht => (hH.2.2.1 t ht).2.2.1; have how : ∀ t, t < 8 → mm_a s 35 t ≤ 999 := fun t ht => (hH.2.2.1 t ht).2.2.2.1; have hfl : ∀ t, t < 8 → mm_a s 36 t ≤ 100 := fun t ht => (hH.2.2.1 t ht).2.2.2.2; have hF0 : sp_fok (mm_steps s 0) := hH.2.2.2.1; have hF1 : sp_fok (mm_steps s 1) := hH.2.2.2.2; have h42 : sp_hn (mm_H s) = mm_n s 42 := rfl; have h41 : sp_hs (mm_H s) = mm_n s 41 := rfl
  have loop : ∀ (m k : Nat) (h : aw_H), mm_n s 42 - k = m → k ≤ mm_n s 42 → (∀ j, j < k → decide (sp_due (mm_H s) (mm_a s 46) j < mm_a s 46 (8 + j)) = false) → mm_R G w h s → mm_same w h0 h → AW G (aw_rm 1 0 0) yX5_giver cX5_giver 2 (some .int) (aw_N G (mm_Po G w h0 (some (.int (sp_cv (sp_gvr (mm_H s) (mm_a s 46))))) (s)) 0 0) 0 0 h 2 [(0, .ref w.1), (1, .int (nI k))] [] := by
    intro m
    induction m using Nat.strongRecOn with
    | _ m ih =>
      intro k h hm hk hno hR hs
      by_cases hk8 : k < 8
      · obtain ⟨g1, g2, g3⟩ := sp_due_lt hH hA hN hk8
        refine aw_iload_n dX5_giver_2 rfl ?_
        refine aw_aload_n dX5_giver_3 rfl ?_
        refine aw_get dX5_giver_4 fX5_350 rfl hR.1 (by rfl) ?_
        refine aw_icmp_geN (tgt := 35) dX5_giver_7 (by decide) (by omega) (by omega) (fun c_7 => ?_) (fun c_7 => ?_)
        · refine aw_iconst (v := -1) dX5_giver_35 rfl ?_
          refine aw_ireturn dX5_giver_36 rfl ?_
          exact ⟨by rw [sp_gvr, sp_fst_no (fun j hj => hno j (by rw [h42] at hj; omega))]; rfl, hR, hs⟩
        · refine aw_aload_n dX5_giver_10 rfl ?_
          refine aw_get dX5_giver_11 fX5_88 rfl hR.1 (by rfl) ?_
          refine aw_bipush (v := nI 8) dX5_giver_14 rfl ?_
          refine aw_iload_n dX5_giver_16 rfl ?_
          refine aw_iaddN dX5_giver_17 ?_
          refine aw_ialdN dX5_giver_18 (hR.2.1 46 28 rfl) (by omega) (by decide) ?_
          refine aw_aload_n dX5_giver_19 rfl ?_
          refine aw_iload_n dX5_giver_20 rfl ?_
          refine mm_call dX5_giver_21 sX5_372 rfl hW hR hs (mm_dueOf (by first | omega | assumption | exact aw_t_lt)) rfl rfl ⟨Nat.le_of_ble_eq_true rfl, Nat.le_of_ble_eq_true rfl⟩ (Nat.le_of_ble_eq_true rfl) (fun h hR hs => ?_)
          refine aw_icmp_leN (tgt := 29) dX5_giver_24 (by decide) (by omega) (by omega) (fun c_24 => ?_) (fun c_24 => ?_)
          · refine aw_iincN (b := 1) dX5_giver_29 rfl rfl (by decide) rfl rfl ?_
            refine aw_goto (tgt := 2) dX5_giver_32 (by decide) ?_
            refine ih (mm_n s 42 - (k + 1)) (by omega) (k + 1) h rfl (by omega) (fun j hj => ?_) hR hs
            by_cases e : j = k
            · subst e; exact decide_eq_false (by omega)
            · exact hno j (by omega)
          · refine aw_iload_n dX5_giver_27 rfl ?_
            refine aw_ireturn dX5_giver_28 rfl ?_
            exact ⟨by rw [sp_gvr, sp_fst_yes (k := k) (by rw [h42]; omega) hno (decide_eq_true (by omega)), sp_cv_s], hR, hs⟩
      ·
        refine aw_iload_n dX5_giver_2 rfl ?_
        refine aw_aload_n dX5_giver_3 rfl ?_
        refine aw_get dX5_giver_4 fX5_350 rfl hR.1 (by rfl) ?_
        refine aw_icmp_geN (tgt := 35) dX5_giver_7 (by decide) (by omega) (by omega) (fun c_7 => ?_) (fun c_7 => by exfalso; omega)
        refine aw_iconst (v := -1) dX5_giver_35 rfl ?_
        refine aw_ireturn dX5_giver_36 rfl ?_
        exact ⟨by rw [sp_gvr, sp_fst_no (fun j hj => hno j (by rw [h42] at hj; omega))]; rfl, hR, hs⟩
  refine aw_iconst (v := nI 0) dX5_giver_0 rfl ?_
  refine aw_istore_n dX5_giver_1 (by decide) rfl rfl ?_
  exact loop (mm_n s 42) 0 h0 rfl (Nat.zero_le _) (fun j hj => by omega) hR hs
set_option maxHeartbeats 4000000 in
theorem mm_taker {s : mm_S} {N : Nat} (hH : sp_okH (mm_H s)) (hA : sp_okA N (mm_a s 46)) (hN : N ≤ 100000000) : mm_Met yX5_taker cX5_taker 2 (some .int) 2 [] s (some (.int (sp_cv (sp_tkr (mm_H s) (mm_a s 46))))) (s) := by
  refine mm_Met.of (by decide +kernel) (fun _ => Nat.le_of_ble_eq_true rfl) (fun G w h0 hW hR => ?_)
  have hs : mm_same w h0 h0 := mm_same.rf
  show AW G (aw_rm 2 0 0) yX5_taker cX5_taker 2 (some .int) (aw_N G (mm_Po G w h0 (some (.int (sp_cv (sp_tkr (mm_H s) (mm_a s 46))))) (s)) 0 0) 0 0 h0 0 [(0, .ref w.1)] []
  have hs1 : 1 ≤ mm_n s 41 := hH.1.1; have hs20 : mm_n s 41 ≤ 20 := hH.1.2; have hn : mm_n s 42 ≤ 8 := hH.2.1; have hlv : ∀ t, t < 8 → mm_a s 32 t ≤ 20 := fun t ht => (hH.2.2.1 t ht).1; have hsg : ∀ t, t < 8 → mm_a s 33 t ≤ 40 := fun t ht => (hH.2.2.1 t ht).2.1; have hhv : ∀ t, t < 8 → mm_a s 34 t ≤ 9 := fun t ht => (hH.2.2.1 t ht).2.2.1; have how : ∀ t, t < 8 → mm_a s 35 t ≤ 999 := fun t ht => (hH.2.2.1 t ht).2.2.2.1; have hfl : ∀ t, t < 8 → mm_a s 36 t ≤ 100 := fun t ht => (hH.2.2.1 t ht).2.2.2.2; have hF0 : sp_fok (mm_steps s 0) := hH.2.2.2.1; have hF1 : sp_fok (mm_steps s 1) := hH.2.2.2.2; have h42 : sp_hn (mm_H s) = mm_n s 42 := rfl; have h41 : sp_hs (mm_H s) = mm_n s 41 := rfl
  have loop : ∀ (m k : Nat) (h : aw_H), mm_n s 42 - k = m → k ≤ mm_n s 42 → (∀ j, j < k → decide (0 < sp_lack (mm_H s) (mm_a s 46) j ∧ mm_a s 46 (8 + j) < 9999) = false) → mm_R G w h s → mm_same w h0 h → AW G (aw_rm 2 0 0) yX5_taker cX5_taker 2 (some .int) (aw_N G (mm_Po G w h0 (some (.int (sp_cv (sp_tkr (mm_H s) (mm_a s 46))))) (s)) 0 0) 0 0 h 2 [(0, .ref w.1), (1, .int (nI k))] [] := by
    intro m
    induction m using Nat.strongRecOn with
    | _ m ih =>
      intro k h hm hk hno hR hs
      by_cases hk8 : k < 8
      · obtain ⟨g1, g2, g3⟩ := sp_due_lt hH hA hN hk8
        refine aw_iload_n dX5_taker_2 rfl ?_
        refine aw_aload_n dX5_taker_3 rfl ?_
        refine aw_get dX5_taker_4 fX5_350 rfl hR.1 (by rfl) ?_
        refine aw_icmp_geN (tgt := 41) dX5_taker_7 (by decide) (by omega) (by omega) (fun c_7 => ?_) (fun c_7 => ?_)
        · refine aw_iconst (v := -1) dX5_taker_41 rfl ?_
          refine aw_ireturn dX5_taker_42 rfl ?_
          exact ⟨by rw [sp_tkr, sp_fst_no (fun j hj => hno j (by rw [h42] at hj; omega))]; rfl, hR, hs⟩
        · refine aw_aload_n dX5_taker_10 rfl ?_
          refine aw_iload_n dX5_taker_11 rfl ?_
          refine mm_call dX5_taker_12 sX5_397 rfl hW hR hs (mm_lackOf hk8 g1 g2) rfl rfl ⟨Nat.le_of_ble_eq_true rfl, Nat.le_of_ble_eq_true rfl⟩ (Nat.le_of_ble_eq_true rfl) (fun h hR hs => ?_)
          refine aw_if_leN (tgt := 35) dX5_taker_15 (by decide) (by omega) (fun c_15 => ?_) (fun c_15 => ?_)
          · refine aw_iincN (b := 1) dX5_taker_35 rfl rfl (by decide) rfl rfl ?_
            refine aw_goto (tgt := 2) dX5_taker_38 (by decide) ?_
            refine ih (mm_n s 42 - (k + 1)) (by omega) (k + 1) h rfl (by omega) (fun j hj => ?_) hR hs
            by_cases e : j = k
            · subst e; exact decide_eq_false (by omega)
            · exact hno j (by omega)
          · refine aw_aload_n dX5_taker_18 rfl ?_
            refine aw_get dX5_taker_19 fX5_88 rfl hR.1 (by rfl) ?_
            refine aw_bipush (v := nI 8) dX5_taker_22 rfl ?_
            refine aw_iload_n dX5_taker_24 rfl ?_
            refine aw_iaddN dX5_taker_25 ?_
            refine aw_ialdN dX5_taker_26 (hR.2.1 46 28 rfl) (by omega) (by decide) ?_
            refine aw_sipush (v := nI 9999) dX5_taker_27 rfl ?_
            refine aw_icmp_geN (tgt := 35) dX5_taker_30 (by decide) (by omega) (by omega) (fun c_30 => ?_) (fun c_30 => ?_)
            · refine aw_iincN (b := 1) dX5_taker_35 rfl rfl (by decide) rfl rfl ?_
              refine aw_goto (tgt := 2) dX5_taker_38 (by decide) ?_
              refine ih (mm_n s 42 - (k + 1)) (by omega) (k + 1) h rfl (by omega) (fun j hj => ?_) hR hs
              by_cases e : j = k
              · subst e; exact decide_eq_false (by omega)
              · exact hno j (by omega)
            · refine aw_iload_n dX5_taker_33 rfl ?_
              refine aw_ireturn dX5_taker_34 rfl ?_
              exact ⟨by rw [sp_tkr, sp_fst_yes (k := k) (by rw [h42]; omega) hno (decide_eq_true (by omega)), sp_cv_s], hR, hs⟩
      ·
        refine aw_iload_n dX5_taker_2 rfl ?_
        refine aw_aload_n dX5_taker_3 rfl ?_
        refine aw_get dX5_taker_4 fX5_350 rfl hR.1 (by rfl) ?_
        refine aw_icmp_geN (tgt := 41) dX5_taker_7 (by decide) (by omega) (by omega) (fun c_7 => ?_) (fun c_7 => by exfalso; omega)
        refine aw_iconst (v := -1) dX5_taker_41 rfl ?_
        refine aw_ireturn dX5_taker_42 rfl ?_
        exact ⟨by rw [sp_tkr, sp_fst_no (fun j hj => hno j (by rw [h42] at hj; omega))]; rfl, hR, hs⟩
  refine aw_iconst (v := nI 0) dX5_taker_0 rfl ?_
  refine aw_istore_n dX5_taker_1 (by decide) rfl rfl ?_
  exact loop (mm_n s 42) 0 h0 rfl (Nat.zero_le _) (fun j hj => by omega) hR hs
set_option maxHeartbeats 4000000 in
theorem mm_layHomes {s : mm_S} (hn : mm_n s 42 ≤ 8) : mm_Met yX5_layHomes cX5_layHomes 2 none 0 [] s none (mm_setA s 57 (fun j => if j < mm_n s 42 then mm_a s 32 j else mm_a s 57 j)) := by
  refine mm_Met.of (by decide +kernel) (fun _ => Nat.le_of_ble_eq_true rfl) (fun G w h0 hW hR => ?_)
  have hs : mm_same w h0 h0 := mm_same.rf
  show AW G (aw_rm 0 0 0) yX5_layHomes cX5_layHomes 2 none (aw_N G (mm_Po G w h0 none (mm_setA s 57 (fun j => if j < mm_n s 42 then mm_a s 32 j else mm_a s 57 j))) 0 0) 0 0 h0 0 [(0, .ref w.1)] []
  have loop : ∀ (m k : Nat) (h : aw_H), mm_n s 42 - k = m → k ≤ mm_n s 42 → mm_R G w h (mm_setA s 57 (fun j => if j < k then mm_a s 32 j else mm_a s 57 j)) → mm_same w h0 h → AW G (aw_rm 0 0 0) yX5_layHomes cX5_layHomes 2 none (aw_N G (mm_Po G w h0 none (mm_setA s 57 (fun j => if j < mm_n s 42 then mm_a s 32 j else mm_a s 57 j))) 0 0) 0 0 h 2 [(0, .ref w.1), (1, .int (nI k))] [] := by
    intro m
    induction m using Nat.strongRecOn with
    | _ m ih =>
      intro k h hm hk hR hs
      refine aw_iload_n dX5_layHomes_2 rfl ?_
      refine aw_aload_n dX5_layHomes_3 rfl ?_
      refine aw_get dX5_layHomes_4 fX5_350 rfl hR.1 (by rfl) ?_
      try simp only [mm_n_N, mm_n_A, mm_n_V, mm_n_Fp, mm_n_W, mm_n_Nm, mm_a_N, mm_a_A, mm_a_V, mm_a_Fp, mm_a_W, mm_a_Nm, mm_v_N, mm_v_A, mm_v_V, mm_fp_N, mm_fp_A, mm_fp_Fp, mm_w_N, mm_w_W, Nat.reduceEqDiff, reduceIte, if_true, if_false, mm_H_45, mm_H_46, mm_H_47, mm_H_50, mm_H_53, mm_H_54, mm_H_55, mm_H_56, mm_H_57, mm_H_58, mm_H_66, mm_H_67, mm_H_68]
      refine aw_icmp_geN (tgt := 28) dX5_layHomes_7 (by decide) (by omega) (by omega) (fun c_7 => ?_) (fun c_7 => ?_)
      · refine aw_vreturn dX5_layHomes_28 rfl ?_
        exact ⟨rfl, by rw [show mm_n s 42 = k by omega]; exact hR, hs⟩
      · refine aw_aload_n dX5_layHomes_10 rfl ?_
        refine aw_get dX5_layHomes_11 fX5_112 rfl hR.1 (by rfl) ?_
        refine aw_iload_n dX5_layHomes_14 rfl ?_
        refine aw_aload_n dX5_layHomes_15 rfl ?_
        refine aw_get dX5_layHomes_16 fX5_67 rfl hR.1 (by rfl) ?_
        refine aw_iload_n dX5_layHomes_19 rfl ?_
        refine aw_ialdN dX5_layHomes_20 (hR.2.1 32 8 rfl) (by omega) (by decide) ?_
        try simp only [mm_n_N, mm_n_A, mm_n_V, mm_n_Fp, mm_n_W, mm_n_Nm, mm_a_N, mm_a_A, mm_a_V, mm_a_Fp, mm_a_W, mm_a_Nm, mm_v_N, mm_v_A, mm_v_V, mm_fp_N, mm_fp_A, mm_fp_Fp, mm_w_N, mm_w_W, Nat.reduceEqDiff, reduceIte, if_true, if_false, mm_H_45, mm_H_46, mm_H_47, mm_H_50, mm_H_53, mm_H_54, mm_H_55, mm_H_56, mm_H_57, mm_H_58, mm_H_66, mm_H_67, mm_H_68]
        refine mm_iast (k := 57) rfl hW hR hs dX5_layHomes_21 (by omega) (by decide) (fun h hR hs => ?_)
        have hR := mm_eq (mm_AU hR) (show _ = mm_setA s 57 (fun j => if j < k + 1 then mm_a s 32 j else mm_a s 57 j) by rw [← aw_u_cp])
        refine aw_iincN (b := 1) dX5_layHomes_22 rfl rfl (by decide) rfl rfl ?_
        refine aw_goto (tgt := 2) dX5_layHomes_25 (by decide) ?_
        exact ih (mm_n s 42 - (k + 1)) (by omega) (k + 1) h rfl (by omega) hR hs
  refine aw_iconst (v := nI 0) dX5_layHomes_0 rfl ?_
  refine aw_istore_n dX5_layHomes_1 (by decide) rfl rfl ?_
  exact loop (mm_n s 42) 0 h0 rfl (Nat.zero_le _) (mm_eq hR (by simp only [Nat.not_lt_zero, if_false]; exact (mm_A_self s 57).symm)) hs
set_option maxHeartbeats 4000000 in
theorem mm_isEnvied {s : mm_S} {a b : Nat} (hn : mm_n s 42 ≤ 8) (ha : a < mm_n s 42) (hb : b < mm_n s 42) (hh : ∀ k, k < mm_n s 42 → mm_a s 57 k < 2147483648) (ho : ∀ k, k < 8 → mm_a s 35 k ≤ 999) : mm_Met yX5_isEnvied cX5_isEnvied 3 (some .boolean) 0 [.int (nI (a)), .int (nI (b))] s (some (.int (nI (aw_t (mm_a s 57 b ≤ mm_a s 57 a ∧ mm_a s 35 b < mm_a s 35 a))))) (s) := by
  refine mm_Met.of (by decide +kernel) (fun _ => Nat.le_of_ble_eq_true rfl) (fun G w h0 hW hR => ?_)
  have hs : mm_same w h0 h0 := mm_same.rf
  show AW G (aw_rm 0 0 0) yX5_isEnvied cX5_isEnvied 3 (some .boolean) (aw_N G (mm_Po G w h0 (some (.int (nI (aw_t (mm_a s 57 b ≤ mm_a s 57 a ∧ mm_a s 35 b < mm_a s 35 a))))) (s)) 0 0) 0 0 h0 0 [(0, .ref w.1), (1, .int (nI (a))), (2, .int (nI (b)))] []
  have q1 := hh a ha
  have q2 := hh b hb
  have q3 := ho a (by omega)
  have q4 := ho b (by omega)
  refine aw_aload_n dX5_isEnvied_0 rfl ?_
  refine aw_get dX5_isEnvied_1 fX5_112 rfl hR.1 (by rfl) ?_
  refine aw_iload_n dX5_isEnvied_4 rfl ?_
  refine aw_ialdN dX5_isEnvied_5 (hR.2.1 57 8 rfl) (by omega) (by decide) ?_
  refine aw_aload_n dX5_isEnvied_6 rfl ?_
  refine aw_get dX5_isEnvied_7 fX5_112 rfl hR.1 (by rfl) ?_
  refine aw_iload_n dX5_isEnvied_10 rfl ?_
  refine aw_ialdN dX5_isEnvied_11 (hR.2.1 57 8 rfl) (by omega) (by decide) ?_
  refine aw_icmp_gtN (tgt := 34) dX5_isEnvied_12 (by decide) (by omega) (by omega) (fun c_12 => ?_) (fun c_12 => ?_)
  · refine aw_iconst (v := nI 0) dX5_isEnvied_34 rfl ?_
    refine aw_zreturn dX5_isEnvied_35 rfl rfl ?_
    exact ⟨by rw [aw_t0 (by omega)], hR, hs⟩
  · refine aw_aload_n dX5_isEnvied_15 rfl ?_
    refine aw_get dX5_isEnvied_16 fX5_76 rfl hR.1 (by rfl) ?_
    refine aw_iload_n dX5_isEnvied_19 rfl ?_
    refine aw_ialdN dX5_isEnvied_20 (hR.2.1 35 8 rfl) (by omega) (by decide) ?_
    refine aw_aload_n dX5_isEnvied_21 rfl ?_
    refine aw_get dX5_isEnvied_22 fX5_76 rfl hR.1 (by rfl) ?_
    refine aw_iload_n dX5_isEnvied_25 rfl ?_
    refine aw_ialdN dX5_isEnvied_26 (hR.2.1 35 8 rfl) (by omega) (by decide) ?_
    refine aw_icmp_geN (tgt := 34) dX5_isEnvied_27 (by decide) (by omega) (by omega) (fun c_27 => ?_) (fun c_27 => ?_)
    · refine aw_iconst (v := nI 0) dX5_isEnvied_34 rfl ?_
      refine aw_zreturn dX5_isEnvied_35 rfl rfl ?_
      exact ⟨by rw [aw_t0 (by omega)], hR, hs⟩
    · refine aw_iconst (v := nI 1) dX5_isEnvied_30 rfl ?_
      refine aw_goto (tgt := 35) dX5_isEnvied_31 (by decide) ?_
      refine aw_zreturn dX5_isEnvied_35 rfl rfl ?_
      exact ⟨by rw [aw_t1 (by omega)], hR, hs⟩
set_option maxHeartbeats 4000000 in
theorem mm_allEnvies {s : mm_S} (hn : mm_n s 42 ≤ 8) (hh : ∀ k, k < mm_n s 42 → mm_a s 57 k < 2147483648) (ho : ∀ k, k < 8 → mm_a s 35 k ≤ 999) : mm_Met yX5_allEnvies cX5_allEnvies 4 (some .int) 1 [] s (some (.int (nI (sp_envs (mm_H s) (mm_a s 57))))) (s) := by
  refine mm_Met.of (by decide +kernel) (fun _ => Nat.le_of_ble_eq_true rfl) (fun G w h0 hW hR => ?_)
  have hs : mm_same w h0 h0 := mm_same.rf
  show AW G (aw_rm 1 0 0) yX5_allEnvies cX5_allEnvies 4 (some .int) (aw_N G (mm_Po G w h0 (some (.int (nI (sp_envs (mm_H s) (mm_a s 57))))) (s)) 0 0) 0 0 h0 0 [(0, .ref w.1)] []
  have h42 : sp_hn (mm_H s) = mm_n s 42 := rfl
  have inner : ∀ (m a k c : Nat) (h : aw_H), mm_n s 42 - k = m → a < mm_n s 42 → k ≤ mm_n s 42 → (∀ h : aw_H, mm_R G w h s → mm_same w h0 h → AW G (aw_rm 1 0 0) yX5_allEnvies cX5_allEnvies 4 (some .int) (aw_N G (mm_Po G w h0 (some (.int (nI (sp_envs (mm_H s) (mm_a s 57))))) (s)) 0 0) 0 0 h 40 [(0, .ref w.1), (1, .int (nI (c + sp_sum (sp_envT (mm_H s) (mm_a s 57) a) (mm_n s 42)))), (2, .int (nI a)), (3, .int (nI (mm_n s 42)))] []) → mm_R G w h s → mm_same w h0 h → AW G (aw_rm 1 0 0) yX5_allEnvies cX5_allEnvies 4 (some .int) (aw_N G (mm_Po G w h0 (some (.int (nI (sp_envs (mm_H s) (mm_a s 57))))) (s)) 0 0) 0 0 h 14 [(0, .ref w.1), (1, .int (nI (c + sp_sum (sp_envT (mm_H s) (mm_a s 57) a) k))), (2, .int (nI a)), (3, .int (nI k))] [] := by
    intro m
    induction m using Nat.strongRecOn with
    | _ m ih =>
      intro a k c h hm ha hk hgo hR hs
      refine aw_iload_n dX5_allEnvies_14 rfl ?_
      refine aw_aload_n dX5_allEnvies_15 rfl ?_
      refine aw_get dX5_allEnvies_16 fX5_350 rfl hR.1 (by rfl) ?_
      refine aw_icmp_geN (tgt := 40) dX5_allEnvies_19 (by decide) (by omega) (by omega) (fun c_19 => ?_) (fun c_19 => ?_)
      · exact AW_ls (by rw [show k = mm_n s 42 by omega]) (hgo h hR hs)
      · refine aw_iload_n dX5_allEnvies_22 rfl ?_
        refine aw_aload_n dX5_allEnvies_23 rfl ?_
        refine aw_iload_n dX5_allEnvies_24 rfl ?_
        refine aw_iload_n dX5_allEnvies_25 rfl ?_
        refine mm_call dX5_allEnvies_26 sX5_454 rfl hW hR hs (mm_isEnvied hn (by omega) (by omega) hh ho) rfl rfl ⟨Nat.le_of_ble_eq_true rfl, Nat.le_of_ble_eq_true rfl⟩ (Nat.le_of_ble_eq_true rfl) (fun h hR hs => ?_)
        refine aw_callP (r := _) dX5_allEnvies_29 sX5_304 rfl (mp_truth aw_t_lt) rfl rfl ⟨Nat.le_of_ble_eq_true rfl, Nat.le_of_ble_eq_true rfl⟩ (Nat.le_of_ble_eq_true rfl) ?_
        refine aw_iaddN dX5_allEnvies_32 ?_
        refine aw_istore_n dX5_allEnvies_33 (by decide) rfl rfl ?_
        refine aw_iincN (b := 1) dX5_allEnvies_34 rfl rfl (by decide) rfl rfl ?_
        refine aw_goto (tgt := 14) dX5_allEnvies_37 (by decide) ?_
        refine AW_ls ?_ (ih (mm_n s 42 - (k + 1)) (by omega) a (k + 1) c h rfl ha (by omega) hgo hR hs)
        rw [Nat.add_assoc]
        rfl
  have outer : ∀ (m k : Nat) (h : aw_H) (ls3 : List (Nat × Value)), (ls3 = [] ∨ ls3 = [(3, .int (nI (mm_n s 42)))]) → mm_n s 42 - k = m → k ≤ mm_n s 42 → mm_R G w h s → mm_same w h0 h → AW G (aw_rm 1 0 0) yX5_allEnvies cX5_allEnvies 4 (some .int) (aw_N G (mm_Po G w h0 (some (.int (nI (sp_envs (mm_H s) (mm_a s 57))))) s) 0 0) 0 0 h 4 ((0, .ref w.1) :: (1, .int (nI (sp_sum (fun a => sp_sum (sp_envT (mm_H s) (mm_a s 57) a) (mm_n s 42)) k))) :: (2, .int (nI k)) :: ls3) [] := by
    intro m
    induction m using Nat.strongRecOn with
    | _ m ih =>
      intro k h ls3 hls hm hk hR hs
      have back : ∀ h : aw_H, k < mm_n s 42 → mm_R G w h s → mm_same w h0 h → AW G (aw_rm 1 0 0) yX5_allEnvies cX5_allEnvies 4 (some .int) (aw_N G (mm_Po G w h0 (some (.int (nI (sp_envs (mm_H s) (mm_a s 57))))) (s)) 0 0) 0 0 h 40 [(0, .ref w.1), (1, .int (nI (sp_sum (fun a => sp_sum (sp_envT (mm_H s) (mm_a s 57) a) (mm_n s 42)) k + sp_sum (sp_envT (mm_H s) (mm_a s 57) k) (mm_n s 42)))), (2, .int (nI k)), (3, .int (nI (mm_n s 42)))] [] := by
        intro h hk2 hR hs
        refine aw_iincN (b := 1) dX5_allEnvies_40 rfl rfl (by decide) rfl rfl ?_
        refine aw_goto (tgt := 4) dX5_allEnvies_43 (by decide) ?_
        exact ih (mm_n s 42 - (k + 1)) (by omega) (k + 1) h _ (Or.inr rfl) rfl (by omega) hR hs
      rcases hls with rfl | rfl
      ·
        refine aw_iload_n dX5_allEnvies_4 rfl ?_
        refine aw_aload_n dX5_allEnvies_5 rfl ?_
        refine aw_get dX5_allEnvies_6 fX5_350 rfl hR.1 (by rfl) ?_
        refine aw_icmp_geN (tgt := 46) dX5_allEnvies_9 (by decide) (by omega) (by omega) (fun c_9 => ?_) (fun c_9 => ?_)
        · refine aw_iload_n dX5_allEnvies_46 rfl ?_
          refine aw_ireturn dX5_allEnvies_47 rfl ?_
          exact ⟨by rw [show k = mm_n s 42 by omega]; rfl, hR, hs⟩
        · refine aw_iconst (v := nI 0) dX5_allEnvies_12 rfl ?_
          refine aw_istore_n dX5_allEnvies_13 (by decide) rfl rfl ?_
          exact inner (mm_n s 42) k 0 _ h rfl (by omega) (Nat.zero_le _) (fun h => back h (by omega)) hR hs
      ·
        refine aw_iload_n dX5_allEnvies_4 rfl ?_
        refine aw_aload_n dX5_allEnvies_5 rfl ?_
        refine aw_get dX5_allEnvies_6 fX5_350 rfl hR.1 (by rfl) ?_
        refine aw_icmp_geN (tgt := 46) dX5_allEnvies_9 (by decide) (by omega) (by omega) (fun c_9 => ?_) (fun c_9 => ?_)
        · refine aw_iload_n dX5_allEnvies_46 rfl ?_
          refine aw_ireturn dX5_allEnvies_47 rfl ?_
          exact ⟨by rw [show k = mm_n s 42 by omega]; rfl, hR, hs⟩
        · refine aw_iconst (v := nI 0) dX5_allEnvies_12 rfl ?_
          refine aw_istore_n dX5_allEnvies_13 (by decide) rfl rfl ?_
          exact inner (mm_n s 42) k 0 _ h rfl (by omega) (Nat.zero_le _) (fun h => back h (by omega)) hR hs
  refine aw_iconst (v := nI 0) dX5_allEnvies_0 rfl ?_
  refine aw_istore_n dX5_allEnvies_1 (by decide) rfl rfl ?_
  refine aw_iconst (v := nI 0) dX5_allEnvies_2 rfl ?_
  refine aw_istore_n dX5_allEnvies_3 (by decide) rfl rfl ?_
  exact outer (mm_n s 42) 0 h0 [] (Or.inl rfl) rfl (Nat.zero_le _) hR hs

