set_option maxRecDepth 100000
/-! the component: small methods; what the house answers -/
set_option maxHeartbeats 4000000 in
theorem xp_isIn {v a b : Int32} : aw_Pu yX0_isIn cX0_isIn 3 (some .boolean) 0 [.int (v), .int (a), .int (b)] (.int (nI (aw_t (a.toInt ≤ v.toInt ∧ v.toInt ≤ b.toInt)))) := by
  refine fun G h => aw_Met.of (by decide +kernel) (Nat.le_of_ble_eq_true rfl) ?_
  show AW G (aw_rm 0 0 0) yX0_isIn cX0_isIn 3 (some .boolean) (aw_N G (fun v9 h9 => v9 = some (.int (nI (aw_t (a.toInt ≤ v.toInt ∧ v.toInt ≤ b.toInt)))) ∧ h9 = h) 0 0) 0 0 h 0 [(0, .int (v)), (1, .int (a)), (2, .int (b))] []
  refine aw_iload_n dX0_isIn_0 rfl ?_
  refine aw_iload_n dX0_isIn_1 rfl ?_
  refine aw_icmp_lt (tgt := 14) dX0_isIn_2 (by decide) (fun c_2 => ?_) (fun c_2 => ?_)
  · refine aw_iconst (v := nI 0) dX0_isIn_14 rfl ?_
    refine aw_zreturn dX0_isIn_15 rfl rfl ?_
    refine ⟨?_, rfl⟩
    simp only [Int32.lt_iff_toInt_lt] at *
    first | rw [aw_t0 (by omega)] | rw [aw_t1 (by omega)]
  · refine aw_iload_n dX0_isIn_5 rfl ?_
    refine aw_iload_n dX0_isIn_6 rfl ?_
    refine aw_icmp_gt (tgt := 14) dX0_isIn_7 (by decide) (fun c_7 => ?_) (fun c_7 => ?_)
    · refine aw_iconst (v := nI 0) dX0_isIn_14 rfl ?_
      refine aw_zreturn dX0_isIn_15 rfl rfl ?_
      refine ⟨?_, rfl⟩
      simp only [Int32.lt_iff_toInt_lt] at *
      first | rw [aw_t0 (by omega)] | rw [aw_t1 (by omega)]
    · refine aw_iconst (v := nI 1) dX0_isIn_10 rfl ?_
      refine aw_goto (tgt := 15) dX0_isIn_11 (by decide) ?_
      refine aw_zreturn dX0_isIn_15 rfl rfl ?_
      refine ⟨?_, rfl⟩
      simp only [Int32.lt_iff_toInt_lt] at *
      first | rw [aw_t0 (by omega)] | rw [aw_t1 (by omega)]
set_option maxHeartbeats 4000000 in
theorem xp_within {v : Int32} {m : Nat} (hm : m < 2147483648) : aw_Pu yX0_within cX0_within 2 (some .int) 1 [.int (v), .int (nI (m))] (.int (nI (min v.toNatClampNeg m))) := by
  refine fun G h => aw_Met.of (by decide +kernel) (Nat.le_of_ble_eq_true rfl) ?_
  show AW G (aw_rm 1 0 0) yX0_within cX0_within 2 (some .int) (aw_N G (fun v9 h9 => v9 = some (.int (nI (min v.toNatClampNeg m))) ∧ h9 = h) 0 0) 0 0 h 0 [(0, .int (v)), (1, .int (nI (m)))] []
  refine aw_iconst (v := nI 0) dX0_within_0 rfl ?_
  refine aw_iload_n dX0_within_1 rfl ?_
  refine aw_iload_n dX0_within_2 rfl ?_
  refine aw_mmin dX0_within_3 q951 (Nat.le_of_ble_eq_true rfl) (Nat.le_of_ble_eq_true rfl) (Nat.le_of_ble_eq_true rfl) ?_
  refine aw_mmax dX0_within_6 q952 (Nat.le_of_ble_eq_true rfl) (Nat.le_of_ble_eq_true rfl) (Nat.le_of_ble_eq_true rfl) ?_
  refine aw_ireturn dX0_within_9 rfl ?_
  refine ⟨?_, rfl⟩
  have e : v.toNatClampNeg = v.toInt.toNat := rfl
  have e0 : (nI 0).toInt = 0 := rfl
  by_cases z : v.toInt < (m : Int)
  · rw [if_pos (show v < nI m by rw [Int32.lt_iff_toInt_lt, aw_ti hm]; exact z)]
    by_cases z2 : 0 < v.toInt
    · rw [if_pos (show nI 0 < v by rw [Int32.lt_iff_toInt_lt, e0]; exact z2)]
      have h3 : v = nI v.toNatClampNeg := by
        rw [aw_eqi (by omega)]
        omega
      rw [show min v.toNatClampNeg m = v.toNatClampNeg by omega, ← h3]
    · rw [if_neg (show ¬ nI 0 < v by rw [Int32.lt_iff_toInt_lt, e0]; exact z2), show min v.toNatClampNeg m = 0 by omega]
  · rw [if_neg (show ¬ v < nI m by rw [Int32.lt_iff_toInt_lt, aw_ti hm]; exact z)]
    by_cases z2 : 0 < m
    · rw [if_pos (show nI 0 < nI m by rw [Int32.lt_iff_toInt_lt, e0, aw_ti hm]; omega), show min v.toNatClampNeg m = m by omega]
    · rw [if_neg (show ¬ nI 0 < nI m by rw [Int32.lt_iff_toInt_lt, e0, aw_ti hm]; omega), show min v.toNatClampNeg m = 0 by omega]
set_option maxHeartbeats 4000000 in
theorem xp_has {v k : Nat} (hv : v < 2147483648) (hk : k < 31) : aw_Pu yX0_has cX0_has 2 (some .boolean) 0 [.int (nI (v)), .int (nI (k))] (.int (nI (aw_t (v / 2 ^ k % 2 = 1)))) := by
  refine fun G h => aw_Met.of (by decide +kernel) (Nat.le_of_ble_eq_true rfl) ?_
  show AW G (aw_rm 0 0 0) yX0_has cX0_has 2 (some .boolean) (aw_N G (fun v9 h9 => v9 = some (.int (nI (aw_t (v / 2 ^ k % 2 = 1)))) ∧ h9 = h) 0 0) 0 0 h 0 [(0, .int (nI (v))), (1, .int (nI (k)))] []
  refine aw_iload_n dX0_has_0 rfl ?_
  refine aw_iload_n dX0_has_1 rfl ?_
  refine aw_ishrN dX0_has_2 (by omega) (by omega) ?_
  refine aw_iconst (v := nI 1) dX0_has_3 rfl ?_
  refine aw_iandN dX0_has_4 ?_
  rw [Nat.and_one_is_mod]
  refine aw_iconst (v := nI 1) dX0_has_5 rfl ?_
  refine aw_icmp_neN (tgt := 13) dX0_has_6 (by decide) (by omega) (by omega) (fun c_6 => ?_) (fun c_6 => ?_)
  · refine aw_iconst (v := nI 0) dX0_has_13 rfl ?_
    refine aw_zreturn dX0_has_14 rfl rfl ?_
    refine ⟨?_, rfl⟩
    first
      | (rw [aw_t1 (by assumption)]; done)
      | (rw [aw_t0 (by assumption)]; done)
  · refine aw_iconst (v := nI 1) dX0_has_9 rfl ?_
    refine aw_goto (tgt := 14) dX0_has_10 (by decide) ?_
    refine aw_zreturn dX0_has_14 rfl rfl ?_
    refine ⟨?_, rfl⟩
    first
      | (rw [aw_t1 (by assumption)]; done)
      | (rw [aw_t0 (by assumption)]; done)
set_option maxHeartbeats 4000000 in
theorem xo_many {s : mm_S} {H : sp_H} {u : Nat}  : xx_Met yX0_many cX0_many 1 (some .int) 4 0 0 (fun w => [.ref (w.1 0)]) s H u (some (.int (nI (sp_hn H)))) (s) := by
  refine xx_Met.of (by decide +kernel) (fun _ => Nat.le_of_ble_eq_true rfl) (fun G w h0 hW hX hH => ?_)
  have hX0 := hX
  have hs : xx_same w h0 h0 := xx_same.rf
  obtain ⟨tl, te, cap, m9, f9, tn, nm9, c9, mo9, D9, hq⟩ := hH
  show AW G (aw_rm 4 0 0) yX0_many cX0_many 1 (some .int) (aw_N G (xx_Po G w h0 (some (.int (nI (sp_hn H)))) (s)) 0 0) 0 0 h0 0 [(0, .ref (w.1 0))] []
  refine aw_aload_n dX0_many_0 rfl ?_
  refine aw_get dX0_many_1 fX0_19 rfl (hX.1 0 (by decide)) (by rfl) ?_
  refine aw_get dX0_many_4 fX0_95 rfl (hq.mv hs hX0).1 (by rfl) ?_
  refine xx_size dX0_many_7 sX0_141 rfl (hq.mv hs hX0) ⟨Nat.le_of_ble_eq_true rfl, Nat.le_of_ble_eq_true rfl⟩ (by exact Nat.le_of_ble_eq_true rfl) ?_
  refine aw_ireturn dX0_many_10 rfl ?_
  exact ⟨rfl, hX, hs⟩
set_option maxHeartbeats 4000000 in
theorem xo_isT {s : mm_S} {H : sp_H} {u : Nat} {t : Int32} (hn : sp_hn H ≤ 8) : xx_Met yX0_isTenant cX0_isTenant 2 (some .boolean) 5 0 0 (fun w => [.ref (w.1 0), .int (t)]) s H u (some (.int (nI (aw_t (0 ≤ t.toInt ∧ t.toInt < (sp_hn H : Int)))))) (s) := by
  refine xx_Met.of (by decide +kernel) (fun _ => Nat.le_of_ble_eq_true rfl) (fun G w h0 hW hX hH => ?_)
  have hX0 := hX
  have hs : xx_same w h0 h0 := xx_same.rf
  obtain ⟨tl, te, cap, m9, f9, tn, nm9, c9, mo9, D9, hq⟩ := hH
  show AW G (aw_rm 5 0 0) yX0_isTenant cX0_isTenant 2 (some .boolean) (aw_N G (xx_Po G w h0 (some (.int (nI (aw_t (0 ≤ t.toInt ∧ t.toInt < (sp_hn H : Int)))))) (s)) 0 0) 0 0 h0 0 [(0, .ref (w.1 0)), (1, .int (t))] []
  refine aw_iload_n dX0_isTenant_0 rfl ?_
  refine aw_iconst (v := nI 0) dX0_isTenant_1 rfl ?_
  refine aw_aload_n dX0_isTenant_2 rfl ?_
  refine xx_call0 dX0_isTenant_3 sX0_91 rfl hW hX (hq.mv hs hX0).xh hs (xo_many) rfl (hX.1 0 (by decide)) rfl rfl ⟨Nat.le_of_ble_eq_true rfl, Nat.le_of_ble_eq_true rfl⟩ (by exact Nat.le_of_ble_eq_true rfl) (fun h hX hs => ?_)
  refine aw_iconst (v := nI 1) dX0_isTenant_6 rfl ?_
  refine aw_isub dX0_isTenant_7 ?_
  refine aw_callP (r := _) dX0_isTenant_8 sX0_155 rfl (xp_isIn) rfl rfl ⟨Nat.le_of_ble_eq_true rfl, Nat.le_of_ble_eq_true rfl⟩ (Nat.le_of_ble_eq_true rfl) ?_
  refine aw_zreturn dX0_isTenant_11 rfl (aw_nb aw_t_lt) ?_
  refine ⟨aw_tt ?_, hX, hs⟩
  rw [pk_sub_toInt (by omega) (by omega), show (nI 0).toInt = 0 from rfl]
  omega
set_option maxHeartbeats 4000000 in
theorem xh_heavy {s : mm_S} {H : sp_H} {u : Nat} {t : Nat} (ht : t < sp_hn H) (hn : sp_hn H ≤ 8) : xx_Met yX1_heavyOf cX1_heavyOf 2 (some .int) 4 0 0 (fun w => [.ref (w.1 16), .int (nI (t))]) s H u (some (.int (nI (sp_hv H t)))) (s) := by
  refine xx_Met.of (by decide +kernel) (fun _ => Nat.le_of_ble_eq_true rfl) (fun G w h0 hW hX hH => ?_)
  have hX0 := hX
  have hs : xx_same w h0 h0 := xx_same.rf
  obtain ⟨tl, te, cap, m9, f9, tn, nm9, c9, mo9, D9, hq⟩ := hH
  show AW G (aw_rm 4 0 0) yX1_heavyOf cX1_heavyOf 2 (some .int) (aw_N G (xx_Po G w h0 (some (.int (nI (sp_hv H t)))) (s)) 0 0) 0 0 h0 0 [(0, .ref (w.1 16)), (1, .int (nI (t)))] []
  refine aw_iload_n dX1_heavyOf_0 rfl ?_
  refine aw_if_geN (tgt := 8) dX1_heavyOf_1 (by decide) (by omega) ?_
  refine aw_aload_n dX1_heavyOf_8 rfl ?_
  refine aw_get dX1_heavyOf_9 fX1_12 rfl (hq.mv hs hX0).1 (by rfl) ?_
  refine aw_iload_n dX1_heavyOf_12 rfl ?_
  refine xx_get dX1_heavyOf_13 sX1_79 rfl (hq.mv hs hX0) (by omega) ⟨Nat.le_of_ble_eq_true rfl, Nat.le_of_ble_eq_true rfl⟩ (by exact Nat.le_of_ble_eq_true rfl) ?_
  refine aw_castS (y := yX1_heavyOf) dX1_heavyOf_16 q917 aw_cl7 ((hq.mv hs hX0).ten (by omega)) ?_
  refine aw_get dX1_heavyOf_19 fX1_76 rfl ((hq.mv hs hX0).ten (by omega)) (by rfl) ?_
  refine aw_ireturn dX1_heavyOf_22 rfl ?_
  exact ⟨rfl, hX, hs⟩
set_option maxHeartbeats 4000000 in
theorem xh_heavyN {s : mm_S} {H : sp_H} {u : Nat}  : xx_Met yX1_heavyOf cX1_heavyOf 2 (some .int) 4 0 0 (fun w => [.ref (w.1 16), .int ((-1))]) s H u (some (.int (nI (0)))) (s) := by
  refine xx_Met.of (by decide +kernel) (fun _ => Nat.le_of_ble_eq_true rfl) (fun G w h0 hW hX hH => ?_)
  have hX0 := hX
  have hs : xx_same w h0 h0 := xx_same.rf
  obtain ⟨tl, te, cap, m9, f9, tn, nm9, c9, mo9, D9, hq⟩ := hH
  show AW G (aw_rm 4 0 0) yX1_heavyOf cX1_heavyOf 2 (some .int) (aw_N G (xx_Po G w h0 (some (.int (nI (0)))) (s)) 0 0) 0 0 h0 0 [(0, .ref (w.1 16)), (1, .int ((-1)))] []
  refine aw_iload_n dX1_heavyOf_0 rfl ?_
  refine aw_if_ge (tgt := 8) dX1_heavyOf_1 (by decide) (fun c_1 => by exfalso; exact absurd c_1 (by decide)) (fun c_1 => ?_)
  refine aw_iconst (v := nI 0) dX1_heavyOf_4 rfl ?_
  refine aw_goto (tgt := 22) dX1_heavyOf_5 (by decide) ?_
  refine aw_ireturn dX1_heavyOf_22 rfl ?_
  exact ⟨rfl, hX, hs⟩
set_option maxHeartbeats 4000000 in
theorem xh_breath {s : mm_S} {H : sp_H} {u : Nat} {t : Nat} (ht : t < sp_hn H) (hn : sp_hn H ≤ 8) (hv : sp_hv H t ≤ 9) : xx_Met yX1_breath cX1_breath 2 (some .int) 5 0 0 (fun w => [.ref (w.1 16), .int (nI (t))]) s H u (some (.int (nI (1 + sp_hv H t / 3)))) (s) := by
  refine xx_Met.of (by decide +kernel) (fun _ => Nat.le_of_ble_eq_true rfl) (fun G w h0 hW hX hH => ?_)
  have hX0 := hX
  have hs : xx_same w h0 h0 := xx_same.rf
  obtain ⟨tl, te, cap, m9, f9, tn, nm9, c9, mo9, D9, hq⟩ := hH
  show AW G (aw_rm 5 0 0) yX1_breath cX1_breath 2 (some .int) (aw_N G (xx_Po G w h0 (some (.int (nI (1 + sp_hv H t / 3)))) (s)) 0 0) 0 0 h0 0 [(0, .ref (w.1 16)), (1, .int (nI (t)))] []
  refine aw_iconst (v := nI 1) dX1_breath_0 rfl ?_
  refine aw_aload_n dX1_breath_1 rfl ?_
  refine aw_iload_n dX1_breath_2 rfl ?_
  refine xx_call0 dX1_breath_3 sX1_83 rfl hW hX (hq.mv hs hX0).xh hs (xh_heavy ht hn) rfl (hq.mv hs hX0).1 rfl rfl ⟨Nat.le_of_ble_eq_true rfl, Nat.le_of_ble_eq_true rfl⟩ (by exact Nat.le_of_ble_eq_true rfl) (fun h hX hs => ?_)
  refine aw_iconst (v := nI 3) dX1_breath_6 rfl ?_
  refine aw_idivN dX1_breath_7 (by omega) (by omega) (by omega) ?_
  refine aw_iaddN dX1_breath_8 ?_
  refine aw_ireturn dX1_breath_9 rfl ?_
  exact ⟨rfl, hX, hs⟩
set_option maxHeartbeats 4000000 in
theorem xh_breathN {s : mm_S} {H : sp_H} {u : Nat}  : xx_Met yX1_breath cX1_breath 2 (some .int) 5 0 0 (fun w => [.ref (w.1 16), .int ((-1))]) s H u (some (.int (nI (1)))) (s) := by
  refine xx_Met.of (by decide +kernel) (fun _ => Nat.le_of_ble_eq_true rfl) (fun G w h0 hW hX hH => ?_)
  have hX0 := hX
  have hs : xx_same w h0 h0 := xx_same.rf
  obtain ⟨tl, te, cap, m9, f9, tn, nm9, c9, mo9, D9, hq⟩ := hH
  show AW G (aw_rm 5 0 0) yX1_breath cX1_breath 2 (some .int) (aw_N G (xx_Po G w h0 (some (.int (nI (1)))) (s)) 0 0) 0 0 h0 0 [(0, .ref (w.1 16)), (1, .int ((-1)))] []
  refine aw_iconst (v := nI 1) dX1_breath_0 rfl ?_
  refine aw_aload_n dX1_breath_1 rfl ?_
  refine aw_iload_n dX1_breath_2 rfl ?_
  refine xx_call0 dX1_breath_3 sX1_83 rfl hW hX (hq.mv hs hX0).xh hs xh_heavyN rfl (hq.mv hs hX0).1 rfl rfl ⟨Nat.le_of_ble_eq_true rfl, Nat.le_of_ble_eq_true rfl⟩ (by exact Nat.le_of_ble_eq_true rfl) (fun h hX hs => ?_)
  refine aw_iconst (v := nI 3) dX1_breath_6 rfl ?_
  refine aw_idivN dX1_breath_7 (by omega) (by omega) (by omega) ?_
  refine aw_iaddN dX1_breath_8 ?_
  refine aw_ireturn dX1_breath_9 rfl ?_
  exact ⟨rfl, hX, hs⟩
theorem aw_mx0 (x : Int32) : (if nI 0 < x then x else nI 0) = nI x.toNatClampNeg := by
  have e0 : (nI 0).toInt = 0 := rfl
  have e : x.toNatClampNeg = x.toInt.toNat := rfl
  have := Int32.toInt_lt x
  by_cases z : nI 0 < x
  · rw [if_pos z]
    rw [Int32.lt_iff_toInt_lt, e0] at z
    rw [aw_eqi (by omega)]
    omega
  · rw [if_neg z]
    rw [Int32.lt_iff_toInt_lt, e0] at z
    rw [show x.toNatClampNeg = 0 by omega]
theorem aw_subc {a b : Nat} (ha : a < 1073741824) (hb : b < 1073741824) : (nI a - nI b).toNatClampNeg = a - b := by
  have e : (nI a - nI b).toNatClampNeg = (nI a - nI b).toInt.toNat := rfl
  rw [e, pk_sub_toInt (by omega) (by omega)]
  omega
/-- what tenant t lacks, owing m more -/
def sp_lk (H : sp_H) (A : Nat → Nat) (t : Nat) (m : Int32) : Nat := (nI (sp_ow H t) + m).toNatClampNeg + A (16 + t) - A (8 + t)
theorem sp_lk_0 {H : sp_H} {A : Nat → Nat} {t : Nat} (h : sp_ow H t ≤ 999) : sp_lk H A t (nI 0) = sp_lack H A t := by
  unfold sp_lk sp_lack sp_due
  rw [nI_add, Nat.add_zero, nI_clamp (by omega)]
set_option maxHeartbeats 4000000 in
theorem xs_lack {s : mm_S} {H : sp_H} {u : Nat} {i t : Nat} {m : Int32} (hi : i < 2) (hn : sp_hn H ≤ 8) (ht : t < sp_hn H) (hb1 : (nI (sp_ow H t) + m).toNatClampNeg + mm_a s (45 + i) (16 + t) < 1073741824) (hb2 : mm_a s (45 + i) (8 + t) < 1073741824) : xx_Met yX2_lack cX2_lack 4 (some .int) 4 0 0 (fun w => [.ref (w.1 (1 + 4 * i)), .ref (w.1 16), .int (nI (t)), .int (m)]) s H u (some (.int (nI (sp_lk H (mm_a s (45 + i)) t m)))) (s) := by
  refine xx_Met.of (by decide +kernel) (fun _ => Nat.le_of_ble_eq_true rfl) (fun G w h0 hW hX hH => ?_)
  have hX0 := hX
  have hs : xx_same w h0 h0 := xx_same.rf
  obtain ⟨tl, te, cap, m9, f9, tn, nm9, c9, mo9, D9, hq⟩ := hH
  show AW G (aw_rm 4 0 0) yX2_lack cX2_lack 4 (some .int) (aw_N G (xx_Po G w h0 (some (.int (nI (sp_lk H (mm_a s (45 + i)) t m)))) (s)) 0 0) 0 0 h0 0 [(0, .ref (w.1 (1 + 4 * i))), (1, .ref (w.1 16)), (2, .int (nI (t))), (3, .int (m))] []
  refine aw_iconst (v := nI 0) dX2_lack_0 rfl ?_
  refine aw_iconst (v := nI 0) dX2_lack_1 rfl ?_
  refine aw_aload_n dX2_lack_2 rfl ?_
  refine aw_get dX2_lack_3 fX2_40 rfl (hq.mv hs hX0).1 (by rfl) ?_
  refine aw_iload_n dX2_lack_6 rfl ?_
  refine xx_get dX2_lack_7 sX2_46 rfl (hq.mv hs hX0) (by omega) ⟨Nat.le_of_ble_eq_true rfl, Nat.le_of_ble_eq_true rfl⟩ (by exact Nat.le_of_ble_eq_true rfl) ?_
  refine aw_castS (y := yX2_lack) dX2_lack_10 q898 aw_cl7 ((hq.mv hs hX0).ten (by omega)) ?_
  refine aw_get dX2_lack_13 fX2_54 rfl ((hq.mv hs hX0).ten (by omega)) (by rfl) ?_
  refine aw_iload_n dX2_lack_16 rfl ?_
  refine aw_iadd dX2_lack_17 ?_
  refine aw_mmax dX2_lack_18 q899 (Nat.le_of_ble_eq_true rfl) (Nat.le_of_ble_eq_true rfl) (Nat.le_of_ble_eq_true rfl) ?_
  rw [aw_mx0]
  refine aw_aload_n dX2_lack_21 rfl ?_
  refine aw_get dX2_lack_22 fX2_18 rfl (hX.st (i := i) hi) (by rfl) ?_
  refine aw_iload_n dX2_lack_25 rfl ?_
  refine xx_ialdS (i := i) (b := 2) dX2_lack_26 hX hi (by decide) (by omega) ?_
  try simp only [Nat.reduceMul, Nat.reduceAdd, Nat.zero_add]
  refine aw_iaddN dX2_lack_27 ?_
  refine aw_aload_n dX2_lack_28 rfl ?_
  refine aw_get dX2_lack_29 fX2_15 rfl (hX.st (i := i) hi) (by rfl) ?_
  refine aw_iload_n dX2_lack_32 rfl ?_
  refine xx_ialdS (i := i) (b := 1) dX2_lack_33 hX hi (by decide) (by omega) ?_
  try simp only [Nat.reduceMul, Nat.reduceAdd, Nat.zero_add]
  refine aw_isub dX2_lack_34 ?_
  refine aw_mmax dX2_lack_35 q899 (Nat.le_of_ble_eq_true rfl) (Nat.le_of_ble_eq_true rfl) (Nat.le_of_ble_eq_true rfl) ?_
  rw [aw_mx0, aw_subc (by omega) (by omega)]
  refine aw_ireturn dX2_lack_38 rfl ?_
  exact ⟨rfl, hX, hs⟩
set_option maxHeartbeats 4000000 in
theorem xs_over {s : mm_S} {H : sp_H} {u : Nat} {i t : Nat} (hi : i < 2) (hn : sp_hn H ≤ 8) (ht : t < sp_hn H) (hb1 : sp_ow H t + mm_a s (45 + i) (16 + t) < 1073741824) (hb2 : mm_a s (45 + i) (8 + t) < 1073741824) : xx_Met yX2_over cX2_over 3 (some .int) 4 0 0 (fun w => [.ref (w.1 (1 + 4 * i)), .ref (w.1 16), .int (nI (t))]) s H u (some (.int (nI (mm_a s (45 + i) (8 + t) - sp_due H (mm_a s (45 + i)) t)))) (s) := by
  refine xx_Met.of (by decide +kernel) (fun _ => Nat.le_of_ble_eq_true rfl) (fun G w h0 hW hX hH => ?_)
  have hX0 := hX
  have hs : xx_same w h0 h0 := xx_same.rf
  obtain ⟨tl, te, cap, m9, f9, tn, nm9, c9, mo9, D9, hq⟩ := hH
  show AW G (aw_rm 4 0 0) yX2_over cX2_over 3 (some .int) (aw_N G (xx_Po G w h0 (some (.int (nI (mm_a s (45 + i) (8 + t) - sp_due H (mm_a s (45 + i)) t)))) (s)) 0 0) 0 0 h0 0 [(0, .ref (w.1 (1 + 4 * i))), (1, .ref (w.1 16)), (2, .int (nI (t)))] []
  refine aw_iconst (v := nI 0) dX2_over_0 rfl ?_
  refine aw_aload_n dX2_over_1 rfl ?_
  refine aw_get dX2_over_2 fX2_15 rfl (hX.st (i := i) hi) (by rfl) ?_
  refine aw_iload_n dX2_over_5 rfl ?_
  refine xx_ialdS (i := i) (b := 1) dX2_over_6 hX hi (by decide) (by omega) ?_
  try simp only [Nat.reduceMul, Nat.reduceAdd, Nat.zero_add]
  refine aw_aload_n dX2_over_7 rfl ?_
  refine aw_get dX2_over_8 fX2_18 rfl (hX.st (i := i) hi) (by rfl) ?_
  refine aw_iload_n dX2_over_11 rfl ?_
  refine xx_ialdS (i := i) (b := 2) dX2_over_12 hX hi (by decide) (by omega) ?_
  try simp only [Nat.reduceMul, Nat.reduceAdd, Nat.zero_add]
  refine aw_isub dX2_over_13 ?_
  refine aw_aload_n dX2_over_14 rfl ?_
  refine aw_get dX2_over_15 fX2_40 rfl (hq.mv hs hX0).1 (by rfl) ?_
  refine aw_iload_n dX2_over_18 rfl ?_
  refine xx_get dX2_over_19 sX2_46 rfl (hq.mv hs hX0) (by omega) ⟨Nat.le_of_ble_eq_true rfl, Nat.le_of_ble_eq_true rfl⟩ (by exact Nat.le_of_ble_eq_true rfl) ?_
  refine aw_castS (y := yX2_over) dX2_over_22 q898 aw_cl7 ((hq.mv hs hX0).ten (by omega)) ?_
  refine aw_get dX2_over_25 fX2_54 rfl ((hq.mv hs hX0).ten (by omega)) (by rfl) ?_
  refine aw_isub dX2_over_28 ?_
  refine aw_mmax dX2_over_29 q899 (Nat.le_of_ble_eq_true rfl) (Nat.le_of_ble_eq_true rfl) (Nat.le_of_ble_eq_true rfl) ?_
  rw [aw_mx0]
  refine aw_ireturn dX2_over_32 rfl ?_
  refine ⟨?_, hX, hs⟩
  rw [Int32.sub_sub, nI_add, aw_subc (by omega) (by omega)]
  unfold sp_due
  rw [Nat.add_comm (mm_a s (45 + i) (16 + t))]

