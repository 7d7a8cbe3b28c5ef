set_option maxRecDepth 100000
/-! the component: the pull, a week -/
set_option maxHeartbeats 4000000 in
theorem xh_pull {s : mm_S} {H : sp_H} {u : Nat} {i k : Nat} (hi : i < 2) (hn : sp_hn H ≤ 8) (hh : ∀ t, t < 8 → sp_hv H t ≤ 9) (hk : k < 2147483648) : xx_Met yX1_pull cX1_pull 6 (some .int) 602 1 4 (fun w => [.ref (w.1 16), .ref (w.1 (1 + 4 * i)), .int (nI (k))]) s H u (some (.int (sp_pull H (aw_u (mm_a s (45 + i)) 24 k)))) (s) := by
  refine xx_Met.of (by decide +kernel) (fun _ => Nat.le_of_ble_eq_true rfl) (fun G w h0 hW hX hH => ?_)
  have hX0 := hX
  have hs : xx_same w h0 h0 := xx_same.rf
  obtain ⟨tl, te, cap, m9, f9, tn, nm9, c9, mo9, D9, hq⟩ := hH
  show AW G (aw_rm 602 1 4) yX1_pull cX1_pull 6 (some .int) (aw_N G (xx_Po G w h0 (some (.int (sp_pull H (aw_u (mm_a s (45 + i)) 24 k)))) (s)) 1 4) 1 4 h0 0 [(0, .ref (w.1 16)), (1, .ref (w.1 (1 + 4 * i))), (2, .int (nI (k)))] []
  rcases hq.2.2.2.2.2.2.2 with ⟨e, z⟩ | ⟨p, e, nz, z⟩
  · subst e
    refine aw_aload_n dX1_pull_0 rfl ?_
    refine aw_get dX1_pull_1 fX1_57 rfl (hq.mv hs hX0).1 (by rfl) ?_
    refine aw_ifnonnullN dX1_pull_4 ?_
    refine aw_iload_n dX1_pull_7 rfl ?_
    refine aw_bipush (v := nI 10) dX1_pull_8 rfl ?_
    refine aw_idivN dX1_pull_10 (by omega) (by omega) (by omega) ?_
    refine aw_ireturn dX1_pull_11 rfl ?_
    refine ⟨?_, hX, hs⟩
    unfold sp_pull sp_val
    rw [if_pos z]
    rfl
  · subst e
    have fin : ∀ (v5 : List (Nat × Value)) (q : Nat) (h : aw_H), XC G w h s → xx_same w h0 h → AW G (aw_rm 602 1 4) yX1_pull cX1_pull 6 (some .int) (aw_N G (xx_Po G w h0 (some (.int (sp_pull H (aw_u (mm_a s (45 + i)) 24 k)))) (s)) 1 4) 0 0 (h) 56 [(0, .ref (w.1 16)), (1, .ref (w.1 (1 + 4 * i))), (2, .int (nI k)), (3, .int (nI (sp_sum (sp_hv H) (sp_hn H)))), (4, .ref q)] [] := by
      intro v5 q h hX hs
      refine aw_aload_n dX1_pull_56 rfl ?_
      refine aw_aload_n dX1_pull_57 rfl ?_
      refine aw_aload_n dX1_pull_58 rfl ?_
      refine aw_get dX1_pull_59 fX1_18 rfl (hq.mv hs hX0).1 (by rfl) ?_
      refine aw_iload_n dX1_pull_62 rfl ?_
      refine aw_iconst (v := nI 0) dX1_pull_63 rfl ?_
      refine aw_iload_n dX1_pull_64 rfl ?_
      refine aw_callV (kc := 0) (ks := 0) dX1_pull_65 sX1_44 rfl (xg_tell (a := sp_hs H) (b := sp_sum (sp_hv H) (sp_hn H)) (n := 0) (k := k) hi hW hX (hq.mv hs hX0).xh) (hq.mv hs hX0).1 rfl rfl ⟨Nat.le_of_ble_eq_true rfl, Nat.le_of_ble_eq_true rfl⟩ (by exact Nat.le_of_ble_eq_true rfl) (fun v9 h9 q9 => ?_)
      obtain ⟨rfl, hX, hs1, hT⟩ := q9
      have hs := hs.tr hs1
      refine aw_aload_n dX1_pull_68 rfl ?_
      refine aw_get dX1_pull_69 fX1_57 rfl (hq.mv hs hX0).1 (by rfl) ?_
      refine aw_aload_n dX1_pull_72 rfl ?_
      refine aw_get dX1_pull_73 fX1_22 rfl (hq.mv hs hX0).1 (by rfl) ?_
      obtain ⟨r, hr, hC⟩ := xp_ev (T := w.1 15) 300 p _ _ (xp_is.mv (fun q ci fs hc hq => hs.ob hX0 hq (by omega) (by omega) (by omega)) _ _ _ z) hT
      refine xp_call dX1_pull_76 sX1_48_X9 sX1_48_X10 sX1_48_X11 sX1_48_X12 rfl hC ⟨Nat.le_of_ble_eq_true rfl, Nat.le_of_ble_eq_true rfl⟩ (by exact Nat.le_of_ble_eq_true rfl) ?_
      refine aw_ireturn dX1_pull_79 rfl ?_
      refine ⟨?_, hX, hs⟩
      unfold sp_pull sp_val
      rw [if_neg nz, hr]
      rfl
    have loop : ∀ (d t : Nat) (r : Int32) (q : Nat) (h : aw_H), sp_hn H - t = d → t ≤ sp_hn H → aw_b G ≤ q → h0 q = none → h q = some (jt_o (nI t) r m9 tl) → XC G w h s → xx_same w h0 h → AW G (aw_rm 602 1 4) yX1_pull cX1_pull 6 (some .int) (aw_N G (xx_Po G w h0 (some (.int (sp_pull H (aw_u (mm_a s (45 + i)) 24 k)))) (s)) 1 4) 0 0 (h) 23 [(0, .ref (w.1 16)), (1, .ref (w.1 (1 + 4 * i))), (2, .int (nI k)), (3, .int (nI (sp_sum (sp_hv H) t))), (4, .ref q)] [] := by
      intro d
      induction d using Nat.strongRecOn with
      | _ d ih =>
        intro t r q h hd ht hb hq0 hit hX hs
        have Q := hq.mv hs hX0
        have hcap := Q.2.2.2.2.1
        have hqc : ∀ c, c < 16 → q ≠ w.1 c := hX.ne hit (by decide) (by decide) (by decide)
        refine aw_aload dX1_pull_23 rfl ?_
        refine aw_roF dX1_pull_25 sX1_64 rfl (jt_has hit Q.2.1 (by omega) (by omega)) hit rfl rfl ⟨Nat.le_of_ble_eq_true rfl, Nat.le_of_ble_eq_true rfl⟩ (by exact Nat.le_of_ble_eq_true rfl) (fun v9 h9 q9 => ?_)
        obtain ⟨rfl, e9⟩ := q9
        rw [e9]
        refine aw_if_eqB (tgt := 56) dX1_pull_30 (by decide) (fun c_30 => ?_) (fun c_30 => ?_)
        · refine AW_ls ?_ (fin [] q h hX hs)
          rw [show t = sp_hn H by omega]
        · refine aw_aload dX1_pull_33 rfl ?_
          refine aw_roF dX1_pull_35 sX1_70 rfl (jt_next hb hit Q.2.1 Q.2.2.1 (by omega) Q.2.2.2.1 (by omega) (Q.2.2.2.2.2.1 t (by omega)).1) hit rfl rfl ⟨Nat.le_of_ble_eq_true rfl, Nat.le_of_ble_eq_true rfl⟩ (by exact Nat.le_of_ble_eq_true rfl) (fun v9 h9 q9 => ?_)
          obtain ⟨rfl, e9⟩ := q9
          rw [e9]
          have hX := hX.ot (e := jt_o (nI (t + 1)) (nI t) m9 tl) hqc
          have hs := xx_same.nw (e := jt_o (nI (t + 1)) (nI t) m9 tl) hq0 hs
          refine aw_castS (y := yX1_pull) dX1_pull_40 q917 aw_cl7 ((hq.mv hs hX0).ten (by omega)) ?_
          refine aw_astore dX1_pull_43 (by decide) rfl rfl ?_
          refine aw_iload_n dX1_pull_45 rfl ?_
          refine aw_aload dX1_pull_46 rfl ?_
          refine aw_get dX1_pull_48 fX1_76 rfl ((hq.mv hs hX0).ten (by omega)) (by rfl) ?_
          refine aw_iaddN dX1_pull_51 ?_
          refine aw_istore_n dX1_pull_52 (by decide) rfl rfl ?_
          refine aw_goto (tgt := 23) dX1_pull_53 (by decide) ?_
          refine AW_dr (ih (sp_hn H - (t + 1)) (by omega) (t + 1) (nI t) q _ rfl (by omega) hb hq0 (aw_up_s _ _ _) hX hs)
    refine aw_aload_n dX1_pull_0 rfl ?_
    refine aw_get dX1_pull_1 fX1_57 rfl (hq.mv hs hX0).1 (by rfl) ?_
    refine aw_ifnonnull (tgt := 12) dX1_pull_4 (by decide) ?_
    refine aw_iconst (v := nI 0) dX1_pull_12 rfl ?_
    refine aw_istore_n dX1_pull_13 (by decide) rfl rfl ?_
    refine aw_aload_n dX1_pull_14 rfl ?_
    refine aw_get dX1_pull_15 fX1_12 rfl (hq.mv hs hX0).1 (by rfl) ?_
    refine AW_le (kc' := 0 + 1) (ks' := 0 + 4) (by omega) (by omega) ?_
    refine aw_callV (kc := 0) (ks := 0) dX1_pull_18 sX1_60 rfl (jl_iter (hq.mv hs hX0).2.1) (hq.mv hs hX0).2.1 rfl rfl ⟨Nat.le_of_ble_eq_true rfl, Nat.le_of_ble_eq_true rfl⟩ (by exact Nat.le_of_ble_eq_true rfl) (fun v9 h9 q9 => ?_)
    obtain ⟨q, rfl, q2, q3, q4⟩ := q9
    rw [q4]
    have hX := hX.new (e := jt_o 0 (-1) m9 tl) q2
    have hs := hs.new (e := jt_o 0 (-1) m9 tl) q2
    refine aw_astore dX1_pull_21 (by decide) rfl rfl ?_
    exact loop (sp_hn H) 0 (-1) q _ rfl (Nat.zero_le _) q3 q2 (aw_up_s _ _ _) hX hs
set_option maxHeartbeats 4000000 in
theorem xs_lift {s : mm_S} {H : sp_H} {u : Nat} {i k : Nat} (hi : i < 2) (hn : sp_hn H ≤ 8) (hh : ∀ t, t < 8 → sp_hv H t ≤ 9) (h20 : sp_hs H ≤ 20) (hk : mm_a s (45 + i) 24 + k < 2147483648) : xx_Met yX2_liftThen cX2_liftThen 3 (some .int) 603 1 4 (fun w => [.ref (w.1 (1 + 4 * i)), .ref (w.1 16), .int (nI (k))]) s H u (some (.int (nI (sp_lift H (aw_u (mm_a s (45 + i)) 24 (mm_a s (45 + i) 24 + k)))))) (s) := by
  refine xx_Met.of (by decide +kernel) (fun _ => Nat.le_of_ble_eq_true rfl) (fun G w h0 hW hX hH => ?_)
  have hX0 := hX
  have hs : xx_same w h0 h0 := xx_same.rf
  obtain ⟨tl, te, cap, m9, f9, tn, nm9, c9, mo9, D9, hq⟩ := hH
  show AW G (aw_rm 603 1 4) yX2_liftThen cX2_liftThen 3 (some .int) (aw_N G (xx_Po G w h0 (some (.int (nI (sp_lift H (aw_u (mm_a s (45 + i)) 24 (mm_a s (45 + i) 24 + k)))))) (s)) 1 4) 1 4 h0 0 [(0, .ref (w.1 (1 + 4 * i))), (1, .ref (w.1 16)), (2, .int (nI (k)))] []
  refine aw_aload_n dX2_liftThen_0 rfl ?_
  refine aw_get dX2_liftThen_1 fX2_31 rfl (hX.st (i := i) hi) (by rfl) ?_
  refine aw_aload_n dX2_liftThen_4 rfl ?_
  refine aw_aload_n dX2_liftThen_5 rfl ?_
  refine aw_aload_n dX2_liftThen_6 rfl ?_
  refine aw_get dX2_liftThen_7 fX2_27 rfl (hX.st (i := i) hi) (by rfl) ?_
  refine aw_iload_n dX2_liftThen_10 rfl ?_
  refine aw_iaddN dX2_liftThen_11 ?_
  refine AW_le (kc' := 0 + 1) (ks' := 0 + 4) (by omega) (by omega) ?_
  refine xx_call (kc := 0) (ks := 0) dX2_liftThen_12 sX2_63 rfl hW hX (hq.mv hs hX0).xh hs (xh_pull (k := mm_a s (45 + i) 24 + k) hi hn hh hk) rfl (hq.mv hs hX0).1 rfl rfl ⟨Nat.le_of_ble_eq_true rfl, Nat.le_of_ble_eq_true rfl⟩ (by exact Nat.le_of_ble_eq_true rfl) (fun h hX hs => ?_)
  refine aw_iadd dX2_liftThen_15 ?_
  refine aw_aload_n dX2_liftThen_16 rfl ?_
  refine aw_get dX2_liftThen_17 fX2_67 rfl (hq.mv hs hX0).1 (by rfl) ?_
  refine aw_callPN (r := _) dX2_liftThen_20 sX2_70 rfl (xp_within (by omega)) rfl rfl ⟨Nat.le_of_ble_eq_true rfl, Nat.le_of_ble_eq_true rfl⟩ (Nat.le_of_ble_eq_true rfl) ?_
  refine aw_ireturn dX2_liftThen_23 rfl ?_
  exact ⟨rfl, hX, hs⟩
theorem xx_AU {G : aw_G} {w : xx_Wd} {h : aw_H} {s : mm_S} {k j v : Nat} {B C : Nat → Nat} (hX : XC G w h (mm_setA (mm_setA s k B) k (aw_u (mm_a (mm_setA s k B) k) j v))) (e : C = aw_u B j v) : XC G w h (mm_setA s k C) := hX.eqv (by rw [mm_A_A, mm_a_A, if_pos rfl, e])
theorem xx_AA {G : aw_G} {w : xx_Wd} {h : aw_H} {s : mm_S} {k : Nat} {B C : Nat → Nat} (hX : XC G w h (mm_setA (mm_setA s k B) k C)) : XC G w h (mm_setA s k C) := hX.eqv (mm_A_A _ _ _ _)
/-- behind paying -/
def sp_payA (H : sp_H) (A : Nat → Nat) (t : Nat) : Nat → Nat := aw_u (aw_u (aw_u A (16 + t) (A (16 + t) + sp_ow H t)) (8 + t) (A (8 + t) - min (A (8 + t)) (A (16 + t) + sp_ow H t))) (16 + t) (A (16 + t) + sp_ow H t - min (A (8 + t)) (A (16 + t) + sp_ow H t))
set_option maxHeartbeats 4000000 in
theorem xs_pay {s : mm_S} {H : sp_H} {u : Nat} {i t : Nat} (hi : i < 2) (hn : sp_hn H ≤ 8) (ht : t < sp_hn H) (hb1 : mm_a s (45 + i) (16 + t) + sp_ow H t < 2147483648) (hb2 : mm_a s (45 + i) (8 + t) < 2147483648) : xx_Met yX2_pay cX2_pay 4 none 4 0 0 (fun w => [.ref (w.1 (1 + 4 * i)), .ref (w.1 16), .int (nI (t))]) s H u none (mm_setA s (45 + i) (sp_payA H (mm_a s (45 + i)) t)) := by
  refine xx_Met.of (by decide +kernel) (fun _ => Nat.le_of_ble_eq_true rfl) (fun G w h0 hW hX hH => ?_)
  have hX0 := hX
  have hs : xx_same w h0 h0 := xx_same.rf
  obtain ⟨tl, te, cap, m9, f9, tn, nm9, c9, mo9, D9, hq⟩ := hH
  show AW G (aw_rm 4 0 0) yX2_pay cX2_pay 4 none (aw_N G (xx_Po G w h0 none (mm_setA s (45 + i) (sp_payA H (mm_a s (45 + i)) t))) 0 0) 0 0 h0 0 [(0, .ref (w.1 (1 + 4 * i))), (1, .ref (w.1 16)), (2, .int (nI (t)))] []
  obtain ⟨A, hA⟩ : ∃ A, A = mm_a s (45 + i) := ⟨_, rfl⟩
  obtain ⟨B1, hB1⟩ : ∃ B, B = aw_u A (16 + t) (A (16 + t) + sp_ow H t) := ⟨_, rfl⟩
  obtain ⟨B2, hB2⟩ : ∃ B, B = aw_u B1 (8 + t) (A (8 + t) - min (A (8 + t)) (A (16 + t) + sp_ow H t)) := ⟨_, rfl⟩
  have b8 : B1 (8 + t) = A (8 + t) := by rw [hB1, aw_u_n (by omega)]
  have b16 : B1 (16 + t) = A (16 + t) + sp_ow H t := by rw [hB1, aw_u_s]
  have c16 : B2 (16 + t) = A (16 + t) + sp_ow H t := by rw [hB2, aw_u_n (by omega), b16]
  rw [← hA] at hb1 hb2
  have e9 : sp_payA H (mm_a s (45 + i)) t = aw_u B2 (16 + t) (A (16 + t) + sp_ow H t - min (A (8 + t)) (A (16 + t) + sp_ow H t)) := by rw [hB2, hB1, hA]; rfl
  refine aw_aload_n dX2_pay_0 rfl ?_
  refine aw_get dX2_pay_1 fX2_18 rfl (hX.st (i := i) hi) (by rfl) ?_
  refine aw_iload_n dX2_pay_4 rfl ?_
  refine aw_dup2 dX2_pay_5 rfl rfl ?_
  refine xx_ialdS (i := i) (b := 2) dX2_pay_6 hX hi (by decide) (by omega) ?_
  try simp only [Nat.reduceMul, Nat.reduceAdd, Nat.zero_add]
  refine aw_aload_n dX2_pay_7 rfl ?_
  refine aw_get dX2_pay_8 fX2_40 rfl (hq.mv hs hX0).1 (by rfl) ?_
  refine aw_iload_n dX2_pay_11 rfl ?_
  refine xx_get dX2_pay_12 sX2_46 rfl (hq.mv hs hX0) (by omega) ⟨Nat.le_of_ble_eq_true rfl, Nat.le_of_ble_eq_true rfl⟩ (by exact Nat.le_of_ble_eq_true rfl) ?_
  refine aw_castS (y := yX2_pay) dX2_pay_15 q898 aw_cl7 ((hq.mv hs hX0).ten (by omega)) ?_
  refine aw_get dX2_pay_18 fX2_54 rfl ((hq.mv hs hX0).ten (by omega)) (by rfl) ?_
  refine aw_iaddN dX2_pay_21 ?_
  refine xx_stS (i := i) (b := 2) hW hX hs dX2_pay_22 hi (by decide) (by omega) (fun h hX hs => ?_)
  have hX : XC G w h (mm_setA s (45 + i) B1) := hX.eqv (by rw [hB1, hA])
  refine aw_aload_n dX2_pay_23 rfl ?_
  refine aw_get dX2_pay_24 fX2_15 rfl (hX.st (i := i) hi) (by rfl) ?_
  refine aw_iload_n dX2_pay_27 rfl ?_
  refine xx_ialdS (i := i) (b := 1) dX2_pay_28 hX hi (by decide) (by omega) ?_
  try simp only [Nat.reduceMul, Nat.reduceAdd, Nat.zero_add]
  try simp only [mm_n_N, mm_n_A, mm_n_V, mm_n_Fp, mm_n_W, mm_n_Nm, mm_a_N, mm_a_A, mm_a_V, mm_a_Fp, mm_a_W, mm_a_Nm, mm_v_N, mm_v_A, mm_v_V, mm_fp_N, mm_fp_A, mm_fp_Fp, mm_w_N, mm_w_W, Nat.reduceEqDiff, reduceIte, if_true, if_false, mm_H_45, mm_H_46, mm_H_47, mm_H_50, mm_H_53, mm_H_54, mm_H_55, mm_H_56, mm_H_57, mm_H_58, mm_H_66, mm_H_67, mm_H_68, eq_self]
  rw [b8]
  refine aw_aload_n dX2_pay_29 rfl ?_
  refine aw_get dX2_pay_30 fX2_18 rfl (hX.st (i := i) hi) (by rfl) ?_
  refine aw_iload_n dX2_pay_33 rfl ?_
  refine xx_ialdS (i := i) (b := 2) dX2_pay_34 hX hi (by decide) (by omega) ?_
  try simp only [Nat.reduceMul, Nat.reduceAdd, Nat.zero_add]
  try simp only [mm_n_N, mm_n_A, mm_n_V, mm_n_Fp, mm_n_W, mm_n_Nm, mm_a_N, mm_a_A, mm_a_V, mm_a_Fp, mm_a_W, mm_a_Nm, mm_v_N, mm_v_A, mm_v_V, mm_fp_N, mm_fp_A, mm_fp_Fp, mm_w_N, mm_w_W, Nat.reduceEqDiff, reduceIte, if_true, if_false, mm_H_45, mm_H_46, mm_H_47, mm_H_50, mm_H_53, mm_H_54, mm_H_55, mm_H_56, mm_H_57, mm_H_58, mm_H_66, mm_H_67, mm_H_68, eq_self]
  rw [b16]
  refine aw_mminN dX2_pay_35 q1010 (by omega) (by omega) (Nat.le_of_ble_eq_true rfl) (Nat.le_of_ble_eq_true rfl) (Nat.le_of_ble_eq_true rfl) ?_
  refine aw_istore_n dX2_pay_38 (by decide) rfl rfl ?_
  refine aw_aload_n dX2_pay_39 rfl ?_
  refine aw_get dX2_pay_40 fX2_15 rfl (hX.st (i := i) hi) (by rfl) ?_
  refine aw_iload_n dX2_pay_43 rfl ?_
  refine aw_dup2 dX2_pay_44 rfl rfl ?_
  refine xx_ialdS (i := i) (b := 1) dX2_pay_45 hX hi (by decide) (by omega) ?_
  try simp only [Nat.reduceMul, Nat.reduceAdd, Nat.zero_add]
  try simp only [mm_n_N, mm_n_A, mm_n_V, mm_n_Fp, mm_n_W, mm_n_Nm, mm_a_N, mm_a_A, mm_a_V, mm_a_Fp, mm_a_W, mm_a_Nm, mm_v_N, mm_v_A, mm_v_V, mm_fp_N, mm_fp_A, mm_fp_Fp, mm_w_N, mm_w_W, Nat.reduceEqDiff, reduceIte, if_true, if_false, mm_H_45, mm_H_46, mm_H_47, mm_H_50, mm_H_53, mm_H_54, mm_H_55, mm_H_56, mm_H_57, mm_H_58, mm_H_66, mm_H_67, mm_H_68, eq_self]
  rw [b8]
  refine aw_iload_n dX2_pay_46 rfl ?_
  refine aw_isubN dX2_pay_47 (by omega) ?_
  refine xx_stS (i := i) (b := 1) hW hX hs dX2_pay_48 hi (by decide) (by omega) (fun h hX hs => ?_)
  have hX : XC G w h (mm_setA s (45 + i) B2) := xx_AU hX hB2
  refine aw_aload_n dX2_pay_49 rfl ?_
  refine aw_get dX2_pay_50 fX2_18 rfl (hX.st (i := i) hi) (by rfl) ?_
  refine aw_iload_n dX2_pay_53 rfl ?_
  refine aw_dup2 dX2_pay_54 rfl rfl ?_
  refine xx_ialdS (i := i) (b := 2) dX2_pay_55 hX hi (by decide) (by omega) ?_
  try simp only [Nat.reduceMul, Nat.reduceAdd, Nat.zero_add]
  try simp only [mm_n_N, mm_n_A, mm_n_V, mm_n_Fp, mm_n_W, mm_n_Nm, mm_a_N, mm_a_A, mm_a_V, mm_a_Fp, mm_a_W, mm_a_Nm, mm_v_N, mm_v_A, mm_v_V, mm_fp_N, mm_fp_A, mm_fp_Fp, mm_w_N, mm_w_W, Nat.reduceEqDiff, reduceIte, if_true, if_false, mm_H_45, mm_H_46, mm_H_47, mm_H_50, mm_H_53, mm_H_54, mm_H_55, mm_H_56, mm_H_57, mm_H_58, mm_H_66, mm_H_67, mm_H_68, eq_self]
  rw [c16]
  refine aw_iload_n dX2_pay_56 rfl ?_
  refine aw_isubN dX2_pay_57 (by omega) ?_
  refine xx_stS (i := i) (b := 2) hW hX hs dX2_pay_58 hi (by decide) (by omega) (fun h hX hs => ?_)
  have hX : XC G w h (mm_setA s (45 + i) (sp_payA H (mm_a s (45 + i)) t)) := xx_AU hX e9
  refine aw_vreturn dX2_pay_59 rfl ?_
  exact ⟨rfl, hX, hs⟩
theorem sp_payA_e {H : sp_H} {A : Nat → Nat} {t : Nat} (ht : t < 8) : sp_payA H A t (8 + t) = A (8 + t) - min (A (8 + t)) (A (16 + t) + sp_ow H t) ∧ sp_payA H A t (16 + t) = A (16 + t) + sp_ow H t - min (A (8 + t)) (A (16 + t) + sp_ow H t) ∧ ∀ j, j ≠ 8 + t → j ≠ 16 + t → sp_payA H A t j = A j := by
  unfold sp_payA
  refine ⟨?_, ?_, fun j h1 h2 => ?_⟩
  · rw [aw_u_n (by omega), aw_u_s]
  · rw [aw_u_s]
  · rw [aw_u_n h2, aw_u_n h1, aw_u_n h2]
theorem sp_wk_0 {H : sp_H} {A : Nat → Nat} : aw_u (aw_u (aw_u A 25 (sp_lift H A)) 24 0) 26 (A 26 + 1) = sp_wk 0 H A := by
  funext j
  unfold sp_wk aw_u
  by_cases h1 : j < 8
  · rw [if_neg (by omega), if_neg (by omega), if_neg (by omega), if_pos h1, if_neg (by omega)]
  · rw [if_neg h1]
    by_cases h2 : j < 16
    · rw [if_neg (by omega), if_neg (by omega), if_neg (by omega), if_pos h2, if_neg (by omega)]
    · rw [if_neg h2]
      by_cases h3 : j < 24
      · rw [if_neg (by omega), if_neg (by omega), if_neg (by omega), if_pos h3, if_neg (by omega)]
      · rw [if_neg h3]
        by_cases h4 : j = 24
        · subst h4; rfl
        · by_cases h5 : j = 25
          · subst h5; rfl
          · by_cases h6 : j = 26
            · subst h6; rfl
            · simp only [if_neg h4, if_neg h5, if_neg h6]
set_option maxHeartbeats 4000000 in
theorem xs_goOn {s : mm_S} {H : sp_H} {u : Nat} {i : Nat} (hi : i < 2) (hn : sp_hn H ≤ 8) (hh : ∀ t, t < 8 → sp_hv H t ≤ 9) (h20 : sp_hs H ≤ 20) (hc : mm_a s (45 + i) 24 < 2147483648) (hw9 : mm_a s (45 + i) 26 + 1 < 2147483648) (hd : ∀ t, t < 8 → mm_a s (45 + i) (16 + t) + sp_ow H t < 2147483648 ∧ mm_a s (45 + i) (8 + t) < 2147483648) : xx_Met yX2_goOn cX2_goOn 3 none 604 1 4 (fun w => [.ref (w.1 (1 + 4 * i)), .ref (w.1 16)]) s H u none (mm_setA s (45 + i) (sp_week H (mm_a s (45 + i)))) := by
  refine xx_Met.of (by decide +kernel) (fun _ => Nat.le_of_ble_eq_true rfl) (fun G w h0 hW hX hH => ?_)
  have hX0 := hX
  have hs : xx_same w h0 h0 := xx_same.rf
  obtain ⟨tl, te, cap, m9, f9, tn, nm9, c9, mo9, D9, hq⟩ := hH
  show AW G (aw_rm 604 1 4) yX2_goOn cX2_goOn 3 none (aw_N G (xx_Po G w h0 none (mm_setA s (45 + i) (sp_week H (mm_a s (45 + i))))) 1 4) 1 4 h0 0 [(0, .ref (w.1 (1 + 4 * i))), (1, .ref (w.1 16))] []
  obtain ⟨A, hA⟩ : ∃ A, A = mm_a s (45 + i) := ⟨_, rfl⟩
  have loop : ∀ (d k : Nat) (h : aw_H), sp_hn H - k = d → k ≤ sp_hn H → XC G w h (mm_setA s (45 + i) (sp_wk k H A)) → xx_same w h0 h → AW G (aw_rm 604 1 4) yX2_goOn cX2_goOn 3 none (aw_N G (xx_Po G w h0 none (mm_setA s (45 + i) (sp_week H (mm_a s (45 + i))))) 1 4) 0 0 (h) 27 [(0, .ref (w.1 (1 + 4 * i))), (1, .ref (w.1 16)), (2, .int (nI k))] [] := by
    intro d
    induction d using Nat.strongRecOn with
    | _ d ih =>
      intro k h hd9 hk hX hs
      obtain ⟨B, hB⟩ : ∃ B, B = sp_wk k H A := ⟨_, rfl⟩
      rw [← hB] at hX
      have b26 : B 26 = A 26 + 1 := by rw [hB]; rfl
      by_cases hk2 : k < sp_hn H
      · obtain ⟨g0, g8, g16⟩ := sp_wk_ge (k := k) (H := H) (A := A) (show k < 8 by omega) (Nat.le_refl _)
        obtain ⟨B1, hB1⟩ : ∃ B1, B1 = aw_u B k (sp_sg8 H k) := ⟨_, rfl⟩
        have q0 : B1 k = sp_sg8 H k := by rw [hB1, aw_u_s]
        have q8 : B1 (8 + k) = A (8 + k) := by rw [hB1, aw_u_n (by omega), hB, g8]
        have q16 : B1 (16 + k) = A (16 + k) := by rw [hB1, aw_u_n (by omega), hB, g16]
        have q26 : B1 26 = A 26 + 1 := by rw [hB1, aw_u_n (by omega), b26]
        have qo : ∀ j, j ≠ k → B1 j = sp_wk k H A j := fun j hj => by rw [hB1, aw_u_n hj, hB]
        have hd' := hd k (by omega)
        rw [← hA] at hd' hw9
        have b1 : mm_a (mm_setA s (45 + i) B1) (45 + i) = B1 := by rw [mm_a_A, if_pos rfl]
        obtain ⟨p8, p16, po⟩ := sp_payA_e (H := H) (A := B1) (t := k) (by omega)
        rw [q8, q16] at p8 p16
        have next : ∀ (B5 : Nat → Nat) (h : aw_H), B5 = sp_wk (k + 1) H A → XC G w h (mm_setA s (45 + i) B5) → xx_same w h0 h → AW G (aw_rm 604 1 4) yX2_goOn cX2_goOn 3 none (aw_N G (xx_Po G w h0 none (mm_setA s (45 + i) (sp_week H (mm_a s (45 + i))))) 1 4) 0 0 (h) 73 [(0, .ref (w.1 (1 + 4 * i))), (1, .ref (w.1 16)), (2, .int (nI k))] [] := by
          intro B5 h e5 hX hs
          rw [e5] at hX
          refine aw_iincN (b := 1) dX2_goOn_73 rfl rfl (by decide) rfl rfl ?_
          refine aw_goto (tgt := 27) dX2_goOn_76 (by decide) ?_
          exact ih (sp_hn H - (k + 1)) (by omega) (k + 1) h rfl (by omega) hX hs
        refine aw_iload_n dX2_goOn_27 rfl ?_
        refine aw_aload_n dX2_goOn_28 rfl ?_
        refine aw_get dX2_goOn_29 fX2_40 rfl (hq.mv hs hX0).1 (by rfl) ?_
        refine xx_size dX2_goOn_32 sX2_77 rfl (hq.mv hs hX0) ⟨Nat.le_of_ble_eq_true rfl, Nat.le_of_ble_eq_true rfl⟩ (by exact Nat.le_of_ble_eq_true rfl) ?_
        refine aw_icmp_geN (tgt := 79) dX2_goOn_35 (by decide) (by omega) (by omega) (fun c_35 => by exfalso; omega) (fun c_35 => ?_)
        refine aw_aload_n dX2_goOn_38 rfl ?_
        refine aw_get dX2_goOn_39 fX2_9 rfl (hX.st (i := i) hi) (by rfl) ?_
        refine aw_iload_n dX2_goOn_42 rfl ?_
        refine aw_aload_n dX2_goOn_43 rfl ?_
        refine aw_get dX2_goOn_44 fX2_40 rfl (hq.mv hs hX0).1 (by rfl) ?_
        refine aw_iload_n dX2_goOn_47 rfl ?_
        refine xx_get dX2_goOn_48 sX2_46 rfl (hq.mv hs hX0) (by omega) ⟨Nat.le_of_ble_eq_true rfl, Nat.le_of_ble_eq_true rfl⟩ (by exact Nat.le_of_ble_eq_true rfl) ?_
        refine aw_castS (y := yX2_goOn) dX2_goOn_51 q898 aw_cl7 ((hq.mv hs hX0).ten (by omega)) ?_
        refine aw_get dX2_goOn_54 fX2_81 rfl ((hq.mv hs hX0).ten (by omega)) (by rfl) ?_
        refine xx_stS (i := i) (b := 0) hW hX hs dX2_goOn_57 hi (by decide) (by omega) (fun h hX hs => ?_)
        have hX : XC G w h (mm_setA s (45 + i) B1) := xx_AU hX (by rw [hB1, Nat.mul_zero, Nat.zero_add])
        refine aw_aload_n dX2_goOn_58 rfl ?_
        refine aw_get dX2_goOn_59 fX2_34 rfl (hX.st (i := i) hi) (by rfl) ?_
        try simp only [mm_n_N, mm_n_A, mm_n_V, mm_n_Fp, mm_n_W, mm_n_Nm, mm_a_N, mm_a_A, mm_a_V, mm_a_Fp, mm_a_W, mm_a_Nm, mm_v_N, mm_v_A, mm_v_V, mm_fp_N, mm_fp_A, mm_fp_Fp, mm_w_N, mm_w_W, Nat.reduceEqDiff, reduceIte, if_true, if_false, mm_H_45, mm_H_46, mm_H_47, mm_H_50, mm_H_53, mm_H_54, mm_H_55, mm_H_56, mm_H_57, mm_H_58, mm_H_66, mm_H_67, mm_H_68, eq_self]
        rw [q26]
        refine aw_iconst (v := nI 4) dX2_goOn_62 rfl ?_
        refine aw_iremN dX2_goOn_63 (by omega) (by omega) (by omega) ?_
        refine aw_if_neN (tgt := 73) dX2_goOn_64 (by decide) (by omega) (fun c_64 => ?_) (fun c_64 => ?_)
        · first
          | exact next _ h (sp_wk_s (by omega) (by rw [po k (by omega) (by omega)]; exact q0) (by rw [if_pos (by omega), p8]) (by rw [if_pos (by omega), p16]) (fun j j1 j2 j3 => by rw [po j j2 j3]; exact qo j j1)) hX hs
          | exact next _ h (sp_wk_s (by omega) q0 (by rw [if_neg (by omega), q8]) (by rw [if_neg (by omega), q16]) (fun j j1 _ _ => qo j j1)) hX hs
        · refine aw_aload_n dX2_goOn_67 rfl ?_
          refine aw_aload_n dX2_goOn_68 rfl ?_
          refine aw_iload_n dX2_goOn_69 rfl ?_
          refine xx_call0 dX2_goOn_70 sX2_84 rfl hW hX (hq.mv hs hX0).xh hs (xs_pay (i := i) (t := k) hi hn hk2 (by rw [b1, q16]; omega) (by rw [b1, q8]; omega)) rfl (hX.st (i := i) hi) rfl rfl ⟨Nat.le_of_ble_eq_true rfl, Nat.le_of_ble_eq_true rfl⟩ (by exact Nat.le_of_ble_eq_true rfl) (fun h hX hs => ?_)
          rw [b1] at hX
          have hX := xx_AA hX
          first
          | exact next _ h (sp_wk_s (by omega) (by rw [po k (by omega) (by omega)]; exact q0) (by rw [if_pos (by omega), p8]) (by rw [if_pos (by omega), p16]) (fun j j1 j2 j3 => by rw [po j j2 j3]; exact qo j j1)) hX hs
          | exact next _ h (sp_wk_s (by omega) q0 (by rw [if_neg (by omega), q8]) (by rw [if_neg (by omega), q16]) (fun j j1 _ _ => qo j j1)) hX hs
      ·
        refine aw_iload_n dX2_goOn_27 rfl ?_
        refine aw_aload_n dX2_goOn_28 rfl ?_
        refine aw_get dX2_goOn_29 fX2_40 rfl (hq.mv hs hX0).1 (by rfl) ?_
        refine xx_size dX2_goOn_32 sX2_77 rfl (hq.mv hs hX0) ⟨Nat.le_of_ble_eq_true rfl, Nat.le_of_ble_eq_true rfl⟩ (by exact Nat.le_of_ble_eq_true rfl) ?_
        refine aw_icmp_geN (tgt := 79) dX2_goOn_35 (by decide) (by omega) (by omega) (fun c_35 => ?_) (fun c_35 => by exfalso; omega)
        refine aw_vreturn dX2_goOn_79 rfl ?_
        refine ⟨rfl, hX.eqv ?_, hs⟩
        rw [hB, show k = sp_hn H by omega, hA]
        rfl
  obtain ⟨L, hL⟩ : ∃ L, L = sp_lift H A := ⟨_, rfl⟩
  have eL : sp_lift H (aw_u (mm_a s (45 + i)) 24 (mm_a s (45 + i) 24 + 0)) = L := by
    rw [hL, hA]
    congr 1
    funext j
    unfold aw_u
    split
    · rename_i z; rw [z]; rfl
    · rfl
  refine aw_aload_n dX2_goOn_0 rfl ?_
  refine aw_aload_n dX2_goOn_1 rfl ?_
  refine aw_aload_n dX2_goOn_2 rfl ?_
  refine aw_iconst (v := nI 0) dX2_goOn_3 rfl ?_
  refine AW_le (kc' := 0 + 1) (ks' := 0 + 4) (by omega) (by omega) ?_
  refine xx_call (kc := 0) (ks := 0) dX2_goOn_4 sX2_73 rfl hW hX (hq.mv hs hX0).xh hs (xs_lift (k := 0) hi hn hh h20 (by omega)) rfl (hX.st (i := i) hi) rfl rfl ⟨Nat.le_of_ble_eq_true rfl, Nat.le_of_ble_eq_true rfl⟩ (by exact Nat.le_of_ble_eq_true rfl) (fun h hX hs => ?_)
  rw [eL]
  refine xx_putS (i := i) (k := 1) hW hX hs hi (by decide) dX2_goOn_7 (pX2_31 _) rfl rfl (fun h hX hs => ?_)
  have hX : XC G w h (mm_setA s (45 + i) (aw_u A 25 L)) := hX.eqv (by rw [hA])
  refine aw_aload_n dX2_goOn_10 rfl ?_
  refine aw_iconst (v := nI 0) dX2_goOn_11 rfl ?_
  refine xx_putS (i := i) (k := 0) hW hX hs hi (by decide) dX2_goOn_12 (pX2_27 _) rfl rfl (fun h hX hs => ?_)
  have hX : XC G w h (mm_setA s (45 + i) (aw_u (aw_u A 25 L) 24 0)) := xx_AU hX rfl
  refine aw_aload_n dX2_goOn_15 rfl ?_
  refine aw_dup dX2_goOn_16 rfl ?_
  refine aw_get dX2_goOn_17 fX2_34 rfl (hX.st (i := i) hi) (by rfl) ?_
  try simp only [mm_n_N, mm_n_A, mm_n_V, mm_n_Fp, mm_n_W, mm_n_Nm, mm_a_N, mm_a_A, mm_a_V, mm_a_Fp, mm_a_W, mm_a_Nm, mm_v_N, mm_v_A, mm_v_V, mm_fp_N, mm_fp_A, mm_fp_Fp, mm_w_N, mm_w_W, Nat.reduceEqDiff, reduceIte, if_true, if_false, mm_H_45, mm_H_46, mm_H_47, mm_H_50, mm_H_53, mm_H_54, mm_H_55, mm_H_56, mm_H_57, mm_H_58, mm_H_66, mm_H_67, mm_H_68, eq_self]
  rw [show aw_u (aw_u A 25 L) 24 0 26 = A 26 from rfl]
  refine aw_iconst (v := nI 1) dX2_goOn_20 rfl ?_
  refine aw_iaddN dX2_goOn_21 ?_
  refine xx_putS (i := i) (k := 2) hW hX hs hi (by decide) dX2_goOn_22 (pX2_34 _) rfl rfl (fun h hX hs => ?_)
  have hX : XC G w h (mm_setA s (45 + i) (sp_wk 0 H A)) := xx_AU hX (by rw [← sp_wk_0, hL])
  refine aw_iconst (v := nI 0) dX2_goOn_25 rfl ?_
  refine aw_istore_n dX2_goOn_26 (by decide) rfl rfl ?_
  exact loop (sp_hn H) 0 h rfl (Nat.zero_le _) hX hs

