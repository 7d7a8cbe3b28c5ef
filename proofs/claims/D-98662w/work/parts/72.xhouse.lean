set_option maxRecDepth 100000
/-! the component: what a house answers -/
section XT
variable {G : aw_G} {R : Room} {y : MethodName} {cc : ByteArray} {nL : Nat} {ret : Option FieldType} {Qf : List Frame → Array Value → State → State → Prop} {kc ks : Nat} {h0 h : aw_H} {pc : Nat} {ls : List (Nat × Value)} {st : List Value} {w : xx_Wd} {s : mm_S}
/-- something told -/
theorem xx_stT {g : Nat → Nat} {j v : Nat} (hW : xx_W G w) (hX : XC G w h s) (hs : xx_same w h0 h) (hT : h (w.1 15) = some (aw_I G 6 (fun q => nI (g q)))) (d : decode cc pc = .ok (.iastore, 1)) (hj : j < 6) (kk : ∀ h', XC G w h' s → xx_same w h0 h' → h' (w.1 15) = some (aw_I G 6 (fun q => nI (aw_u g j v q))) → AW G R y cc nL ret Qf kc ks h' (pc + 1) ls st) : AW G R y cc nL ret Qf kc ks h pc ls (.int (nI v) :: .int (nI j) :: .ref (w.1 15) :: st) := by
  refine aw_iast d (hW.1 _ (by decide)) hT (vp_in_nI hj (by decide)) ?_
  rw [aw_upd_nI (n := 6) (nI_clamp (by omega))]
  exact kk _ (hX.told hW) (hs.up (by decide)) (aw_up_s _ _ _)
/-- a cell that was made since -/
theorem xx_same.nw {q : Nat} {e : va_E} (hq : h0 q = none) (hs : xx_same w h0 h) : xx_same w h0 (aw_up h q e) := fun a g1 g2 => (aw_up_n (fun z => g1 (by rw [z]; exact hq))).trans (hs a g1 g2)
theorem XC.ot {q : Nat} {e : va_E} (hq : ∀ c, c < 16 → q ≠ w.1 c) (hX : XC G w h s) : XC G w (aw_up h q e) s := ⟨fun c hc => (aw_up_n (fun z => hq c (by omega) z.symm)).trans (hX.1 c hc), by
  obtain ⟨f, hf⟩ := hX.2
  exact ⟨f, (aw_up_n (fun z => hq 15 (by decide) z.symm)).trans hf⟩⟩
end XT
set_option maxHeartbeats 4000000 in
theorem xg_tell {G : aw_G} {w : xx_Wd} {h0 : aw_H} {s : mm_S} {H : sp_H} {u i a b n k : Nat} (hi : i < 2) (hW : xx_W G w) (hX : XC G w h0 s) (hH : XHs G w h0 H u) : aw_Met G yX1_tell cX1_tell 6 none 1 0 0 [.ref (w.1 16), .ref (w.1 (1 + 4 * i)), .int (nI a), .int (nI b), .int (nI n), .int (nI k)] h0 (fun v9 h9 => v9 = none ∧ XC G w h9 s ∧ xx_same w h0 h9 ∧ h9 (w.1 15) = some (aw_I G 6 (fun j => nI (sp_ask a b n (aw_u (mm_a s (45 + i)) 24 k) j)))) := by
  refine aw_Met.of (by decide +kernel) (Nat.le_of_ble_eq_true rfl) ?_
  have hX0 := hX
  have hs : xx_same w h0 h0 := xx_same.rf
  obtain ⟨tl, te, cap, m9, f9, tn, nm9, c9, mo9, D9, hq⟩ := hH
  obtain ⟨g, hT⟩ := hX.2
  show AW G (aw_rm 1 0 0) yX1_tell cX1_tell 6 none (aw_N G (fun v9 h9 => v9 = none ∧ XC G w h9 s ∧ xx_same w h0 h9 ∧ h9 (w.1 15) = some (aw_I G 6 (fun j => nI (sp_ask a b n (aw_u (mm_a s (45 + i)) 24 k) j)))) 0 0) 0 0 h0 0 [(0, .ref (w.1 16)), (1, .ref (w.1 (1 + 4 * i))), (2, .int (nI a)), (3, .int (nI b)), (4, .int (nI n)), (5, .int (nI k))] []
  refine aw_aload_n dX1_tell_0 rfl ?_
  refine aw_get dX1_tell_1 fX1_22 rfl (hq.mv hs hX0).1 (by rfl) ?_
  refine aw_iconst (v := nI 0) dX1_tell_4 rfl ?_
  refine aw_iload_n dX1_tell_5 rfl ?_
  refine xx_stT hW hX hs hT dX1_tell_6 (by decide) (fun h hX hs hT => ?_)
  refine aw_aload_n dX1_tell_7 rfl ?_
  refine aw_get dX1_tell_8 fX1_22 rfl (hq.mv hs hX0).1 (by rfl) ?_
  refine aw_iconst (v := nI 1) dX1_tell_11 rfl ?_
  refine aw_iload_n dX1_tell_12 rfl ?_
  refine xx_stT hW hX hs hT dX1_tell_13 (by decide) (fun h hX hs hT => ?_)
  refine aw_aload_n dX1_tell_14 rfl ?_
  refine aw_get dX1_tell_15 fX1_22 rfl (hq.mv hs hX0).1 (by rfl) ?_
  refine aw_iconst (v := nI 2) dX1_tell_18 rfl ?_
  refine aw_iload dX1_tell_19 rfl ?_
  refine xx_stT hW hX hs hT dX1_tell_21 (by decide) (fun h hX hs hT => ?_)
  refine aw_aload_n dX1_tell_22 rfl ?_
  refine aw_get dX1_tell_23 fX1_22 rfl (hq.mv hs hX0).1 (by rfl) ?_
  refine aw_iconst (v := nI 3) dX1_tell_26 rfl ?_
  refine aw_aload_n dX1_tell_27 rfl ?_
  refine aw_get dX1_tell_28 fX1_26 rfl (hX.st (i := i) hi) (by rfl) ?_
  try simp only [mm_n_N, mm_n_A, mm_n_V, mm_n_Fp, mm_n_W, mm_n_Nm, mm_a_N, mm_a_A, mm_a_V, mm_a_Fp, mm_a_W, mm_a_Nm, mm_v_N, mm_v_A, mm_v_V, mm_fp_N, mm_fp_A, mm_fp_Fp, mm_w_N, mm_w_W, Nat.reduceEqDiff, reduceIte, if_true, if_false, mm_H_45, mm_H_46, mm_H_47, mm_H_50, mm_H_53, mm_H_54, mm_H_55, mm_H_56, mm_H_57, mm_H_58, mm_H_66, mm_H_67, mm_H_68, eq_self]
  refine xx_stT hW hX hs hT dX1_tell_31 (by decide) (fun h hX hs hT => ?_)
  refine aw_aload_n dX1_tell_32 rfl ?_
  refine aw_get dX1_tell_33 fX1_22 rfl (hq.mv hs hX0).1 (by rfl) ?_
  refine aw_iconst (v := nI 4) dX1_tell_36 rfl ?_
  refine aw_iload dX1_tell_37 rfl ?_
  refine xx_stT hW hX hs hT dX1_tell_39 (by decide) (fun h hX hs hT => ?_)
  refine aw_aload_n dX1_tell_40 rfl ?_
  refine aw_get dX1_tell_41 fX1_22 rfl (hq.mv hs hX0).1 (by rfl) ?_
  refine aw_iconst (v := nI 5) dX1_tell_44 rfl ?_
  refine aw_aload_n dX1_tell_45 rfl ?_
  refine aw_get dX1_tell_46 fX1_31 rfl (hX.st (i := i) hi) (by rfl) ?_
  try simp only [mm_n_N, mm_n_A, mm_n_V, mm_n_Fp, mm_n_W, mm_n_Nm, mm_a_N, mm_a_A, mm_a_V, mm_a_Fp, mm_a_W, mm_a_Nm, mm_v_N, mm_v_A, mm_v_V, mm_fp_N, mm_fp_A, mm_fp_Fp, mm_w_N, mm_w_W, Nat.reduceEqDiff, reduceIte, if_true, if_false, mm_H_45, mm_H_46, mm_H_47, mm_H_50, mm_H_53, mm_H_54, mm_H_55, mm_H_56, mm_H_57, mm_H_58, mm_H_66, mm_H_67, mm_H_68, eq_self]
  refine xx_stT hW hX hs hT dX1_tell_49 (by decide) (fun h hX hs hT => ?_)
  refine aw_ext (f' := fun j => nI (sp_ask a b n (aw_u (mm_a s (45 + i)) 24 k) j)) (hW.1 15 (by decide)) hT (fun j hj => ?_) ?_
  · rcases (show j = 0 ∨ j = 1 ∨ j = 2 ∨ j = 3 ∨ j = 4 ∨ j = 5 by omega) with rfl | rfl | rfl | rfl | rfl | rfl <;> rfl
  refine aw_vreturn dX1_tell_50 rfl ?_
  exact ⟨rfl, hX.told hW, hs.up (by decide), aw_up_s _ _ _⟩
set_option maxHeartbeats 4000000 in
theorem xh_cnt {s : mm_S} {H : sp_H} {u : Nat} {i a b n k : Nat} (hi : i < 2) (ha : a < 100) : xx_Met yX1_counts cX1_counts 6 (some .int) 602 0 0 (fun w => [.ref (w.1 16), .ref (w.1 (1 + 4 * i)), .int (nI (a)), .int (nI (b)), .int (nI (n)), .int (nI (k))]) s H u (some (.int (nI (sp_cnt H (aw_u (mm_a s (45 + i)) 24 k) a b n)))) (s) := by
  refine xx_Met.of (by decide +kernel) (fun _ => Nat.le_of_ble_eq_true rfl) (fun G w h0 hW hX hH => ?_)
  have hX0 := hX
  have hs : xx_same w h0 h0 := xx_same.rf
  obtain ⟨tl, te, cap, m9, f9, tn, nm9, c9, mo9, D9, hq⟩ := hH
  show AW G (aw_rm 602 0 0) yX1_counts cX1_counts 6 (some .int) (aw_N G (xx_Po G w h0 (some (.int (nI (sp_cnt H (aw_u (mm_a s (45 + i)) 24 k) a b n)))) (s)) 0 0) 0 0 h0 0 [(0, .ref (w.1 16)), (1, .ref (w.1 (1 + 4 * i))), (2, .int (nI (a))), (3, .int (nI (b))), (4, .int (nI (n))), (5, .int (nI (k)))] []
  rcases hq.2.2.2.2.2.2.1 with ⟨e, z⟩ | ⟨p, e, nz, z⟩
  · subst e
    refine aw_aload_n dX1_counts_0 rfl ?_
    refine aw_get dX1_counts_1 fX1_34 rfl (hq.mv hs hX0).1 (by rfl) ?_
    refine aw_ifnonnullN dX1_counts_4 ?_
    refine aw_sipush (v := nI 999) dX1_counts_7 rfl ?_
    refine aw_bipush (v := nI 10) dX1_counts_10 rfl ?_
    refine aw_iload_n dX1_counts_12 rfl ?_
    refine aw_imulN dX1_counts_13 ?_
    refine aw_mminN dX1_counts_14 q923 (by omega) (by omega) (Nat.le_of_ble_eq_true rfl) (Nat.le_of_ble_eq_true rfl) (Nat.le_of_ble_eq_true rfl) ?_
    refine aw_ireturn dX1_counts_17 rfl ?_
    refine ⟨?_, hX, hs⟩
    unfold sp_cnt sp_val
    rw [if_pos z, nI_clamp (by omega), Nat.min_comm]
  · subst e
    refine aw_aload_n dX1_counts_0 rfl ?_
    refine aw_get dX1_counts_1 fX1_34 rfl (hq.mv hs hX0).1 (by rfl) ?_
    refine aw_ifnonnull (tgt := 18) dX1_counts_4 (by decide) ?_
    refine aw_aload_n dX1_counts_18 rfl ?_
    refine aw_aload_n dX1_counts_19 rfl ?_
    refine aw_iload_n dX1_counts_20 rfl ?_
    refine aw_iload_n dX1_counts_21 rfl ?_
    refine aw_iload dX1_counts_22 rfl ?_
    refine aw_iload dX1_counts_24 rfl ?_
    refine aw_callV (kc := 0) (ks := 0) dX1_counts_26 sX1_44 rfl (xg_tell (a := a) (b := b) (n := n) (k := k) hi hW hX (hq.mv hs hX0).xh) (hq.mv hs hX0).1 rfl rfl ⟨Nat.le_of_ble_eq_true rfl, Nat.le_of_ble_eq_true rfl⟩ (by exact Nat.le_of_ble_eq_true rfl) (fun v9 h9 q9 => ?_)
    obtain ⟨rfl, hX, hs1, hT⟩ := q9
    have hs := hs.tr hs1
    refine aw_aload_n dX1_counts_29 rfl ?_
    refine aw_get dX1_counts_30 fX1_34 rfl (hq.mv hs hX0).1 (by rfl) ?_
    refine aw_aload_n dX1_counts_33 rfl ?_
    refine aw_get dX1_counts_34 fX1_22 rfl (hq.mv hs hX0).1 (by rfl) ?_
    obtain ⟨r, hr, hC⟩ := xp_ev (T := w.1 15) 300 p _ _ (xp_is.mv (fun q ci fs hc hq => hs.ob hX0 hq (by omega) (by omega) (by omega)) _ _ _ z) hT
    refine xp_call dX1_counts_37 sX1_48_X9 sX1_48_X10 sX1_48_X11 sX1_48_X12 rfl hC ⟨Nat.le_of_ble_eq_true rfl, Nat.le_of_ble_eq_true rfl⟩ (by exact Nat.le_of_ble_eq_true rfl) ?_
    refine aw_sipush (v := nI 999) dX1_counts_40 rfl ?_
    refine aw_callPN (r := _) dX1_counts_43 sX1_54 rfl (xp_within (by decide)) rfl rfl ⟨Nat.le_of_ble_eq_true rfl, Nat.le_of_ble_eq_true rfl⟩ (Nat.le_of_ble_eq_true rfl) ?_
    refine aw_ireturn dX1_counts_46 rfl ?_
    refine ⟨?_, hX, hs⟩
    unfold sp_cnt sp_val
    rw [if_neg nz, hr]
    rfl

