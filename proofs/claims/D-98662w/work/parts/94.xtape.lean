set_option maxRecDepth 100000
/-! the component: text -/
theorem sp_by8 (x : Int32) : (nI (x.toBitVec.toNat % 256)).toInt8 = x.toInt8 := by
  apply Int8.toBitVec_inj.mp
  show (nI (x.toBitVec.toNat % 256)).toBitVec.signExtend 8 = x.toBitVec.signExtend 8
  rw [BitVec.signExtend_eq_setWidth_of_le _ (by decide), BitVec.signExtend_eq_setWidth_of_le _ (by decide)]
  apply BitVec.eq_of_toNat_eq
  rw [BitVec.toNat_setWidth, BitVec.toNat_setWidth]
  show (BitVec.ofNat 32 (x.toBitVec.toNat % 256)).toNat % _ = _
  rw [BitVec.toNat_ofNat]
  omega
theorem sp_by8n (x : Int32) : vp_nar .byte x.toInt8.toInt32 = (nI (x.toBitVec.toNat % 256)).toInt8.toInt32 := by
  rw [sp_by8]
  show x.toInt8.toInt32.toInt8.toInt32 = _
  rw [Int8.toInt8_toInt32]
/-- what the cells are made of -/
def xx_kn (k : Nat) : Bool := [1, 2, 52, 65, 70, 71, 72, 73].contains k
def xx_ka (k : Nat) : Bool := [45, 46, 72, 73, 74, 75].contains k
theorem xx_cells_c {G : aw_G} {w : xx_Wd} {s s' : mm_S} (n : ∀ k, xx_kn k = true → mm_n s' k = mm_n s k) (v51 : mm_v s' 51 = mm_v s 51) (f : mm_fp s' = mm_fp s) (a : ∀ k, xx_ka k = true → mm_a s' k = mm_a s k) : ∀ dd, dd < 16 → dd ≠ 9 → xx_cell G w s' dd = xx_cell G w s dd := by
  have a45 := a 45 rfl
  have a46 := a 46 rfl
  have a72 := a 72 rfl
  have a73 := a 73 rfl
  have a74 := a 74 rfl
  have a75 := a 75 rfl
  refine xx_16 (fun _ => ?_) (fun _ => ?_) (fun _ => ?_) (fun _ => ?_) (fun _ => ?_) (fun _ => ?_) (fun _ => ?_) (fun _ => ?_) (fun _ => ?_) (fun hn => absurd rfl hn) (fun _ => ?_) (fun _ => ?_) (fun _ => ?_) (fun _ => ?_) (fun _ => ?_) (fun _ => ?_)
  · show aw_o 0 (xx_F0 w s') = aw_o 0 (xx_F0 w s)
    unfold xx_F0
    rw [n 1 rfl, n 65 rfl, n 2 rfl, n 52 rfl, n 70 rfl, n 71 rfl, f]
  · show xx_st w.1 1 (mm_a s' 45) = xx_st w.1 1 (mm_a s 45)
    rw [a45]
  · show xx_a8 G (fun j => mm_a s' 45 (8 * 0 + j)) = xx_a8 G (fun j => mm_a s 45 (8 * 0 + j))
    rw [a45]
  · show xx_a8 G (fun j => mm_a s' 45 (8 * 1 + j)) = xx_a8 G (fun j => mm_a s 45 (8 * 1 + j))
    rw [a45]
  · show xx_a8 G (fun j => mm_a s' 45 (8 * 2 + j)) = xx_a8 G (fun j => mm_a s 45 (8 * 2 + j))
    rw [a45]
  · show xx_st w.1 5 (mm_a s' 46) = xx_st w.1 5 (mm_a s 46)
    rw [a46]
  · show xx_a8 G (fun j => mm_a s' 46 (8 * 0 + j)) = xx_a8 G (fun j => mm_a s 46 (8 * 0 + j))
    rw [a46]
  · show xx_a8 G (fun j => mm_a s' 46 (8 * 1 + j)) = xx_a8 G (fun j => mm_a s 46 (8 * 1 + j))
    rw [a46]
  · show xx_a8 G (fun j => mm_a s' 46 (8 * 2 + j)) = xx_a8 G (fun j => mm_a s 46 (8 * 2 + j))
    rw [a46]
  · show aw_o 3 (xx_F10 w s') = aw_o 3 (xx_F10 w s)
    unfold xx_F10
    rw [n 72 rfl, n 73 rfl]
  · show aw_I G 8 (fun j => mm_v s' 51 j) = aw_I G 8 (fun j => mm_v s 51 j)
    rw [v51]
  · show aw_I G 8 (fun j => nI (mm_a s' 72 j)) = aw_I G 8 (fun j => nI (mm_a s 72 j))
    rw [a72]
  · show aw_I G 2304 (fun j => nI (mm_a s' 73 j)) = aw_I G 2304 (fun j => nI (mm_a s 73 j))
    rw [a73]
  · show aw_I G 41 (fun j => nI (mm_a s' 74 j)) = aw_I G 41 (fun j => nI (mm_a s 74 j))
    rw [a74]
  · show aw_I G 6 (fun j => nI (mm_a s' 75 j)) = aw_I G 6 (fun j => nI (mm_a s 75 j))
    rw [a75]
theorem xx_cells_all {G : aw_G} {w : xx_Wd} {s s' : mm_S} (n : ∀ k, xx_kn k = true → mm_n s' k = mm_n s k) (v51 : mm_v s' 51 = mm_v s 51) (f : mm_fp s' = mm_fp s) (a : ∀ k, xx_ka k = true → mm_a s' k = mm_a s k) (a0 : mm_a s' 0 = mm_a s 0) : ∀ dd, dd < 16 → xx_cell G w s' dd = xx_cell G w s dd := by
  intro dd hd
  by_cases z : dd = 9
  · rw [z]
    show aw_B G 1600 (fun j => (nI (mm_a s' 0 j)).toInt8.toInt32) = aw_B G 1600 (fun j => (nI (mm_a s 0 j)).toInt8.toInt32)
    rw [a0]
  · exact xx_cells_c n v51 f a dd hd z
section XTP
variable {G : aw_G} {R : Room} {y : MethodName} {cc : ByteArray} {nL : Nat} {ret : Option FieldType} {Qf : List Frame → Array Value → State → State → Prop} {kc ks : Nat} {h0 h : aw_H} {pc : Nat} {ls : List (Nat × Value)} {st : List Value} {w : xx_Wd} {s : mm_S}
/-- a byte of the tape -/
theorem xx_stB {j b : Nat} {x : Int32} (hW : xx_W G w) (hX : XC G w h s) (hs : xx_same w h0 h) (d : decode cc pc = .ok (.bastore, 1)) (hj : j < 1600) (hx : vp_nar .byte x = (nI b).toInt8.toInt32) (kk : ∀ h', XC G w h' (mm_setA s 0 (aw_u (mm_a s 0) j b)) → xx_same w h0 h' → AW G R y cc nL ret Qf kc ks h' (pc + 1) ls st) : AW G R y cc nL ret Qf kc ks h pc ls (.int x :: .int (nI j) :: .ref (w.1 9) :: st) := by
  have e2 : ∀ dd, dd < 16 → dd ≠ 9 → xx_cell G w (mm_setA s 0 (aw_u (mm_a s 0) j b)) dd = xx_cell G w s dd := by
    have k : ∀ k, k ≠ 0 → mm_a (mm_setA s 0 (aw_u (mm_a s 0) j b)) k = mm_a s k := fun k hk => by rw [mm_a_A, if_neg hk]
    have n : ∀ k, mm_n (mm_setA s 0 (aw_u (mm_a s 0) j b)) k = mm_n s k := fun k => mm_n_A _ _ _ _
    have v : ∀ k, mm_v (mm_setA s 0 (aw_u (mm_a s 0) j b)) k = mm_v s k := fun k => mm_v_A _ _ _ _
    have f : mm_fp (mm_setA s 0 (aw_u (mm_a s 0) j b)) = mm_fp s := mm_fp_A _ _ _
    generalize mm_setA s 0 (aw_u (mm_a s 0) j b) = s' at k n v f
    exact xx_cells_c (fun k _ => n k) (v 51) f (fun z h => k z (fun e => by subst e; cases h))
  obtain ⟨n, hn⟩ : ∃ n, n = 1600 := ⟨_, rfl⟩
  have hn2 : n < 2147483648 := by omega
  rw [← hn] at hj
  have he : h (w.1 9) = some (aw_B G n (fun j => (nI (mm_a s 0 j)).toInt8.toInt32)) := by
    rw [hn]
    exact hX.1 9 (by decide)
  have ea : mm_a (mm_setA s 0 (aw_u (mm_a s 0) j b)) 0 = aw_u (mm_a s 0) j b := by rw [mm_a_A, if_pos rfl]
  have e3 : xx_cell G w (mm_setA s 0 (aw_u (mm_a s 0) j b)) 9 = aw_B G n (fun q => (nI (aw_u (mm_a s 0) j b q)).toInt8.toInt32) := by
    rw [hn]
    show aw_B G 1600 (fun q => (nI (mm_a (mm_setA s 0 (aw_u (mm_a s 0) j b)) 0 q)).toInt8.toInt32) = _
    rw [ea]
  refine aw_bast d (hW.1 _ (by decide)) he (vp_in_nI hj hn2) ?_
  have e : upd (fun j => (nI (mm_a s 0 j)).toInt8.toInt32) (nI j).toNatClampNeg (vp_nar .byte x) = fun q => (nI (aw_u (mm_a s 0) j b q)).toInt8.toInt32 := by
    rw [nI_clamp (Nat.lt_trans hj hn2), hx]
    funext q
    unfold upd aw_u
    split <;> rfl
  rw [e]
  have k2 := kk (aw_up h (w.1 9) (xx_cell G w (mm_setA s 0 (aw_u (mm_a s 0) j b)) 9)) (hX.up hW (by decide) e2) (hs.up (by decide))
  rw [e3] at k2
  exact k2
end XTP
set_option maxHeartbeats 4000000 in
theorem xo_bytes {s : mm_S} {H : sp_H} {u : Nat} {v : Int32} (ht : mm_n s 1 + 4 ≤ 1600) : xx_Met yX0_bytes cX0_bytes 3 none 0 0 0 (fun w => [.ref (w.1 0), .int (v)]) s H u none (mm_four s v) := by
  refine xx_Met.of (by decide +kernel) (fun _ => Nat.le_of_ble_eq_true rfl) (fun G w h0 hW hX hH => ?_)
  have hX0 := hX
  have hs : xx_same w h0 h0 := xx_same.rf
  obtain ⟨tl, te, cap, m9, f9, tn, nm9, c9, mo9, D9, hq⟩ := hH
  show AW G (aw_rm 0 0 0) yX0_bytes cX0_bytes 3 none (aw_N G (xx_Po G w h0 none (mm_four s v)) 0 0) 0 0 h0 0 [(0, .ref (w.1 0)), (1, .int (v))] []
  have step : ∀ (k : Nat) (s2 : mm_S) (h : aw_H) (q : Int32), mm_n s2 1 < 1600 → XC G w h s2 → xx_same w h0 h → nI k + (-8) = q → k < 32 → (∀ h, XC G w h (mm_f1 s2 v k) → xx_same w h0 h → AW G (aw_rm 0 0 0) yX0_bytes cX0_bytes 3 none (aw_N G (xx_Po G w h0 none (mm_four s v)) 0 0) 0 0 h 3 [(0, .ref (w.1 0)), (1, .int v), (2, .int q)] []) → AW G (aw_rm 0 0 0) yX0_bytes cX0_bytes 3 none (aw_N G (xx_Po G w h0 none (mm_four s v)) 0 0) 0 0 h 3 [(0, .ref (w.1 0)), (1, .int v), (2, .int (nI k))] [] := by
    intro k s2 h q hl hX hs hq hk32 hgo
    subst hq
    refine aw_iload_n dX0_bytes_3 rfl ?_
    refine aw_if_ltN (tgt := 36) dX0_bytes_4 (by decide) (by omega) ?_
    refine aw_aload_n dX0_bytes_7 rfl ?_
    refine aw_get dX0_bytes_8 fX0_35 rfl (hX.1 0 (by decide)) (by rfl) ?_
    refine aw_aload_n dX0_bytes_11 rfl ?_
    refine aw_get dX0_bytes_12 fX0_159 rfl (hX.1 0 (by decide)) (by rfl) ?_
    refine aw_iload_n dX0_bytes_15 rfl ?_
    refine aw_iload_n dX0_bytes_16 rfl ?_
    refine aw_ishr dX0_bytes_17 ?_
    refine aw_i2b dX0_bytes_18 rfl ?_
    refine xx_stB hW hX hs dX0_bytes_19 (by omega) (sp_by8n (v >>> (nI k &&& 31))) (fun h hX hs => ?_)
    refine aw_aload_n dX0_bytes_20 rfl ?_
    refine aw_dup dX0_bytes_21 rfl ?_
    refine aw_get dX0_bytes_22 fX0_159 rfl (hX.1 0 (by decide)) (by rfl) ?_
    try simp only [mm_n_N, mm_n_A, mm_n_V, mm_n_Fp, mm_n_W, mm_n_Nm, mm_a_N, mm_a_A, mm_a_V, mm_a_Fp, mm_a_W, mm_a_Nm, mm_v_N, mm_v_A, mm_v_V, mm_fp_N, mm_fp_A, mm_fp_Fp, mm_w_N, mm_w_W, Nat.reduceEqDiff, reduceIte, if_true, if_false, mm_H_45, mm_H_46, mm_H_47, mm_H_50, mm_H_53, mm_H_54, mm_H_55, mm_H_56, mm_H_57, mm_H_58, mm_H_66, mm_H_67, mm_H_68, eq_self]
    refine aw_iconst (v := nI 1) dX0_bytes_25 rfl ?_
    refine aw_iaddN dX0_bytes_26 ?_
    refine xx_put0 (k := 1) hW hX hs dX0_bytes_27 (pX0_159 _) rfl rfl (by decide) (by decide) (by decide) rfl (fun h hX hs => ?_)
    refine aw_iinc (v := -8) dX0_bytes_30 rfl rfl (by decide) rfl rfl ?_
    refine aw_goto (tgt := 3) dX0_bytes_33 (by decide) ?_
    exact hgo h hX hs
  have fin : ∀ (h : aw_H), XC G w h (mm_four s v) → xx_same w h0 h → AW G (aw_rm 0 0 0) yX0_bytes cX0_bytes 3 none (aw_N G (xx_Po G w h0 none (mm_four s v)) 0 0) 0 0 h 3 [(0, .ref (w.1 0)), (1, .int v), (2, .int (-8))] [] := by
    intro h hX hs
    refine aw_iload_n dX0_bytes_3 rfl ?_
    refine aw_if_lt (tgt := 36) dX0_bytes_4 (by decide) (fun c_4 => ?_) (fun c_4 => by exfalso; exact absurd (show (-8 : Int32) < 0 by decide) c_4)
    refine aw_vreturn dX0_bytes_36 rfl ?_
    exact ⟨rfl, hX, hs⟩
  refine aw_bipush (v := nI 24) dX0_bytes_0 rfl ?_
  refine aw_istore_n dX0_bytes_2 (by decide) rfl rfl ?_
  refine step 24 s h0 (nI 16) (by omega) hX hs (by decide) (by decide) (fun h hX hs => ?_)
  refine step 16 _ h (nI 8) (by show mm_n s 1 + 1 < 1600; omega) hX hs (by decide) (by decide) (fun h hX hs => ?_)
  refine step 8 _ h (nI 0) (by show mm_n s 1 + 1 + 1 < 1600; omega) hX hs (by decide) (by decide) (fun h hX hs => ?_)
  exact step 0 _ h (-8) (by show mm_n s 1 + 1 + 1 + 1 < 1600; omega) hX hs (by decide) (by decide) (fun h hX hs => fin h hX hs)
set_option maxHeartbeats 4000000 in
theorem xo_feed {s : mm_S} {H : sp_H} {u : Nat} {a b c d e : Int32} (ht : mm_n s 1 ≤ 1600) : xx_Op yX0_feed cX0_feed 6 (some .int) 1 0 0 (fun w => [.ref (w.1 0), .int (a), .int (b), .int (c), .int (d), .int (e)]) s H u (some (.int (op_feed s))) (op_feedS s a b c d e) := by
  refine xx_Op.of (by decide +kernel) (fun _ => Nat.le_of_ble_eq_true rfl) (fun G w h0 hW hX hH => ?_)
  have hX0 := hX
  have hs : xx_same w h0 h0 := xx_same.rf
  obtain ⟨tl, te, cap, m9, f9, tn, nm9, c9, mo9, D9, hq⟩ := hH
  show AW G (aw_rm 1 0 0) yX0_feed cX0_feed 6 (some .int) (aw_N G (xx_PoC G w h0 (some (.int (op_feed s))) (op_feedS s a b c d e)) 0 0) 0 0 h0 0 [(0, .ref (w.1 0)), (1, .int (a)), (2, .int (b)), (3, .int (c)), (4, .int (d)), (5, .int (e))] []
  have f1 : ∀ (s : mm_S) (v : Int32), mm_n (mm_four s v) 1 = mm_n s 1 + 4 := fun s v => rfl
  refine aw_aload_n dX0_feed_0 rfl ?_
  refine aw_get dX0_feed_1 fX0_159 rfl (hX.1 0 (by decide)) (by rfl) ?_
  refine aw_bipush (v := nI 20) dX0_feed_4 rfl ?_
  refine aw_iaddN dX0_feed_6 ?_
  refine aw_sipush (v := nI 1600) dX0_feed_7 rfl ?_
  have z : mm_n s 1 ≤ 1600 := ht
  refine aw_icmp_leN (tgt := 15) dX0_feed_10 (by decide) (by omega) (by omega) (fun c_10 => ?_) (fun c_10 => ?_)
  · refine aw_aload_n dX0_feed_15 rfl ?_
    refine aw_iload_n dX0_feed_16 rfl ?_
    refine xx_call0 dX0_feed_17 sX0_162 rfl hW hX (hq.mv hs hX0).xh hs (xo_bytes (by omega)) rfl (hX.1 0 (by decide)) rfl rfl ⟨Nat.le_of_ble_eq_true rfl, Nat.le_of_ble_eq_true rfl⟩ (by exact Nat.le_of_ble_eq_true rfl) (fun h hX hs => ?_)
    refine aw_aload_n dX0_feed_20 rfl ?_
    refine aw_iload_n dX0_feed_21 rfl ?_
    refine xx_call0 dX0_feed_22 sX0_162 rfl hW hX (hq.mv hs hX0).xh hs (xo_bytes (by rw [f1]; omega)) rfl (hX.1 0 (by decide)) rfl rfl ⟨Nat.le_of_ble_eq_true rfl, Nat.le_of_ble_eq_true rfl⟩ (by exact Nat.le_of_ble_eq_true rfl) (fun h hX hs => ?_)
    refine aw_aload_n dX0_feed_25 rfl ?_
    refine aw_iload_n dX0_feed_26 rfl ?_
    refine xx_call0 dX0_feed_27 sX0_162 rfl hW hX (hq.mv hs hX0).xh hs (xo_bytes (by rw [f1, f1]; omega)) rfl (hX.1 0 (by decide)) rfl rfl ⟨Nat.le_of_ble_eq_true rfl, Nat.le_of_ble_eq_true rfl⟩ (by exact Nat.le_of_ble_eq_true rfl) (fun h hX hs => ?_)
    refine aw_aload_n dX0_feed_30 rfl ?_
    refine aw_iload dX0_feed_31 rfl ?_
    refine xx_call0 dX0_feed_33 sX0_162 rfl hW hX (hq.mv hs hX0).xh hs (xo_bytes (by rw [f1, f1, f1]; omega)) rfl (hX.1 0 (by decide)) rfl rfl ⟨Nat.le_of_ble_eq_true rfl, Nat.le_of_ble_eq_true rfl⟩ (by exact Nat.le_of_ble_eq_true rfl) (fun h hX hs => ?_)
    refine aw_aload_n dX0_feed_36 rfl ?_
    refine aw_iload dX0_feed_37 rfl ?_
    refine xx_call0 dX0_feed_39 sX0_162 rfl hW hX (hq.mv hs hX0).xh hs (xo_bytes (by rw [f1, f1, f1, f1]; omega)) rfl (hX.1 0 (by decide)) rfl rfl ⟨Nat.le_of_ble_eq_true rfl, Nat.le_of_ble_eq_true rfl⟩ (by exact Nat.le_of_ble_eq_true rfl) (fun h hX hs => ?_)
    refine aw_aload_n dX0_feed_42 rfl ?_
    refine aw_get dX0_feed_43 fX0_159 rfl (hX.1 0 (by decide)) (by rfl) ?_
    try simp only [mm_n_N, mm_n_A, mm_n_V, mm_n_Fp, mm_n_W, mm_n_Nm, mm_a_N, mm_a_A, mm_a_V, mm_a_Fp, mm_a_W, mm_a_Nm, mm_v_N, mm_v_A, mm_v_V, mm_fp_N, mm_fp_A, mm_fp_Fp, mm_w_N, mm_w_W, Nat.reduceEqDiff, reduceIte, if_true, if_false, mm_H_45, mm_H_46, mm_H_47, mm_H_50, mm_H_53, mm_H_54, mm_H_55, mm_H_56, mm_H_57, mm_H_58, mm_H_66, mm_H_67, mm_H_68, eq_self]
    refine aw_ireturn dX0_feed_46 rfl ?_
    refine ⟨?_, _, ?_, hX, hs⟩
    · rw [op_feed, if_neg (by omega)]
      rfl
    · rw [op_feedS, if_neg (by omega)]
      exact mm_core.rf
  · refine aw_iconst (v := -1) dX0_feed_13 rfl ?_
    refine aw_ireturn dX0_feed_14 rfl ?_
    exact ⟨by rw [op_feed, if_pos (by omega)], _, by rw [op_feedS, if_pos (by omega)]; exact mm_core.rf, hX, hs⟩

