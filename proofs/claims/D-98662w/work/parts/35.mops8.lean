set_option maxRecDepth 100000
/-! the model: calls, the seventh lot: text, boxes, marks -/
section IINC
variable {G : aw_G} {R : Room} {y : MethodName} {cc : ByteArray} {nL : Nat} {ret : Option FieldType} {Qf : List Frame → Array Value → State → State → Prop} {kc ks : Nat} {h : aw_H} {pc : Nat} {ls : List (Nat × Value)} {st : List Value}
theorem aw_iincD {i a b : Nat} {n : Int} (d : decode cc pc = .ok (.iinc i n, 3)) (hx : aw_lk ls i = some (.int (nI a))) (hv : Int32.ofInt n = -nI b) (hb : b ≤ a) (hn : i < nL) (hp : aw_pw ls = true) (hz : aw_no2 ls i = true) (k : AW G R y cc nL ret Qf kc ks h (pc + 3) (aw_st ls i (.int (nI (a - b)))) st) : AW G R y cc nL ret Qf kc ks h pc ls st := aw_iinc d hx hv hn hp hz (by rw [← Int32.sub_eq_add_neg, pk_sub hb]; exact k)
end IINC
/-- a byte of a number -/
def sp_by (v : Int32) (k : Nat) : Nat := (v >>> (nI k &&& 31)).toBitVec.toNat % 256
theorem sp_by_lt (v : Int32) (k : Nat) : sp_by v k < 256 := Nat.mod_lt _ (by decide)
theorem sp_by_and (v : Int32) (k : Nat) : (v >>> (nI k &&& 31)) &&& nI 255 = nI (sp_by v k) := pk_and _ 8 (by decide)
def mm_f1 (s : mm_S) (v : Int32) (k : Nat) : mm_S := mm_setN (mm_setA s 0 (aw_u (mm_a s 0) (mm_n s 1) (sp_by v k))) 1 (mm_n s 1 + 1)
def mm_four (s : mm_S) (v : Int32) : mm_S := mm_f1 (mm_f1 (mm_f1 (mm_f1 s v 24) v 16) v 8) v 0
set_option maxHeartbeats 4000000 in
theorem mm_four_c {s : mm_S} {v : Int32} (ht : mm_n s 1 + 4 ≤ 1600) : mm_Met yX5_four cX5_four 3 none 0 [.int (v)] s none (mm_four s v) := by
  refine mm_Met.of (by decide +kernel) (fun _ => Nat.le_of_ble_eq_true rfl) (fun G w h0 hW hR => ?_)
  have hs : mm_same w h0 h0 := mm_same.rf
  show AW G (aw_rm 0 0 0) yX5_four cX5_four 3 none (aw_N G (mm_Po G w h0 none (mm_four s v)) 0 0) 0 0 h0 0 [(0, .ref w.1), (1, .int (v))] []
  have step : ∀ (k : Nat) (s2 : mm_S) (h : aw_H) (q : Int32), mm_n s2 1 < 1600 → mm_R G w h s2 → mm_same w h0 h → nI k + (-8) = q → k < 32 → (∀ h, mm_R G w h (mm_f1 s2 v k) → mm_same w h0 h → AW G (aw_rm 0 0 0) yX5_four cX5_four 3 none (aw_N G (mm_Po G w h0 none (mm_four s v)) 0 0) 0 0 h 3 [(0, .ref w.1), (1, .int v), (2, .int q)] []) → AW G (aw_rm 0 0 0) yX5_four cX5_four 3 none (aw_N G (mm_Po G w h0 none (mm_four s v)) 0 0) 0 0 h 3 [(0, .ref w.1), (1, .int v), (2, .int (nI k))] [] := by
    intro k s2 h q hl hR hs hq hk32 hgo
    subst hq
    refine aw_iload_n dX5_four_3 rfl ?_
    refine aw_if_ltN (tgt := 39) dX5_four_4 (by decide) (by omega) ?_
    refine aw_aload_n dX5_four_7 rfl ?_
    refine aw_get dX5_four_8 fX5_7 rfl hR.1 (by rfl) ?_
    refine aw_aload_n dX5_four_11 rfl ?_
    refine aw_get dX5_four_12 fX5_142 rfl hR.1 (by rfl) ?_
    refine aw_iload_n dX5_four_15 rfl ?_
    refine aw_iload_n dX5_four_16 rfl ?_
    refine aw_ishr dX5_four_17 ?_
    refine aw_sipush (v := nI 255) dX5_four_18 rfl ?_
    refine aw_iand dX5_four_21 ?_
    refine aw_topi (sp_by_and v k) ?_
    refine mm_iast (k := 0) rfl hW hR hs dX5_four_22 (by omega) (by decide) (fun h hR hs => ?_)
    refine aw_aload_n dX5_four_23 rfl ?_
    refine aw_dup dX5_four_24 rfl ?_
    refine aw_get dX5_four_25 fX5_142 rfl hR.1 (by rfl) ?_
    try simp only [mm_n_N, mm_n_A, mm_n_V, mm_n_Fp, mm_n_W, mm_n_Nm, mm_a_N, mm_a_A, mm_a_V, mm_a_Fp, mm_a_W, mm_a_Nm, mm_v_N, mm_v_A, mm_v_V, mm_fp_N, mm_fp_A, mm_fp_Fp, mm_w_N, mm_w_W, Nat.reduceEqDiff, reduceIte, if_true, if_false, mm_H_45, mm_H_46, mm_H_47, mm_H_50, mm_H_53, mm_H_54, mm_H_55, mm_H_56, mm_H_57, mm_H_58, mm_H_66, mm_H_67, mm_H_68]
    refine aw_iconst (v := nI 1) dX5_four_28 rfl ?_
    refine aw_iaddN dX5_four_29 ?_
    refine mm_putN (k := 1) hW hR hs dX5_four_30 (pX5_142 _) rfl rfl (mm_F_set1 _ _ _) (by decide) (fun h hR hs => ?_)
    refine aw_iinc (v := -8) dX5_four_33 rfl rfl (by decide) rfl rfl ?_
    refine aw_goto (tgt := 3) dX5_four_36 (by decide) ?_
    exact hgo h hR hs
  have fin : ∀ (h : aw_H), mm_R G w h (mm_four s v) → mm_same w h0 h → AW G (aw_rm 0 0 0) yX5_four cX5_four 3 none (aw_N G (mm_Po G w h0 none (mm_four s v)) 0 0) 0 0 h 3 [(0, .ref w.1), (1, .int v), (2, .int (-8))] [] := by
    intro h hR hs
    refine aw_iload_n dX5_four_3 rfl ?_
    refine aw_if_lt (tgt := 39) dX5_four_4 (by decide) (fun c_4 => ?_) (fun c_4 => by exfalso; exact absurd (show (-8 : Int32) < 0 by decide) c_4)
    refine aw_vreturn dX5_four_39 rfl ?_
    exact ⟨rfl, hR, hs⟩
  refine aw_bipush (v := nI 24) dX5_four_0 rfl ?_
  refine aw_istore_n dX5_four_2 (by decide) rfl rfl ?_
  refine step 24 s h0 (nI 16) (by omega) hR hs (by decide) (by decide) (fun h hR hs => ?_)
  refine step 16 _ h (nI 8) (by show mm_n s 1 + 1 < 1600; omega) hR hs (by decide) (by decide) (fun h hR hs => ?_)
  refine step 8 _ h (nI 0) (by show mm_n s 1 + 1 + 1 < 1600; omega) hR hs (by decide) (by decide) (fun h hR hs => ?_)
  exact step 0 _ h (-8) (by show mm_n s 1 + 1 + 1 + 1 < 1600; omega) hR hs (by decide) (by decide) (fun h hR hs => fin h hR hs)
def op_feed (s : mm_S) : Int32 := if 1600 < mm_n s 1 + 20 then -1 else nI (mm_n s 1 + 20)
def op_feedS (s : mm_S) (a b c d e : Int32) : mm_S := if 1600 < mm_n s 1 + 20 then s else mm_four (mm_four (mm_four (mm_four (mm_four s a) b) c) d) e
set_option maxHeartbeats 4000000 in
theorem mo_feed {s : mm_S} {a b c d e : Int32} (ht : mm_n s 1 ≤ 1600) : mm_Op yX5_feed cX5_feed 6 (some .int) 1 [.int (a), .int (b), .int (c), .int (d), .int (e)] s (some (.int (op_feed s))) (op_feedS s a b c d e) := by
  refine mm_Op.of (by decide +kernel) (fun _ => Nat.le_of_ble_eq_true rfl) (fun G w h0 hW hR => ?_)
  have hs : mm_same w h0 h0 := mm_same.rf
  show AW G (aw_rm 1 0 0) yX5_feed cX5_feed 6 (some .int) (aw_N G (mm_PoC G w h0 (some (.int (op_feed s))) (op_feedS s a b c d e)) 0 0) 0 0 h0 0 [(0, .ref w.1), (1, .int (a)), (2, .int (b)), (3, .int (c)), (4, .int (d)), (5, .int (e))] []
  have f1 : ∀ (s : mm_S) (v : Int32), mm_n (mm_four s v) 1 = mm_n s 1 + 4 := fun s v => rfl
  refine aw_aload_n dX5_feed_0 rfl ?_
  refine aw_get dX5_feed_1 fX5_142 rfl hR.1 (by rfl) ?_
  refine aw_bipush (v := nI 20) dX5_feed_4 rfl ?_
  refine aw_iaddN dX5_feed_6 ?_
  refine aw_sipush (v := nI 1600) dX5_feed_7 rfl ?_
  have z : mm_n s 1 ≤ 1600 := ht
  refine aw_icmp_leN (tgt := 15) dX5_feed_10 (by decide) (by omega) (by omega) (fun c_10 => ?_) (fun c_10 => ?_)
  · refine aw_aload_n dX5_feed_15 rfl ?_
    refine aw_iload_n dX5_feed_16 rfl ?_
    refine mm_call dX5_feed_17 sX5_145 rfl hW hR hs (mm_four_c (by omega)) rfl rfl ⟨Nat.le_of_ble_eq_true rfl, Nat.le_of_ble_eq_true rfl⟩ (Nat.le_of_ble_eq_true rfl) (fun h hR hs => ?_)
    refine aw_aload_n dX5_feed_20 rfl ?_
    refine aw_iload_n dX5_feed_21 rfl ?_
    refine mm_call dX5_feed_22 sX5_145 rfl hW hR hs (mm_four_c (by rw [f1]; omega)) rfl rfl ⟨Nat.le_of_ble_eq_true rfl, Nat.le_of_ble_eq_true rfl⟩ (Nat.le_of_ble_eq_true rfl) (fun h hR hs => ?_)
    refine aw_aload_n dX5_feed_25 rfl ?_
    refine aw_iload_n dX5_feed_26 rfl ?_
    refine mm_call dX5_feed_27 sX5_145 rfl hW hR hs (mm_four_c (by rw [f1, f1]; omega)) rfl rfl ⟨Nat.le_of_ble_eq_true rfl, Nat.le_of_ble_eq_true rfl⟩ (Nat.le_of_ble_eq_true rfl) (fun h hR hs => ?_)
    refine aw_aload_n dX5_feed_30 rfl ?_
    refine aw_iload dX5_feed_31 rfl ?_
    refine mm_call dX5_feed_33 sX5_145 rfl hW hR hs (mm_four_c (by rw [f1, f1, f1]; omega)) rfl rfl ⟨Nat.le_of_ble_eq_true rfl, Nat.le_of_ble_eq_true rfl⟩ (Nat.le_of_ble_eq_true rfl) (fun h hR hs => ?_)
    refine aw_aload_n dX5_feed_36 rfl ?_
    refine aw_iload dX5_feed_37 rfl ?_
    refine mm_call dX5_feed_39 sX5_145 rfl hW hR hs (mm_four_c (by rw [f1, f1, f1, f1]; omega)) rfl rfl ⟨Nat.le_of_ble_eq_true rfl, Nat.le_of_ble_eq_true rfl⟩ (Nat.le_of_ble_eq_true rfl) (fun h hR hs => ?_)
    refine aw_aload_n dX5_feed_42 rfl ?_
    refine aw_get dX5_feed_43 fX5_142 rfl hR.1 (by rfl) ?_
    try simp only [mm_n_N, mm_n_A, mm_n_V, mm_n_Fp, mm_n_W, mm_n_Nm, mm_a_N, mm_a_A, mm_a_V, mm_a_Fp, mm_a_W, mm_a_Nm, mm_v_N, mm_v_A, mm_v_V, mm_fp_N, mm_fp_A, mm_fp_Fp, mm_w_N, mm_w_W, Nat.reduceEqDiff, reduceIte, if_true, if_false, mm_H_45, mm_H_46, mm_H_47, mm_H_50, mm_H_53, mm_H_54, mm_H_55, mm_H_56, mm_H_57, mm_H_58, mm_H_66, mm_H_67, mm_H_68]
    refine aw_ireturn dX5_feed_46 rfl ?_
    refine ⟨?_, _, ?_, hR, hs⟩
    · rw [op_feed, if_neg (by omega)]
      rfl
    · rw [op_feedS, if_neg (by omega)]
      exact mm_core.rf
  · refine aw_iconst (v := -1) dX5_feed_13 rfl ?_
    refine aw_ireturn dX5_feed_14 rfl ?_
    exact ⟨by rw [op_feed, if_pos (by omega)], _, by rw [op_feedS, if_pos (by omega)]; exact mm_core.rf, hR, hs⟩
noncomputable def op_end (s : mm_S) (n : Int32) : Int32 := aw_if (0 ≤ n.toInt ∧ n.toInt ≤ (mm_n s 1 : Int)) n (-1)
noncomputable def op_endS (s : mm_S) (n : Int32) : mm_S := aw_if (0 ≤ n.toInt ∧ n.toInt ≤ (mm_n s 1 : Int)) (mm_setN s 1 n.toNatClampNeg) s
theorem aw_i0 (x : Int32) : x < 0 ↔ x.toInt < 0 := Int32.lt_iff_toInt_lt
set_option maxHeartbeats 4000000 in
theorem mo_end {s : mm_S} {n : Int32} (ht : mm_n s 1 ≤ 1600) : mm_Op yX5_end cX5_end 2 (some .int) 0 [.int (n)] s (some (.int (op_end s n))) (op_endS s n) := by
  refine mm_Op.of (by decide +kernel) (fun _ => Nat.le_of_ble_eq_true rfl) (fun G w h0 hW hR => ?_)
  have hs : mm_same w h0 h0 := mm_same.rf
  show AW G (aw_rm 0 0 0) yX5_end cX5_end 2 (some .int) (aw_N G (mm_PoC G w h0 (some (.int (op_end s n))) (op_endS s n)) 0 0) 0 0 h0 0 [(0, .ref w.1), (1, .int (n))] []
  have e1 : (nI (mm_n s 1)).toInt = mm_n s 1 := aw_ti (by omega)
  refine aw_iload_n dX5_end_0 rfl ?_
  refine aw_if_lt (tgt := 12) dX5_end_1 (by decide) (fun c_1 => ?_) (fun c_1 => ?_)
  · refine aw_iconst (v := -1) dX5_end_12 rfl ?_
    refine aw_ireturn dX5_end_13 rfl ?_
    have z : ¬ (0 ≤ n.toInt ∧ n.toInt ≤ (mm_n s 1 : Int)) := by
      first
        | (rw [aw_i0] at c_1; omega)
        | (rw [Int32.le_iff_toInt_le, e1] at c_9; omega)
    exact ⟨by rw [op_end, aw_if0 z], _, by rw [op_endS, aw_if0 z]; exact mm_core.rf, hR, hs⟩
  · refine aw_iload_n dX5_end_4 rfl ?_
    refine aw_aload_n dX5_end_5 rfl ?_
    refine aw_get dX5_end_6 fX5_142 rfl hR.1 (by rfl) ?_
    refine aw_icmp_le (tgt := 14) dX5_end_9 (by decide) (fun c_9 => ?_) (fun c_9 => ?_)
    · rw [aw_i0] at c_1
      rw [Int32.le_iff_toInt_le, e1] at c_9
      obtain ⟨n', hn', en, n1, n2⟩ := aw_ofN (x := n) (by omega)
      refine AW_ls (show _ = [(0, .ref w.1), (1, .int (nI n'))] by rw [← en]) ?_
      refine aw_aload_n dX5_end_14 rfl ?_
      refine aw_iload_n dX5_end_15 rfl ?_
      refine mm_putN (k := 1) hW hR hs dX5_end_16 (pX5_142 _) rfl rfl (mm_F_set1 _ _ _) (by decide) (fun h hR hs => ?_)
      refine aw_iload_n dX5_end_19 rfl ?_
      refine aw_ireturn dX5_end_20 rfl ?_
      have z : 0 ≤ n.toInt ∧ n.toInt ≤ (mm_n s 1 : Int) := by omega
      exact ⟨by rw [op_end, aw_if1 z, ← en], _, by rw [op_endS, aw_if1 z, n2]; exact mm_core.rf, hR, hs⟩
    · refine aw_iconst (v := -1) dX5_end_12 rfl ?_
      refine aw_ireturn dX5_end_13 rfl ?_
      have z : ¬ (0 ≤ n.toInt ∧ n.toInt ≤ (mm_n s 1 : Int)) := by
        first
          | (rw [aw_i0] at c_1; omega)
          | (rw [Int32.le_iff_toInt_le, e1] at c_9; omega)
      exact ⟨by rw [op_end, aw_if0 z], _, by rw [op_endS, aw_if0 z]; exact mm_core.rf, hR, hs⟩
noncomputable def op_fault (s : mm_S) (q : Int32) : Int32 := if q.toInt = 0 then nI (mm_n s 2) else if q.toInt = 1 then mm_fp s else -1
set_option maxHeartbeats 4000000 in
theorem mo_fault {s : mm_S} {q : Int32} : mm_Op yX5_fault cX5_fault 2 (some .int) 0 [.int (q)] s (some (.int (op_fault s q))) (s) := by
  refine mm_Op.of (by decide +kernel) (fun _ => Nat.le_of_ble_eq_true rfl) (fun G w h0 hW hR => ?_)
  have hs : mm_same w h0 h0 := mm_same.rf
  show AW G (aw_rm 0 0 0) yX5_fault cX5_fault 2 (some .int) (aw_N G (mm_PoC G w h0 (some (.int (op_fault s q))) (s)) 0 0) 0 0 h0 0 [(0, .ref w.1), (1, .int (q))] []
  refine aw_iload_n dX5_fault_0 rfl ?_
  refine aw_if_ne (tgt := 11) dX5_fault_1 (by decide) (fun c_1 => ?_) (fun c_1 => ?_)
  · refine aw_iload_n dX5_fault_11 rfl ?_
    refine aw_iconst (v := nI 1) dX5_fault_12 rfl ?_
    refine aw_icmp_ne (tgt := 23) dX5_fault_13 (by decide) (fun c_13 => ?_) (fun c_13 => ?_)
    · refine aw_iconst (v := -1) dX5_fault_23 rfl ?_
      refine aw_ireturn dX5_fault_24 rfl ?_
      refine ⟨?_, _, mm_core.rf, hR, hs⟩
      first
        | (rw [op_fault, if_pos (by rw [c_1]; rfl)]; done)
        | (rw [op_fault, if_neg (lv_neT c_1 (a := 0) rfl), if_pos (by rw [c_13]; rfl)]; done)
        | (rw [op_fault, if_neg (lv_neT c_1 (a := 0) rfl), if_neg (lv_neT c_13 (a := 1) rfl)]; done)
    · refine aw_aload_n dX5_fault_16 rfl ?_
      refine aw_get dX5_fault_17 fX5_13 rfl hR.1 (by rfl) ?_
      refine aw_goto (tgt := 24) dX5_fault_20 (by decide) ?_
      refine aw_ireturn dX5_fault_24 rfl ?_
      refine ⟨?_, _, mm_core.rf, hR, hs⟩
      first
        | (rw [op_fault, if_pos (by rw [c_1]; rfl)]; done)
        | (rw [op_fault, if_neg (lv_neT c_1 (a := 0) rfl), if_pos (by rw [c_13]; rfl)]; done)
        | (rw [op_fault, if_neg (lv_neT c_1 (a := 0) rfl), if_neg (lv_neT c_13 (a := 1) rfl)]; done)
  · refine aw_aload_n dX5_fault_4 rfl ?_
    refine aw_get dX5_fault_5 fX5_182 rfl hR.1 (by rfl) ?_
    refine aw_goto (tgt := 24) dX5_fault_8 (by decide) ?_
    refine aw_ireturn dX5_fault_24 rfl ?_
    refine ⟨?_, _, mm_core.rf, hR, hs⟩
    first
      | (rw [op_fault, if_pos (by rw [c_1]; rfl)]; done)
      | (rw [op_fault, if_neg (lv_neT c_1 (a := 0) rfl), if_pos (by rw [c_13]; rfl)]; done)
      | (rw [op_fault, if_neg (lv_neT c_1 (a := 0) rfl), if_neg (lv_neT c_13 (a := 1) rfl)]; done)
noncomputable def op_lies (s : mm_S) (i : Int32) : Int32 := aw_if (0 ≤ i.toInt ∧ i.toInt < (mm_n s 52 : Int)) (mm_v s 51 i.toNatClampNeg) (-2)
set_option maxHeartbeats 4000000 in
theorem mo_lies {s : mm_S} {i : Int32} (hl : mm_n s 52 ≤ 8) : mm_Op yX5_lies cX5_lies 2 (some .int) 1 [.int (i)] s (some (.int (op_lies s i))) (s) := by
  refine mm_Op.of (by decide +kernel) (fun _ => Nat.le_of_ble_eq_true rfl) (fun G w h0 hW hR => ?_)
  have hs : mm_same w h0 h0 := mm_same.rf
  show AW G (aw_rm 1 0 0) yX5_lies cX5_lies 2 (some .int) (aw_N G (mm_PoC G w h0 (some (.int (op_lies s i))) (s)) 0 0) 0 0 h0 0 [(0, .ref w.1), (1, .int (i))] []
  have e1 : (nI (mm_n s 52) - nI 1).toInt = (mm_n s 52 : Int) - 1 := pk_sub_toInt (by omega) (by omega)
  have e0 : (nI 0).toInt = 0 := rfl
  refine aw_iload_n dX5_lies_0 rfl ?_
  refine aw_iconst (v := nI 0) dX5_lies_1 rfl ?_
  refine aw_aload_n dX5_lies_2 rfl ?_
  refine aw_get dX5_lies_3 fX5_365 rfl hR.1 (by rfl) ?_
  refine aw_iconst (v := nI 1) dX5_lies_6 rfl ?_
  refine aw_isub dX5_lies_7 ?_
  refine aw_callP (r := _) dX5_lies_8 sX5_368 rfl (mp_isIn) rfl rfl ⟨Nat.le_of_ble_eq_true rfl, Nat.le_of_ble_eq_true rfl⟩ (Nat.le_of_ble_eq_true rfl) ?_
  refine aw_if_eqB (tgt := 23) dX5_lies_11 (by decide) (fun c_11 => ?_) (fun c_11 => ?_)
  · refine aw_bipush (v := -2) dX5_lies_23 rfl ?_
    refine aw_ireturn dX5_lies_25 rfl ?_
    refine ⟨?_, _, mm_core.rf, hR, hs⟩
    first
      | (rw [op_lies, aw_if1 z, i2]; done)
      | (rw [op_lies, aw_if0 (fun z => c_11 (by omega))]; done)
  · obtain ⟨i', hi', ei, i1, i2⟩ := aw_ofN (x := i) (by omega)
    have z : 0 ≤ i.toInt ∧ i.toInt < (mm_n s 52 : Int) := by omega
    refine AW_ls (show _ = [(0, .ref w.1), (1, .int (nI i'))] by rw [← ei]) ?_
    refine aw_aload_n dX5_lies_14 rfl ?_
    refine aw_get dX5_lies_15 fX5_97 rfl hR.1 (by rfl) ?_
    refine aw_iload_n dX5_lies_18 rfl ?_
    refine aw_ialdN dX5_lies_19 (hR.2.2.2.1 51 8 rfl) (by omega) (by decide) ?_
    refine aw_goto (tgt := 25) dX5_lies_20 (by decide) ?_
    refine aw_ireturn dX5_lies_25 rfl ?_
    refine ⟨?_, _, mm_core.rf, hR, hs⟩
    first
      | (rw [op_lies, aw_if1 z, i2]; done)
      | (rw [op_lies, aw_if0 (fun z => c_11 (by omega))]; done)
noncomputable def op_later (s : mm_S) (q : Int32) : Int32 := aw_if (0 ≤ q.toInt ∧ q.toInt ≤ 1000 ∧ mm_n s 65 + q.toNatClampNeg ≤ 100000) (nI (mm_n s 65 + q.toNatClampNeg)) (-1)
noncomputable def op_laterS (s : mm_S) (q : Int32) : mm_S := aw_if (0 ≤ q.toInt ∧ q.toInt ≤ 1000 ∧ mm_n s 65 + q.toNatClampNeg ≤ 100000) (mm_setN s 65 (mm_n s 65 + q.toNatClampNeg)) s
set_option maxHeartbeats 4000000 in
theorem mo_later {s : mm_S} {q : Int32} (ht : mm_n s 65 ≤ 100000) : mm_Op yX5_later cX5_later 2 (some .int) 0 [.int (q)] s (some (.int (op_later s q))) (op_laterS s q) := by
  refine mm_Op.of (by decide +kernel) (fun _ => Nat.le_of_ble_eq_true rfl) (fun G w h0 hW hR => ?_)
  have hs : mm_same w h0 h0 := mm_same.rf
  show AW G (aw_rm 0 0 0) yX5_later cX5_later 2 (some .int) (aw_N G (mm_PoC G w h0 (some (.int (op_later s q))) (op_laterS s q)) 0 0) 0 0 h0 0 [(0, .ref w.1), (1, .int (q))] []
  have no : ∀ h, mm_R G w h s → mm_same w h0 h → ¬ (0 ≤ q.toInt ∧ q.toInt ≤ 1000 ∧ mm_n s 65 + q.toNatClampNeg ≤ 100000) → mm_PoC G w h0 (some (.int (op_later s q))) (op_laterS s q) (some (.int (-1))) h := fun h hR hs z => ⟨by rw [op_later, aw_if0 z], _, by rw [op_laterS, aw_if0 z]; exact mm_core.rf, hR, hs⟩
  refine aw_iload_n dX5_later_0 rfl ?_
  refine aw_if_lt (tgt := 23) dX5_later_1 (by decide) (fun c_1 => ?_) (fun c_1 => ?_)
  · refine aw_iconst (v := -1) dX5_later_23 rfl ?_
    refine aw_ireturn dX5_later_24 rfl ?_
    refine no h0 hR hs (fun z => ?_)
    first
      | (rw [aw_i0] at c_1; omega)
      | (rw [Int32.lt_iff_toInt_lt, aw_ti (n := 1000) (by decide)] at c_8; omega)
      | omega
  · refine aw_iload_n dX5_later_4 rfl ?_
    refine aw_sipush (v := nI 1000) dX5_later_5 rfl ?_
    refine aw_icmp_gt (tgt := 23) dX5_later_8 (by decide) (fun c_8 => ?_) (fun c_8 => ?_)
    · refine aw_iconst (v := -1) dX5_later_23 rfl ?_
      refine aw_ireturn dX5_later_24 rfl ?_
      refine no h0 hR hs (fun z => ?_)
      first
        | (rw [aw_i0] at c_1; omega)
        | (rw [Int32.lt_iff_toInt_lt, aw_ti (n := 1000) (by decide)] at c_8; omega)
        | omega
    · rw [aw_i0] at c_1
      rw [Int32.lt_iff_toInt_lt, aw_ti (n := 1000) (by decide)] at c_8
      obtain ⟨q', hq', eq, q1, q2⟩ := aw_ofN (x := q) (by omega)
      refine AW_ls (show _ = [(0, .ref w.1), (1, .int (nI q'))] by rw [← eq]) ?_
      refine aw_aload_n dX5_later_11 rfl ?_
      refine aw_get dX5_later_12 fX5_485 rfl hR.1 (by rfl) ?_
      refine aw_iload_n dX5_later_15 rfl ?_
      refine aw_iaddN dX5_later_16 ?_
      refine aw_ldcw (v := nI 100000) dX5_later_17 q2013 ?_
      refine aw_icmp_leN (tgt := 25) dX5_later_20 (by decide) (by omega) (by omega) (fun c_20 => ?_) (fun c_20 => ?_)
      · refine aw_aload_n dX5_later_25 rfl ?_
        refine aw_dup dX5_later_26 rfl ?_
        refine aw_get dX5_later_27 fX5_485 rfl hR.1 (by rfl) ?_
        refine aw_iload_n dX5_later_30 rfl ?_
        refine aw_iaddN dX5_later_31 ?_
        refine mm_putN (k := 65) hW hR hs dX5_later_32 (pX5_485 _) rfl rfl (mm_F_set65 _ _ _) (by decide) (fun h hR hs => ?_)
        refine aw_aload_n dX5_later_35 rfl ?_
        refine aw_get dX5_later_36 fX5_485 rfl hR.1 (by rfl) ?_
        try simp only [mm_n_N, mm_n_A, mm_n_V, mm_n_Fp, mm_n_W, mm_n_Nm, mm_a_N, mm_a_A, mm_a_V, mm_a_Fp, mm_a_W, mm_a_Nm, mm_v_N, mm_v_A, mm_v_V, mm_fp_N, mm_fp_A, mm_fp_Fp, mm_w_N, mm_w_W, Nat.reduceEqDiff, reduceIte, if_true, if_false, mm_H_45, mm_H_46, mm_H_47, mm_H_50, mm_H_53, mm_H_54, mm_H_55, mm_H_56, mm_H_57, mm_H_58, mm_H_66, mm_H_67, mm_H_68]
        refine aw_ireturn dX5_later_39 rfl ?_
        have z : 0 ≤ q.toInt ∧ q.toInt ≤ 1000 ∧ mm_n s 65 + q.toNatClampNeg ≤ 100000 := by omega
        exact ⟨by rw [op_later, aw_if1 z, q2], _, by rw [op_laterS, aw_if1 z, q2]; exact mm_core.rf, hR, hs⟩
      · refine aw_iconst (v := -1) dX5_later_23 rfl ?_
        refine aw_ireturn dX5_later_24 rfl ?_
        refine no h0 hR hs (fun z => ?_)
        first
          | (rw [aw_i0] at c_1; omega)
          | (rw [Int32.lt_iff_toInt_lt, aw_ti (n := 1000) (by decide)] at c_8; omega)
          | omega
def mm_imgB (s : mm_S) (b : Nat) : Nat → Nat := fun j => if 28 * b ≤ j ∧ j < 28 * b + 28 then mm_a s 45 (j - 28 * b) else mm_a s 68 j
noncomputable def op_image (s : mm_S) (b : Int32) : Int32 := aw_if (0 ≤ b.toInt ∧ b.toInt < 3) (nI (mm_a s 45 26)) (-1)
noncomputable def op_imageS (s : mm_S) (b : Int32) : mm_S := aw_if (0 ≤ b.toInt ∧ b.toInt < 3) (mm_setA (mm_setA s 67 (aw_u (mm_a s 67) b.toNatClampNeg 1)) 68 (mm_imgB s b.toNatClampNeg)) s
set_option maxHeartbeats 4000000 in
theorem mo_image {s : mm_S} {b : Int32} : mm_Op yX5_image cX5_image 3 (some .int) 1 [.int (b)] s (some (.int (op_image s b))) (op_imageS s b) := by
  refine mm_Op.of (by decide +kernel) (fun _ => Nat.le_of_ble_eq_true rfl) (fun G w h0 hW hR => ?_)
  have hs : mm_same w h0 h0 := mm_same.rf
  show AW G (aw_rm 1 0 0) yX5_image cX5_image 3 (some .int) (aw_N G (mm_PoC G w h0 (some (.int (op_image s b))) (op_imageS s b)) 0 0) 0 0 h0 0 [(0, .ref w.1), (1, .int (b))] []
  have loop : ∀ (b' : Nat), b' < 3 → op_image s b = nI (mm_a s 45 26) → op_imageS s b = mm_setA (mm_setA s 67 (aw_u (mm_a s 67) b' 1)) 68 (mm_imgB s b') → ∀ (m k : Nat) (h : aw_H), 28 - k = m → k ≤ 28 → mm_R G w h (mm_setA (mm_setA s 67 (aw_u (mm_a s 67) b' 1)) 68 (fun j => if 28 * b' ≤ j ∧ j < 28 * b' + k then mm_a s 45 (j - 28 * b') else mm_a s 68 j)) → mm_same w h0 h → AW G (aw_rm 1 0 0) yX5_image cX5_image 3 (some .int) (aw_N G (mm_PoC G w h0 (some (.int (op_image s b))) (op_imageS s b)) 0 0) 0 0 h 18 [(0, .ref w.1), (1, .int (nI b')), (2, .int (nI k))] [] := by
    intro b' hb fin finS m
    induction m using Nat.strongRecOn with
    | _ m ih =>
      intro k h hm hk hR hs
      refine aw_iload_n dX5_image_18 rfl ?_
      refine aw_bipush (v := nI 28) dX5_image_19 rfl ?_
      refine aw_icmp_geN (tgt := 47) dX5_image_21 (by decide) (by omega) (by omega) (fun c_21 => ?_) (fun c_21 => ?_)
      · refine aw_aload_n dX5_image_47 rfl ?_
        refine aw_get dX5_image_48 fX5_85 rfl hR.1 (by rfl) ?_
        refine aw_bipush (v := nI 26) dX5_image_51 rfl ?_
        refine aw_ialdN dX5_image_53 (hR.2.1 45 28 rfl) (by omega) (by decide) ?_
        try simp only [mm_n_N, mm_n_A, mm_n_V, mm_n_Fp, mm_n_W, mm_n_Nm, mm_a_N, mm_a_A, mm_a_V, mm_a_Fp, mm_a_W, mm_a_Nm, mm_v_N, mm_v_A, mm_v_V, mm_fp_N, mm_fp_A, mm_fp_Fp, mm_w_N, mm_w_W, Nat.reduceEqDiff, reduceIte, if_true, if_false, mm_H_45, mm_H_46, mm_H_47, mm_H_50, mm_H_53, mm_H_54, mm_H_55, mm_H_56, mm_H_57, mm_H_58, mm_H_66, mm_H_67, mm_H_68]
        refine aw_ireturn dX5_image_54 rfl ?_
        exact ⟨by rw [fin], _, by rw [finS]; exact mm_core.rf, mm_eq hR (by unfold mm_imgB; rw [show k = 28 by omega]), hs⟩
      · refine aw_aload_n dX5_image_24 rfl ?_
        refine aw_get dX5_image_25 fX5_139 rfl hR.1 (by rfl) ?_
        refine aw_bipush (v := nI 28) dX5_image_28 rfl ?_
        refine aw_iload_n dX5_image_30 rfl ?_
        refine aw_imulN dX5_image_31 ?_
        refine aw_iload_n dX5_image_32 rfl ?_
        refine aw_iaddN dX5_image_33 ?_
        refine aw_aload_n dX5_image_34 rfl ?_
        refine aw_get dX5_image_35 fX5_85 rfl hR.1 (by rfl) ?_
        refine aw_iload_n dX5_image_38 rfl ?_
        refine aw_ialdN dX5_image_39 (hR.2.1 45 28 rfl) (by omega) (by decide) ?_
        try simp only [mm_n_N, mm_n_A, mm_n_V, mm_n_Fp, mm_n_W, mm_n_Nm, mm_a_N, mm_a_A, mm_a_V, mm_a_Fp, mm_a_W, mm_a_Nm, mm_v_N, mm_v_A, mm_v_V, mm_fp_N, mm_fp_A, mm_fp_Fp, mm_w_N, mm_w_W, Nat.reduceEqDiff, reduceIte, if_true, if_false, mm_H_45, mm_H_46, mm_H_47, mm_H_50, mm_H_53, mm_H_54, mm_H_55, mm_H_56, mm_H_57, mm_H_58, mm_H_66, mm_H_67, mm_H_68]
        refine mm_iast (k := 68) rfl hW hR hs dX5_image_40 (by omega) (by decide) (fun h hR hs => ?_)
        refine aw_iincN (b := 1) dX5_image_41 rfl rfl (by decide) rfl rfl ?_
        refine aw_goto (tgt := 18) dX5_image_44 (by decide) ?_
        refine ih (28 - (k + 1)) (by omega) (k + 1) h rfl (by omega) (mm_eq (mm_AU hR) ?_) hs
        congr 1
        funext j
        unfold aw_u
        dsimp only
        by_cases e : j = 28 * b' + k
        · rw [if_pos e, if_pos (by omega), show j - 28 * b' = k by omega]
        · rw [if_neg e]
          by_cases z : 28 * b' ≤ j ∧ j < 28 * b' + k
          · rw [if_pos z, if_pos (by omega)]
          · rw [if_neg z, if_neg (show ¬ (28 * b' ≤ j ∧ j < 28 * b' + (k + 1)) by omega)]
  refine aw_iload_n dX5_image_0 rfl ?_
  refine aw_callP (r := _) dX5_image_1 sX5_499 rfl (mp_isBox) rfl rfl ⟨Nat.le_of_ble_eq_true rfl, Nat.le_of_ble_eq_true rfl⟩ (Nat.le_of_ble_eq_true rfl) ?_
  refine aw_if_neB (tgt := 9) dX5_image_4 (by decide) (fun c_4 => ?_) (fun c_4 => ?_)
  · obtain ⟨b', hb', eb, b1, b2⟩ := aw_ofN (x := b) (by omega)
    refine AW_ls (show _ = [(0, .ref w.1), (1, .int (nI b'))] by rw [← eb]) ?_
    refine aw_aload_n dX5_image_9 rfl ?_
    refine aw_get dX5_image_10 fX5_136 rfl hR.1 (by rfl) ?_
    refine aw_iload_n dX5_image_13 rfl ?_
    refine aw_iconst (v := nI 1) dX5_image_14 rfl ?_
    refine mm_zast (k := 67) rfl hW hR hs dX5_image_15 (by omega) (by decide) (by omega) (fun h hR hs => ?_)
    refine aw_iconst (v := nI 0) dX5_image_16 rfl ?_
    refine aw_istore_n dX5_image_17 (by decide) rfl rfl ?_
    refine loop b' (by omega) (by rw [op_image, aw_if1 c_4]) (by rw [op_imageS, aw_if1 c_4, b2]) 28 0 h rfl (by omega) (mm_eq hR ?_) hs
    exact (mm_A_id (fun j => by rw [if_neg (by omega)]; rfl)).symm
  · refine aw_iconst (v := -1) dX5_image_7 rfl ?_
    refine aw_ireturn dX5_image_8 rfl ?_
    exact ⟨by rw [op_image, aw_if0 c_4], _, by rw [op_imageS, aw_if0 c_4]; exact mm_core.rf, hR, hs⟩
noncomputable def op_backP (s : mm_S) (b : Int32) : Prop := 0 ≤ b.toInt ∧ b.toInt < 3 ∧ mm_a s 67 b.toNatClampNeg = 1
noncomputable def op_back (s : mm_S) (b : Int32) : Int32 := aw_if (op_backP s b) (nI (mm_a s 68 (28 * b.toNatClampNeg + 26))) (-1)
noncomputable def op_backS (s : mm_S) (b : Int32) : mm_S := aw_if (op_backP s b) (mm_setN (mm_setN (mm_setA s 45 (fun j => if j < 28 then mm_a s 68 (28 * b.toNatClampNeg + j) else mm_a s 45 j)) 48 0) 49 0) s
set_option maxHeartbeats 4000000 in
theorem mo_back {s : mm_S} {b : Int32} (hb1 : ∀ k, k < 3 → mm_a s 67 k < 2) : mm_Op yX5_back cX5_back 3 (some .int) 1 [.int (b)] s (some (.int (op_back s b))) (op_backS s b) := by
  refine mm_Op.of (by decide +kernel) (fun _ => Nat.le_of_ble_eq_true rfl) (fun G w h0 hW hR => ?_)
  have hs : mm_same w h0 h0 := mm_same.rf
  show AW G (aw_rm 1 0 0) yX5_back cX5_back 3 (some .int) (aw_N G (mm_PoC G w h0 (some (.int (op_back s b))) (op_backS s b)) 0 0) 0 0 h0 0 [(0, .ref w.1), (1, .int (b))] []
  have loop : ∀ (b' : Nat), b' < 3 → op_back s b = nI (mm_a s 68 (28 * b' + 26)) → op_backS s b = mm_setN (mm_setN (mm_setA s 45 (fun j => if j < 28 then mm_a s 68 (28 * b' + j) else mm_a s 45 j)) 48 0) 49 0 → ∀ (m k : Nat) (h : aw_H), 28 - k = m → k ≤ 28 → mm_R G w h (mm_setA s 45 (fun j => if j < k then mm_a s 68 (28 * b' + j) else mm_a s 45 j)) → mm_same w h0 h → AW G (aw_rm 1 0 0) yX5_back cX5_back 3 (some .int) (aw_N G (mm_PoC G w h0 (some (.int (op_back s b))) (op_backS s b)) 0 0) 0 0 h 20 [(0, .ref w.1), (1, .int (nI b')), (2, .int (nI k))] [] := by
    intro b' hb fin finS m
    induction m using Nat.strongRecOn with
    | _ m ih =>
      intro k h hm hk hR hs
      refine aw_iload_n dX5_back_20 rfl ?_
      refine aw_bipush (v := nI 28) dX5_back_21 rfl ?_
      refine aw_icmp_geN (tgt := 49) dX5_back_23 (by decide) (by omega) (by omega) (fun c_23 => ?_) (fun c_23 => ?_)
      · refine aw_aload_n dX5_back_49 rfl ?_
        refine aw_iconst (v := nI 0) dX5_back_50 rfl ?_
        refine mm_putN (k := 48) hW hR hs dX5_back_51 (pX5_356 _) rfl rfl (mm_F_set48 _ _ _) (by decide) (fun h hR hs => ?_)
        refine aw_aload_n dX5_back_54 rfl ?_
        refine aw_iconst (v := nI 0) dX5_back_55 rfl ?_
        refine mm_putN (k := 49) hW hR hs dX5_back_56 (pX5_359 _) rfl rfl (mm_F_set49 _ _ _) (by decide) (fun h hR hs => ?_)
        refine aw_aload_n dX5_back_59 rfl ?_
        refine aw_get dX5_back_60 fX5_85 rfl hR.1 (by rfl) ?_
        refine aw_bipush (v := nI 26) dX5_back_63 rfl ?_
        refine aw_ialdN dX5_back_65 (hR.2.1 45 28 rfl) (by omega) (by decide) ?_
        try simp only [mm_n_N, mm_n_A, mm_n_V, mm_n_Fp, mm_n_W, mm_n_Nm, mm_a_N, mm_a_A, mm_a_V, mm_a_Fp, mm_a_W, mm_a_Nm, mm_v_N, mm_v_A, mm_v_V, mm_fp_N, mm_fp_A, mm_fp_Fp, mm_w_N, mm_w_W, Nat.reduceEqDiff, reduceIte, if_true, if_false, mm_H_45, mm_H_46, mm_H_47, mm_H_50, mm_H_53, mm_H_54, mm_H_55, mm_H_56, mm_H_57, mm_H_58, mm_H_66, mm_H_67, mm_H_68]
        refine aw_ireturn dX5_back_66 rfl ?_
        refine ⟨?_, _, ?_, hR, hs⟩
        · rw [fin, if_pos (by omega)]
        · rw [finS, show k = 28 by omega]
          exact mm_core.rf
      · refine aw_aload_n dX5_back_26 rfl ?_
        refine aw_get dX5_back_27 fX5_85 rfl hR.1 (by rfl) ?_
        refine aw_iload_n dX5_back_30 rfl ?_
        refine aw_aload_n dX5_back_31 rfl ?_
        refine aw_get dX5_back_32 fX5_139 rfl hR.1 (by rfl) ?_
        refine aw_bipush (v := nI 28) dX5_back_35 rfl ?_
        refine aw_iload_n dX5_back_37 rfl ?_
        refine aw_imulN dX5_back_38 ?_
        refine aw_iload_n dX5_back_39 rfl ?_
        refine aw_iaddN dX5_back_40 ?_
        refine aw_ialdN dX5_back_41 (hR.2.1 68 84 rfl) (by omega) (by decide) ?_
        try simp only [mm_n_N, mm_n_A, mm_n_V, mm_n_Fp, mm_n_W, mm_n_Nm, mm_a_N, mm_a_A, mm_a_V, mm_a_Fp, mm_a_W, mm_a_Nm, mm_v_N, mm_v_A, mm_v_V, mm_fp_N, mm_fp_A, mm_fp_Fp, mm_w_N, mm_w_W, Nat.reduceEqDiff, reduceIte, if_true, if_false, mm_H_45, mm_H_46, mm_H_47, mm_H_50, mm_H_53, mm_H_54, mm_H_55, mm_H_56, mm_H_57, mm_H_58, mm_H_66, mm_H_67, mm_H_68]
        refine mm_iast (k := 45) rfl hW hR hs dX5_back_42 (by omega) (by decide) (fun h hR hs => ?_)
        refine aw_iincN (b := 1) dX5_back_43 rfl rfl (by decide) rfl rfl ?_
        refine aw_goto (tgt := 20) dX5_back_46 (by decide) ?_
        exact ih (28 - (k + 1)) (by omega) (k + 1) h rfl (by omega) (mm_eq (mm_AU hR) (by rw [aw_u_cp (f := fun j => mm_a s 68 (28 * b' + j))])) hs
  refine aw_iload_n dX5_back_0 rfl ?_
  refine aw_callP (r := _) dX5_back_1 sX5_499 rfl (mp_isBox) rfl rfl ⟨Nat.le_of_ble_eq_true rfl, Nat.le_of_ble_eq_true rfl⟩ (Nat.le_of_ble_eq_true rfl) ?_
  refine aw_if_eqB (tgt := 16) dX5_back_4 (by decide) (fun c_4 => ?_) (fun c_4 => ?_)
  · refine aw_iconst (v := -1) dX5_back_16 rfl ?_
    refine aw_ireturn dX5_back_17 rfl ?_
    have z : ¬ op_backP s b := by
      unfold op_backP
      first
        | (intro z; exact c_4 ⟨z.1, z.2.1⟩)
        | (rw [b2]; omega)
    exact ⟨by rw [op_back, aw_if0 z], _, by rw [op_backS, aw_if0 z]; exact mm_core.rf, hR, hs⟩
  · obtain ⟨b', hb', eb, b1, b2⟩ := aw_ofN (x := b) (by omega)
    have q9 := hb1 b' (by omega)
    refine AW_ls (show _ = [(0, .ref w.1), (1, .int (nI b'))] by rw [← eb]) ?_
    refine aw_aload_n dX5_back_7 rfl ?_
    refine aw_get dX5_back_8 fX5_136 rfl hR.1 (by rfl) ?_
    refine aw_iload_n dX5_back_11 rfl ?_
    refine aw_zaldN dX5_back_12 (hR.2.2.1 67 3 rfl) (by omega) (by decide) ?_
    refine aw_if_neN (tgt := 18) dX5_back_13 (by decide) (by omega) (fun c_13 => ?_) (fun c_13 => ?_)
    · refine aw_iconst (v := nI 0) dX5_back_18 rfl ?_
      refine aw_istore_n dX5_back_19 (by decide) rfl rfl ?_
      have z : op_backP s b := ⟨c_4.1, c_4.2, by rw [b2]; omega⟩
      refine loop b' (by omega) (by rw [op_back, aw_if1 z, b2]) (by rw [op_backS, aw_if1 z, b2]) 28 0 h0 rfl (by omega) (mm_eq hR ?_) hs
      exact (mm_A_id (fun j => by rw [if_neg (by omega)])).symm
    · refine aw_iconst (v := -1) dX5_back_16 rfl ?_
      refine aw_ireturn dX5_back_17 rfl ?_
      have z : ¬ op_backP s b := by
        unfold op_backP
        first
          | (intro z; exact c_4 ⟨z.1, z.2.1⟩)
          | (rw [b2]; omega)
      exact ⟨by rw [op_back, aw_if0 z], _, by rw [op_backS, aw_if0 z]; exact mm_core.rf, hR, hs⟩
noncomputable def op_about (s : mm_S) (q : Int32) : Int32 := if q.toInt = 0 then nI (mm_n s 42) else if q.toInt = 1 then nI (mm_n s 41) else if q.toInt = 2 then nI (mm_a s 45 25) else if q.toInt = 3 then nI (mm_a s 45 24) else if q.toInt = 4 then nI (mm_a s 45 26) else if q.toInt = 5 then nI (mm_a s 45 27) else if q.toInt = 6 then nI (mm_n s 48) else if q.toInt = 7 then nI (mm_n s 49) else if q.toInt = 8 then nI (mm_n s 64) else if q.toInt = 9 then nI (mm_n s 65) else if q.toInt = 10 then nI (mm_n s 1) else if q.toInt = 11 then nI (mm_n s 23) else if q.toInt = 12 then nI (mm_n s 52) else -1
set_option maxHeartbeats 4000000 in
theorem mo_about {s : mm_S} {q : Int32} : mm_Op yX5_about cX5_about 2 (some .int) 0 [.int (q)] s (some (.int (op_about s q))) (s) := by
  refine mm_Op.of (by decide +kernel) (fun _ => Nat.le_of_ble_eq_true rfl) (fun G w h0 hW hR => ?_)
  have hs : mm_same w h0 h0 := mm_same.rf
  show AW G (aw_rm 0 0 0) yX5_about cX5_about 2 (some .int) (aw_N G (mm_PoC G w h0 (some (.int (op_about s q))) (s)) 0 0) 0 0 h0 0 [(0, .ref w.1), (1, .int (q))] []
  refine aw_iload_n dX5_about_0 rfl ?_
  by_cases e_0 : q = nI 0
  · subst e_0
    refine aw_tableIn (off := 67) (tgt := 68) dX5_about_1 (by decide) (by decide) (by decide) (by decide) ?_
    refine aw_aload_n dX5_about_68 rfl ?_
    refine aw_get dX5_about_69 fX5_350 rfl hR.1 (by rfl) ?_
    refine aw_ireturn dX5_about_72 rfl ?_
    exact ⟨rfl, _, mm_core.rf, hR, hs⟩
  by_cases e_1 : q = nI 1
  · subst e_1
    refine aw_tableIn (off := 72) (tgt := 73) dX5_about_1 (by decide) (by decide) (by decide) (by decide) ?_
    refine aw_aload_n dX5_about_73 rfl ?_
    refine aw_get dX5_about_74 fX5_82 rfl hR.1 (by rfl) ?_
    refine aw_ireturn dX5_about_77 rfl ?_
    exact ⟨rfl, _, mm_core.rf, hR, hs⟩
  by_cases e_2 : q = nI 2
  · subst e_2
    refine aw_tableIn (off := 77) (tgt := 78) dX5_about_1 (by decide) (by decide) (by decide) (by decide) ?_
    refine aw_aload_n dX5_about_78 rfl ?_
    refine aw_get dX5_about_79 fX5_85 rfl hR.1 (by rfl) ?_
    refine aw_bipush (v := nI 25) dX5_about_82 rfl ?_
    refine aw_ialdN dX5_about_84 (hR.2.1 45 28 rfl) (by omega) (by decide) ?_
    refine aw_ireturn dX5_about_85 rfl ?_
    exact ⟨rfl, _, mm_core.rf, hR, hs⟩
  by_cases e_3 : q = nI 3
  · subst e_3
    refine aw_tableIn (off := 85) (tgt := 86) dX5_about_1 (by decide) (by decide) (by decide) (by decide) ?_
    refine aw_aload_n dX5_about_86 rfl ?_
    refine aw_get dX5_about_87 fX5_85 rfl hR.1 (by rfl) ?_
    refine aw_bipush (v := nI 24) dX5_about_90 rfl ?_
    refine aw_ialdN dX5_about_92 (hR.2.1 45 28 rfl) (by omega) (by decide) ?_
    refine aw_ireturn dX5_about_93 rfl ?_
    exact ⟨rfl, _, mm_core.rf, hR, hs⟩
  by_cases e_4 : q = nI 4
  · subst e_4
    refine aw_tableIn (off := 93) (tgt := 94) dX5_about_1 (by decide) (by decide) (by decide) (by decide) ?_
    refine aw_aload_n dX5_about_94 rfl ?_
    refine aw_get dX5_about_95 fX5_85 rfl hR.1 (by rfl) ?_
    refine aw_bipush (v := nI 26) dX5_about_98 rfl ?_
    refine aw_ialdN dX5_about_100 (hR.2.1 45 28 rfl) (by omega) (by decide) ?_
    refine aw_ireturn dX5_about_101 rfl ?_
    exact ⟨rfl, _, mm_core.rf, hR, hs⟩
  by_cases e_5 : q = nI 5
  · subst e_5
    refine aw_tableIn (off := 101) (tgt := 102) dX5_about_1 (by decide) (by decide) (by decide) (by decide) ?_
    refine aw_aload_n dX5_about_102 rfl ?_
    refine aw_get dX5_about_103 fX5_85 rfl hR.1 (by rfl) ?_
    refine aw_bipush (v := nI 27) dX5_about_106 rfl ?_
    refine aw_ialdN dX5_about_108 (hR.2.1 45 28 rfl) (by omega) (by decide) ?_
    refine aw_ireturn dX5_about_109 rfl ?_
    exact ⟨rfl, _, mm_core.rf, hR, hs⟩
  by_cases e_6 : q = nI 6
  · subst e_6
    refine aw_tableIn (off := 109) (tgt := 110) dX5_about_1 (by decide) (by decide) (by decide) (by decide) ?_
    refine aw_aload_n dX5_about_110 rfl ?_
    refine aw_get dX5_about_111 fX5_356 rfl hR.1 (by rfl) ?_
    refine aw_ireturn dX5_about_114 rfl ?_
    exact ⟨rfl, _, mm_core.rf, hR, hs⟩
  by_cases e_7 : q = nI 7
  · subst e_7
    refine aw_tableIn (off := 114) (tgt := 115) dX5_about_1 (by decide) (by decide) (by decide) (by decide) ?_
    refine aw_aload_n dX5_about_115 rfl ?_
    refine aw_get dX5_about_116 fX5_359 rfl hR.1 (by rfl) ?_
    refine aw_ireturn dX5_about_119 rfl ?_
    exact ⟨rfl, _, mm_core.rf, hR, hs⟩
  by_cases e_8 : q = nI 8
  · subst e_8
    refine aw_tableIn (off := 119) (tgt := 120) dX5_about_1 (by decide) (by decide) (by decide) (by decide) ?_
    refine aw_aload_n dX5_about_120 rfl ?_
    refine aw_get dX5_about_121 fX5_362 rfl hR.1 (by rfl) ?_
    refine aw_ireturn dX5_about_124 rfl ?_
    exact ⟨rfl, _, mm_core.rf, hR, hs⟩
  by_cases e_9 : q = nI 9
  · subst e_9
    refine aw_tableIn (off := 124) (tgt := 125) dX5_about_1 (by decide) (by decide) (by decide) (by decide) ?_
    refine aw_aload_n dX5_about_125 rfl ?_
    refine aw_get dX5_about_126 fX5_485 rfl hR.1 (by rfl) ?_
    refine aw_ireturn dX5_about_129 rfl ?_
    exact ⟨rfl, _, mm_core.rf, hR, hs⟩
  by_cases e_10 : q = nI 10
  · subst e_10
    refine aw_tableIn (off := 129) (tgt := 130) dX5_about_1 (by decide) (by decide) (by decide) (by decide) ?_
    refine aw_aload_n dX5_about_130 rfl ?_
    refine aw_get dX5_about_131 fX5_142 rfl hR.1 (by rfl) ?_
    refine aw_ireturn dX5_about_134 rfl ?_
    exact ⟨rfl, _, mm_core.rf, hR, hs⟩
  by_cases e_11 : q = nI 11
  · subst e_11
    refine aw_tableIn (off := 134) (tgt := 135) dX5_about_1 (by decide) (by decide) (by decide) (by decide) ?_
    refine aw_aload_n dX5_about_135 rfl ?_
    refine aw_get dX5_about_136 fX5_353 rfl hR.1 (by rfl) ?_
    refine aw_ireturn dX5_about_139 rfl ?_
    exact ⟨rfl, _, mm_core.rf, hR, hs⟩
  by_cases e_12 : q = nI 12
  · subst e_12
    refine aw_tableIn (off := 139) (tgt := 140) dX5_about_1 (by decide) (by decide) (by decide) (by decide) ?_
    refine aw_aload_n dX5_about_140 rfl ?_
    refine aw_get dX5_about_141 fX5_365 rfl hR.1 (by rfl) ?_
    refine aw_ireturn dX5_about_144 rfl ?_
    exact ⟨rfl, _, mm_core.rf, hR, hs⟩
  refine aw_tableOut (tgt := 145) dX5_about_1 (by have q0 := lv_neT e_0 (a := 0) (by decide); have q1 := lv_neT e_1 (a := 1) (by decide); have q2 := lv_neT e_2 (a := 2) (by decide); have q3 := lv_neT e_3 (a := 3) (by decide); have q4 := lv_neT e_4 (a := 4) (by decide); have q5 := lv_neT e_5 (a := 5) (by decide); have q6 := lv_neT e_6 (a := 6) (by decide); have q7 := lv_neT e_7 (a := 7) (by decide); have q8 := lv_neT e_8 (a := 8) (by decide); have q9 := lv_neT e_9 (a := 9) (by decide); have q10 := lv_neT e_10 (a := 10) (by decide); have q11 := lv_neT e_11 (a := 11) (by decide); have q12 := lv_neT e_12 (a := 12) (by decide); omega) (by decide) ?_
  refine aw_iconst (v := -1) dX5_about_145 rfl ?_
  refine aw_ireturn dX5_about_146 rfl ?_
  refine ⟨?_, _, mm_core.rf, hR, hs⟩
  rw [op_about, if_neg (lv_neT e_0 (a := 0) rfl), if_neg (lv_neT e_1 (a := 1) rfl), if_neg (lv_neT e_2 (a := 2) rfl), if_neg (lv_neT e_3 (a := 3) rfl), if_neg (lv_neT e_4 (a := 4) rfl), if_neg (lv_neT e_5 (a := 5) rfl), if_neg (lv_neT e_6 (a := 6) rfl), if_neg (lv_neT e_7 (a := 7) rfl), if_neg (lv_neT e_8 (a := 8) rfl), if_neg (lv_neT e_9 (a := 9) rfl), if_neg (lv_neT e_10 (a := 10) rfl), if_neg (lv_neT e_11 (a := 11) rfl), if_neg (lv_neT e_12 (a := 12) rfl)]

