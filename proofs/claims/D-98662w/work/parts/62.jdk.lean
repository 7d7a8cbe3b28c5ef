set_option maxRecDepth 100000
/-! the JDK's small methods; lists -/
section RO
variable {G : aw_G} {R : Room} {y : MethodName} {cc : ByteArray} {nL : Nat} {ret : Option FieldType} {Qf : List Frame → Array Value → State → State → Prop} {kc ks : Nat} {h : aw_H} {pc : Nat} {ls : List (Nat × Value)} {st : List Value}
theorem aw_roV {own : String} {y2 : MethodName} {cc2 : ByteArray} {nL2 n index ci b f2 : Nat} {ret2 : Option FieldType} {fs As rest : List Value} {r : Option Value} (d : decode cc pc = .ok (.invokevirtual index, 3)) (S : aw_SV own index y2 cc2 nL2 ret2 n ci) (ho : own = y.cls) (hM : aw_Met G y2 cc2 nL2 ret2 f2 0 0 (.ref b :: As) h (fun v9 h9 => v9 = r ∧ h9 = h)) (hb : h b = some (aw_o ci fs)) (hst : st = As.reverse ++ .ref b :: rest) (hn : As.length = n) (hR : f2 + 1 ≤ R.frames ∧ 8 + (nL2 + 11) + 64 * f2 ≤ R.locals) (hc : (rest.map fun v => v.category).sum ≤ 8)
    (kk : AW G R y cc nL ret Qf kc ks h (pc + 3) ls (r.toList ++ rest)) : AW G R y cc nL ret Qf kc ks h pc ls st := aw_callV (kc := kc) (ks := ks) d S ho hM hb hst hn hR hc (fun v h' q => by obtain ⟨rfl, e⟩ := q; rw [e]; exact kk)
theorem aw_roS {own : String} {y2 : MethodName} {cc2 : ByteArray} {nL2 n index f2 : Nat} {ret2 : Option FieldType} {As rest : List Value} {r : Option Value} (d : decode cc pc = .ok (.invokestatic index, 3)) (S : aw_SS own index y2 cc2 nL2 ret2 n) (ho : own = y.cls) (hM : aw_Met G y2 cc2 nL2 ret2 f2 0 0 As h (fun v9 h9 => v9 = r ∧ h9 = h)) (hst : st = As.reverse ++ rest) (hn : As.length = n) (hR : f2 + 1 ≤ R.frames ∧ 8 + (nL2 + 11) + 64 * f2 ≤ R.locals) (hc : (rest.map fun v => v.category).sum ≤ 8)
    (kk : AW G R y cc nL ret Qf kc ks h (pc + 3) ls (r.toList ++ rest)) : AW G R y cc nL ret Qf kc ks h pc ls st := aw_callS (kc := kc) (ks := ks) d S ho hM hst hn hR hc (fun v h' q => by obtain ⟨rfl, e⟩ := q; rw [e]; exact kk)
theorem aw_mmax {index : Nat} {x z : Int32} (d : decode cc pc = .ok (.invokestatic index, 3)) (hw : Cond.methodLink y.cls index ⟨"java/lang/Math", "max", "(II)I"⟩ ∈ lw_all) (hf : 1 ≤ R.frames) (hl : 64 ≤ R.locals) (hc : (st.map fun v => v.category).sum ≤ 8) (kk : AW G R y cc nL ret Qf kc ks h (pc + 3) ls (.int (if x < z then z else x) :: st)) : AW G R y cc nL ret Qf kc ks h pc ls (.int z :: .int x :: st) := by
  intro p e s m args below meth c H locs cells slots lsA X hR hS hlv h1 h2
  exact va_mmax X.1 X.2.1 (X.2.2.2.2.1.trans hlv.1.symm) X.2.2.2.2.2.1 (X.2.2.2.2.2.2.1 _ hw) (X.2.2.2.2.2.2.1 _ q741) (X.2.2.2.2.2.2.1 _ q138) (X.2.2.2.2.2.2.1 _ q742) hf (by omega) (by omega) (by omega) d (kk p e s m args below meth c H locs cells slots lsA X hR hS hlv h1 h2)
theorem aw_mmin {index : Nat} {x z : Int32} (d : decode cc pc = .ok (.invokestatic index, 3)) (hw : Cond.methodLink y.cls index ⟨"java/lang/Math", "min", "(II)I"⟩ ∈ lw_all) (hf : 1 ≤ R.frames) (hl : 64 ≤ R.locals) (hc : (st.map fun v => v.category).sum ≤ 8) (kk : AW G R y cc nL ret Qf kc ks h (pc + 3) ls (.int (if z < x then z else x) :: st)) : AW G R y cc nL ret Qf kc ks h pc ls (.int z :: .int x :: st) := by
  intro p e s m args below meth c H locs cells slots lsA X hR hS hlv h1 h2
  exact va_mmin X.1 X.2.1 (X.2.2.2.2.1.trans hlv.1.symm) X.2.2.2.2.2.1 (X.2.2.2.2.2.2.1 _ hw) (X.2.2.2.2.2.2.1 _ q777) (X.2.2.2.2.2.2.1 _ q138) (X.2.2.2.2.2.2.1 _ q778) hf (by omega) (by omega) (by omega) d (kk p e s m args below meth c H locs cells slots lsA X hR hS hlv h1 h2)
theorem aw_mx {a b : Nat} (ha : a < 2147483648) (hb : b < 2147483648) : (if nI a < nI b then nI b else nI a) = nI (max a b) := by
  by_cases z : a < b
  · rw [if_pos ((nI_ltI ha hb).mpr z), Nat.max_eq_right (by omega)]
  · rw [if_neg (fun q => z ((nI_ltI ha hb).mp q)), Nat.max_eq_left (by omega)]
theorem aw_mn2 {a b : Nat} (ha : a < 2147483648) (hb : b < 2147483648) : (if nI b < nI a then nI b else nI a) = nI (min a b) := by
  by_cases z : b < a
  · rw [if_pos ((nI_ltI hb ha).mpr z), Nat.min_eq_right (by omega)]
  · rw [if_neg (fun q => z ((nI_ltI hb ha).mp q)), Nat.min_eq_left (by omega)]
theorem aw_mmaxN {index a b : Nat} (d : decode cc pc = .ok (.invokestatic index, 3)) (hw : Cond.methodLink y.cls index ⟨"java/lang/Math", "max", "(II)I"⟩ ∈ lw_all) (ha : a < 2147483648) (hb : b < 2147483648) (hf : 1 ≤ R.frames) (hl : 64 ≤ R.locals) (hc : (st.map fun v => v.category).sum ≤ 8) (kk : AW G R y cc nL ret Qf kc ks h (pc + 3) ls (.int (nI (max a b)) :: st)) : AW G R y cc nL ret Qf kc ks h pc ls (.int (nI b) :: .int (nI a) :: st) := aw_mmax d hw hf hl hc (by rw [aw_mx ha hb]; exact kk)
theorem aw_mminN {index a b : Nat} (d : decode cc pc = .ok (.invokestatic index, 3)) (hw : Cond.methodLink y.cls index ⟨"java/lang/Math", "min", "(II)I"⟩ ∈ lw_all) (ha : a < 2147483648) (hb : b < 2147483648) (hf : 1 ≤ R.frames) (hl : 64 ≤ R.locals) (hc : (st.map fun v => v.category).sum ≤ 8) (kk : AW G R y cc nL ret Qf kc ks h (pc + 3) ls (.int (nI (min a b)) :: st)) : AW G R y cc nL ret Qf kc ks h pc ls (.int (nI b) :: .int (nI a) :: st) := aw_mmin d hw hf hl hc (by rw [aw_mn2 ha hb]; exact kk)
end RO
set_option maxHeartbeats 4000000 in
theorem jp_chk {G : aw_G} {h : aw_H} {i n : Nat} (hi : i < n) (hn : n < 2147483648) : aw_Met G yJ6_checkIndex cJ6_checkIndex 3 (some .int) 0 0 0 [.int (nI (i)), .int (nI (n)), .null] h (fun v9 h9 => v9 = some (.int (nI i)) ∧ h9 = h) := by
  refine aw_Met.of (by decide +kernel) (Nat.le_of_ble_eq_true rfl) ?_
  show AW G (aw_rm 0 0 0) yJ6_checkIndex cJ6_checkIndex 3 (some .int) (aw_N G (fun v9 h9 => v9 = some (.int (nI i)) ∧ h9 = h) 0 0) 0 0 h 0 [(0, .int (nI (i))), (1, .int (nI (n))), (2, .null)] []
  refine aw_iload_n dJ6_checkIndex_0 rfl ?_
  refine aw_if_ltN (tgt := 9) dJ6_checkIndex_1 (by decide) (by omega) ?_
  refine aw_iload_n dJ6_checkIndex_4 rfl ?_
  refine aw_iload_n dJ6_checkIndex_5 rfl ?_
  refine aw_icmp_ltN (tgt := 16) dJ6_checkIndex_6 (by decide) (by omega) (by omega) (fun c_6 => ?_) (fun c_6 => by exfalso; omega)
  refine aw_iload_n dJ6_checkIndex_16 rfl ?_
  refine aw_ireturn dJ6_checkIndex_17 rfl ?_
  exact ⟨rfl, rfl⟩
set_option maxHeartbeats 4000000 in
theorem jo_chk {G : aw_G} {h : aw_H} {i n : Nat} (hi : i < n) (hn : n < 2147483648) : aw_Met G yJ5_checkIndex cJ5_checkIndex 2 (some .int) 1 0 0 [.int (nI (i)), .int (nI (n))] h (fun v9 h9 => v9 = some (.int (nI i)) ∧ h9 = h) := by
  refine aw_Met.of (by decide +kernel) (Nat.le_of_ble_eq_true rfl) ?_
  show AW G (aw_rm 1 0 0) yJ5_checkIndex cJ5_checkIndex 2 (some .int) (aw_N G (fun v9 h9 => v9 = some (.int (nI i)) ∧ h9 = h) 0 0) 0 0 h 0 [(0, .int (nI (i))), (1, .int (nI (n)))] []
  refine aw_iload_n dJ5_checkIndex_0 rfl ?_
  refine aw_iload_n dJ5_checkIndex_1 rfl ?_
  refine aw_null dJ5_checkIndex_2 ?_
  refine aw_roS dJ5_checkIndex_3 sJ5_105 rfl (jp_chk (by first | omega | assumption) (by first | omega | assumption)) rfl rfl ⟨Nat.le_of_ble_eq_true rfl, Nat.le_of_ble_eq_true rfl⟩ (Nat.le_of_ble_eq_true rfl) ?_
  refine aw_ireturn dJ5_checkIndex_6 rfl ?_
  exact ⟨rfl, rfl⟩
/-- a list's object -/
abbrev jl_o (m : Int32) (e n : Nat) : va_E := aw_o 14 [.int m, .ref e, .int (nI n)]
set_option maxHeartbeats 4000000 in
theorem jl_size {G : aw_G} {h : aw_H} {L e n : Nat} {m : Int32} (hL : h L = some (jl_o m e n)) : aw_Met G yJ2_size cJ2_size 1 (some .int) 0 0 0 [.ref (L)] h (fun v9 h9 => v9 = some (.int (nI n)) ∧ h9 = h) := by
  refine aw_Met.of (by decide +kernel) (Nat.le_of_ble_eq_true rfl) ?_
  show AW G (aw_rm 0 0 0) yJ2_size cJ2_size 1 (some .int) (aw_N G (fun v9 h9 => v9 = some (.int (nI n)) ∧ h9 = h) 0 0) 0 0 h 0 [(0, .ref (L))] []
  refine aw_aload_n dJ2_size_0 rfl ?_
  refine aw_get dJ2_size_1 fJ2_48 rfl hL (by rfl) ?_
  refine aw_ireturn dJ2_size_4 rfl ?_
  exact ⟨rfl, rfl⟩
set_option maxHeartbeats 4000000 in
theorem jl_isE {G : aw_G} {h : aw_H} {L e n : Nat} {m : Int32} (hL : h L = some (jl_o m e n)) (hn : n < 2147483648) : aw_Met G yJ2_isEmpty cJ2_isEmpty 1 (some .boolean) 0 0 0 [.ref (L)] h (fun v9 h9 => v9 = some (.int (nI (aw_t (n = 0)))) ∧ h9 = h) := by
  refine aw_Met.of (by decide +kernel) (Nat.le_of_ble_eq_true rfl) ?_
  show AW G (aw_rm 0 0 0) yJ2_isEmpty cJ2_isEmpty 1 (some .boolean) (aw_N G (fun v9 h9 => v9 = some (.int (nI (aw_t (n = 0)))) ∧ h9 = h) 0 0) 0 0 h 0 [(0, .ref (L))] []
  refine aw_aload_n dJ2_isEmpty_0 rfl ?_
  refine aw_get dJ2_isEmpty_1 fJ2_48 rfl hL (by rfl) ?_
  refine aw_if_neN (tgt := 11) dJ2_isEmpty_4 (by decide) (by omega) (fun c_4 => ?_) (fun c_4 => ?_)
  · refine aw_iconst (v := nI 0) dJ2_isEmpty_11 rfl ?_
    refine aw_zreturn dJ2_isEmpty_12 rfl rfl ?_
    refine ⟨?_, rfl⟩
    first
      | (rw [aw_t1 c_4]; done)
      | (rw [aw_t0 c_4]; done)
  · refine aw_iconst (v := nI 1) dJ2_isEmpty_7 rfl ?_
    refine aw_goto (tgt := 12) dJ2_isEmpty_8 (by decide) ?_
    refine aw_zreturn dJ2_isEmpty_12 rfl rfl ?_
    refine ⟨?_, rfl⟩
    first
      | (rw [aw_t1 c_4]; done)
      | (rw [aw_t0 c_4]; done)
set_option maxHeartbeats 4000000 in
theorem jl_elD {G : aw_G} {h : aw_H} {L e n cap i : Nat} {m : Int32} {f : Nat → Option Nat} {q : Nat} (hL : h L = some (jl_o m e n)) (he : h e = some (aw_O G cap f)) (hi : i < cap) (hc : cap < 2147483648) (hq : f i = some q) : aw_Met G yJ2_elementData cJ2_elementData 2 (some (.object "java/lang/Object")) 0 0 0 [.ref (L), .int (nI (i))] h (fun v9 h9 => v9 = some (.ref q) ∧ h9 = h) := by
  refine aw_Met.of (by decide +kernel) (Nat.le_of_ble_eq_true rfl) ?_
  show AW G (aw_rm 0 0 0) yJ2_elementData cJ2_elementData 2 (some (.object "java/lang/Object")) (aw_N G (fun v9 h9 => v9 = some (.ref q) ∧ h9 = h) 0 0) 0 0 h 0 [(0, .ref (L)), (1, .int (nI (i)))] []
  refine aw_aload_n dJ2_elementData_0 rfl ?_
  refine aw_get dJ2_elementData_1 fJ2_9 rfl hL (by rfl) ?_
  refine aw_iload_n dJ2_elementData_4 rfl ?_
  refine aw_oaldN dJ2_elementData_5 he hi hc ?_
  rw [hq]
  refine aw_areturn dJ2_elementData_6 rfl (Or.inl ⟨_, rfl⟩) (Or.inr ⟨_, rfl⟩) ?_
  exact ⟨rfl, rfl⟩
set_option maxHeartbeats 4000000 in
theorem jl_get {G : aw_G} {h : aw_H} {L e n cap i : Nat} {m : Int32} {f : Nat → Option Nat} {q : Nat} (hL : h L = some (jl_o m e n)) (he : h e = some (aw_O G cap f)) (hi : i < n) (hn : n ≤ cap) (hc : cap < 2147483648) (hq : f i = some q) : aw_Met G yJ2_get cJ2_get 2 (some (.object "java/lang/Object")) 2 0 0 [.ref (L), .int (nI (i))] h (fun v9 h9 => v9 = some (.ref q) ∧ h9 = h) := by
  refine aw_Met.of (by decide +kernel) (Nat.le_of_ble_eq_true rfl) ?_
  show AW G (aw_rm 2 0 0) yJ2_get cJ2_get 2 (some (.object "java/lang/Object")) (aw_N G (fun v9 h9 => v9 = some (.ref q) ∧ h9 = h) 0 0) 0 0 h 0 [(0, .ref (L)), (1, .int (nI (i)))] []
  refine aw_iload_n dJ2_get_0 rfl ?_
  refine aw_aload_n dJ2_get_1 rfl ?_
  refine aw_get dJ2_get_2 fJ2_48 rfl hL (by rfl) ?_
  refine aw_roS dJ2_get_5 sJ2_118 rfl (jo_chk hi (by omega)) rfl rfl ⟨Nat.le_of_ble_eq_true rfl, Nat.le_of_ble_eq_true rfl⟩ (Nat.le_of_ble_eq_true rfl) ?_
  refine aw_pop dJ2_get_8 rfl ?_
  refine aw_aload_n dJ2_get_9 rfl ?_
  refine aw_iload_n dJ2_get_10 rfl ?_
  refine aw_roV dJ2_get_11 sJ2_123 rfl (jl_elD hL he (by omega) hc hq) hL rfl rfl ⟨Nat.le_of_ble_eq_true rfl, Nat.le_of_ble_eq_true rfl⟩ (Nat.le_of_ble_eq_true rfl) ?_
  refine aw_areturn dJ2_get_14 rfl (Or.inl ⟨_, rfl⟩) (Or.inr ⟨_, rfl⟩) ?_
  exact ⟨rfl, rfl⟩

