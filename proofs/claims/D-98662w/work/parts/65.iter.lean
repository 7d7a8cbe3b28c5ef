set_option maxRecDepth 100000
/-! calls through an interface; iterators; a list is made -/
section ITR
variable {G : aw_G} {R : Room} {y : MethodName} {cc : ByteArray} {nL : Nat} {ret : Option FieldType} {Qf : List Frame → Array Value → State → State → Prop} {kc ks : Nat} {h : aw_H} {pc : Nat} {ls : List (Nat × Value)} {st : List Value}
theorem aw_cont5 {p : Program} {e : Env} {s : State} {m : MethodId} {args a : Array Value} {below : List Frame} {meth : Method} {c : Code} {H : Heap} {locs : List Loc} {cells slots mc2 ms2 : Nat} {lsA : Array Slot} {rest : List Value} {Po : Option Value → aw_H → Prop}
    (hr : va_Run5 p G.1 e R s m args below meth c H locs cells slots mc2 ms2 (F0 m pc lsA st) rest (aw_Q G Po a) (aw_A G)) (X : aw_C G y cc nL ret p e s m args meth c) (hS : va_S (aw_A G) s.heap H locs) (hlv : lv_has lsA nL ls) (h1 : cells + (kc + mc2) ≤ R.cells) (h2 : slots + (ks + ms2) ≤ R.slots)
    (kk : ∀ v h', Po v h' → AW G R y cc nL ret Qf kc ks h' (pc + 5) ls (v.toList ++ rest)) : W p G.1 e R s m args below meth c H locs cells slots (Qf below args s) (F0 m pc lsA st) := by
  intro T hT Y
  obtain ⟨v, st₀, t, T', L, h0, Y', hL, e1, e2, ⟨v', h', hv, hp, hb, hz, hk⟩, st⟩ := hr T hT Y
  cases hv
  rw [h0] at hz hk
  have hS' : va_S (aw_A G) s.heap T'.heap (locs ++ L) := ⟨Nat.le_trans hS.1 (by rw [e1]; exact hz), fun q g1 g2 => by rw [e1, hk q (Nat.lt_of_lt_of_le g1 hS.1) g2]; exact hS.2.1 q g1 g2, fun q hq => by
    rcases List.mem_append.mp hq with g | g
    · exact hS.2.2 q g
    · exact hL q g⟩
  obtain ⟨t2, a1, b1⟩ := kk v h' hp p e s m args below meth c T'.heap (locs ++ L) (cells + mc2) (slots + ms2) lsA X (by rw [e1]; exact hb) hS' hlv (by omega) (by omega) T' rfl Y'
  exact ⟨t2, st t2 a1, b1⟩
/-- what a call of x through an iterator asks -/
def aw_SF (own : String) (index : Nat) (x y2 : MethodName) (cc2 : ByteArray) (nL2 : Nat) (ret2 : Option FieldType) (n : Nat) : Prop := GoodIn lw_all (va_wsF own index RJ10 x y2 (ws_ y2 cc2 nL2 ret2)) ∧ (∀ G U, aw_Tb G U → va_Fw RJ10 x y2 U) ∧ (x.cls ≠ "java/lang/invoke/MethodHandle" ∧ x.cls ≠ "java/lang/invoke/VarHandle" ∧ (parseMethodDescriptor x.desc).map (fun d => d.parameters.length) = some n)
theorem aw_roF {own : String} {x y2 : MethodName} {cc2 : ByteArray} {nL2 n index count b f2 : Nat} {ret2 : Option FieldType} {fs As rest : List Value} {Po : Option Value → aw_H → Prop} (d : decode cc pc = .ok (.invokeinterface index count, 5)) (S : aw_SF own index x y2 cc2 nL2 ret2 n) (ho : own = y.cls) (hM : aw_Met G y2 cc2 nL2 ret2 f2 0 0 (.ref b :: As) h Po) (hb : h b = some (aw_o 15 fs)) (hst : st = As.reverse ++ .ref b :: rest) (hn : As.length = n) (hR : f2 + 1 ≤ R.frames ∧ 8 + (nL2 + 11) + 64 * f2 ≤ R.locals) (hc : (rest.map fun v => v.category).sum ≤ 8)
    (kk : ∀ v h', Po v h' → AW G R y cc nL ret Qf kc ks h' (pc + 5) ls (v.toList ++ rest)) : AW G R y cc nL ret Qf kc ks h pc ls st := by
  subst ho
  subst hst
  obtain ⟨S1, S0, S2⟩ := S
  intro p e s m args below meth c H locs cells slots lsA X hR9 hS hlv h1 h2
  exact aw_cont5 (va_runF (As := As) (rest := rest) (X.2.2.2.2.2.2.2.1.1.1 15 _ aw_cl15).2 ⟨X.1, X.2.1, X.2.2.2.2.1, X.2.2.2.2.2.1, X.2.2.2.2.2.2.1⟩ hM (va_cwF n X.2.2.2.2.2.2.1 S1 rfl rfl rfl (S0 _ _ X.2.2.2.2.2.2.2.1) S2 hR) ⟨aw_P.blind, va_recv X.2.2.2.2.2.2.2.1.1 (hR9.one hb) aw_cl15 (q0 := 0) rfl, fun U hU hW => aw_P.mk X hR9 hS hU hW⟩ rfl hn hlv.1 rfl (lv_room hc) d ⟨by omega, by omega⟩) X hS hlv h1 h2 kk
end ITR
set_option maxHeartbeats 4000000 in
theorem jc_init0 {G : aw_G} {h : aw_H} {a : Nat} : aw_Met G yJ0_init cJ0_init 1 none 1 0 0 [.ref (a)] h (fun v9 h9 => v9 = none ∧ h9 = h) := by
  refine aw_Met.of (by decide +kernel) (Nat.le_of_ble_eq_true rfl) ?_
  show AW G (aw_rm 1 0 0) yJ0_init cJ0_init 1 none (aw_N G (fun v9 h9 => v9 = none ∧ h9 = h) 0 0) 0 0 h 0 [(0, .ref (a))] []
  refine aw_aload_n dJ0_init_0 rfl ?_
  refine aw_objInit dJ0_init_1 q175 q156 q157 (Nat.le_of_ble_eq_true rfl) (Nat.le_of_ble_eq_true rfl) (by exact Nat.le_of_ble_eq_true rfl) ?_
  refine aw_vreturn dJ0_init_4 rfl ?_
  exact ⟨rfl, rfl⟩
set_option maxHeartbeats 4000000 in
theorem jc_init1 {G : aw_G} {h : aw_H} {a : Nat} {v : Value} {fs : List Value} (hab : aw_b G ≤ a) (ha : h a = some (aw_o 14 (v :: fs))) : aw_Met G yJ1_init cJ1_init 1 none 2 0 0 [.ref (a)] h (fun v9 h9 => v9 = none ∧ h9 = aw_up h a (aw_o 14 (.int 0 :: fs))) := by
  refine aw_Met.of (by decide +kernel) (Nat.le_of_ble_eq_true rfl) ?_
  show AW G (aw_rm 2 0 0) yJ1_init cJ1_init 1 none (aw_N G (fun v9 h9 => v9 = none ∧ h9 = aw_up h a (aw_o 14 (.int 0 :: fs))) 0 0) 0 0 h 0 [(0, .ref (a))] []
  refine aw_aload_n dJ1_init_0 rfl ?_
  refine aw_callI (kc := 0) (ks := 0) (mc2 := 0) (ms2 := 0) dJ1_init_1 sJ1_1 rfl (jc_init0 (a := a)) rfl rfl ⟨Nat.le_of_ble_eq_true rfl, Nat.le_of_ble_eq_true rfl⟩ (by exact Nat.le_of_ble_eq_true rfl) (fun v9 h9 q9 => ?_)
  obtain ⟨rfl, e9⟩ := q9
  rw [e9]
  refine aw_aload_n dJ1_init_4 rfl ?_
  refine aw_iconst (v := nI 0) dJ1_init_5 rfl ?_
  refine aw_put dJ1_init_6 (pJ1_7 _) rfl rfl hab ha (by exact Nat.le_of_ble_eq_true rfl) rfl rfl ?_
  refine aw_vreturn dJ1_init_9 rfl ?_
  exact ⟨rfl, rfl⟩
set_option maxHeartbeats 4000000 in
theorem jl_init {G : aw_G} {h : aw_H} {a : Nat} (hab : aw_b G ≤ a) (ha : h a = some (aw_o 14 [.int 0, .null, .int 0])) : aw_Met G yJ2_init cJ2_init 1 none 3 0 0 [.ref (a)] h (fun v9 h9 => v9 = none ∧ h9 = aw_up h a (jl_o 0 (aw_ad G 0) 0)) := by
  refine aw_Met.of (by decide +kernel) (Nat.le_of_ble_eq_true rfl) ?_
  show AW G (aw_rm 3 0 0) yJ2_init cJ2_init 1 none (aw_N G (fun v9 h9 => v9 = none ∧ h9 = aw_up h a (jl_o 0 (aw_ad G 0) 0)) 0 0) 0 0 h 0 [(0, .ref (a))] []
  refine aw_aload_n dJ2_init_0 rfl ?_
  refine aw_callI (kc := 0) (ks := 0) (mc2 := 0) (ms2 := 0) dJ2_init_1 sJ2_1 rfl (jc_init1 hab ha) rfl rfl ⟨Nat.le_of_ble_eq_true rfl, Nat.le_of_ble_eq_true rfl⟩ (by exact Nat.le_of_ble_eq_true rfl) (fun v9 h9 q9 => ?_)
  obtain ⟨rfl, e9⟩ := q9
  rw [e9]
  refine aw_aload_n dJ2_init_4 rfl ?_
  refine aw_gets dJ2_init_5 q176 rfl (fun U H z => z.1) ?_
  refine aw_put dJ2_init_8 (pJ2_9 _) rfl rfl hab (aw_up_s _ _ _) (by exact Nat.le_of_ble_eq_true rfl) rfl rfl ?_
  refine aw_vreturn dJ2_init_11 rfl ?_
  exact ⟨rfl, by rw [aw_up_up]; rfl⟩
/-- an iterator -/
abbrev jt_o (c r m : Int32) (L : Nat) : va_E := aw_o 15 [.int c, .int r, .int m, .ref L]
set_option maxHeartbeats 4000000 in
theorem jt_init {G : aw_G} {h : aw_H} {a L e n : Nat} {m : Int32} (hab : aw_b G ≤ a) (ha : h a = some (aw_o 15 [.int 0, .int 0, .int 0, .null])) (hL : h L = some (jl_o m e n)) : aw_Met G yJ10_init cJ10_init 2 none 2 0 0 [.ref (a), .ref (L)] h (fun v9 h9 => v9 = none ∧ h9 = aw_up h a (jt_o 0 (-1) m L)) := by
  refine aw_Met.of (by decide +kernel) (Nat.le_of_ble_eq_true rfl) ?_
  show AW G (aw_rm 2 0 0) yJ10_init cJ10_init 2 none (aw_N G (fun v9 h9 => v9 = none ∧ h9 = aw_up h a (jt_o 0 (-1) m L)) 0 0) 0 0 h 0 [(0, .ref (a)), (1, .ref (L))] []
  have ne : L ≠ a := fun z => by rw [z, ha] at hL; cases hL
  refine aw_aload_n dJ10_init_0 rfl ?_
  refine aw_aload_n dJ10_init_1 rfl ?_
  refine aw_put dJ10_init_2 pJ10_1 rfl rfl hab ha (by exact Nat.le_of_ble_eq_true rfl) rfl rfl ?_
  refine aw_aload_n dJ10_init_5 rfl ?_
  refine aw_objInit dJ10_init_6 q637 q156 q157 (Nat.le_of_ble_eq_true rfl) (Nat.le_of_ble_eq_true rfl) (by exact Nat.le_of_ble_eq_true rfl) ?_
  refine aw_aload_n dJ10_init_9 rfl ?_
  refine aw_iconst (v := -1) dJ10_init_10 rfl ?_
  refine aw_put dJ10_init_11 (pJ10_13 _) rfl rfl hab (aw_up_s _ _ _) (by exact Nat.le_of_ble_eq_true rfl) rfl rfl ?_
  refine aw_aload_n dJ10_init_14 rfl ?_
  refine aw_aload_n dJ10_init_15 rfl ?_
  refine aw_get dJ10_init_16 fJ10_1 rfl (aw_up_s _ _ _) (by rfl) ?_
  refine jl_getM dJ10_init_19 q183 rfl ((aw_up_n ne).trans ((aw_up_n ne).trans hL)) ?_
  refine aw_put dJ10_init_22 (pJ10_22 _) rfl rfl hab (aw_up_s _ _ _) (by exact Nat.le_of_ble_eq_true rfl) rfl rfl ?_
  refine aw_vreturn dJ10_init_25 rfl ?_
  exact ⟨rfl, by rw [aw_up_up, aw_up_up]; rfl⟩
set_option maxHeartbeats 4000000 in
theorem jl_iter {G : aw_G} {h : aw_H} {L e n : Nat} {m : Int32} (hL : h L = some (jl_o m e n)) : aw_Met G yJ2_iterator cJ2_iterator 1 (some (.object "java/util/Iterator")) 3 1 4 [.ref (L)] h (fun v9 h9 => ∃ q, v9 = some (.ref q) ∧ h q = none ∧ aw_b G ≤ q ∧ h9 = aw_up h q (jt_o 0 (-1) m L)) := by
  refine aw_Met.of (by decide +kernel) (Nat.le_of_ble_eq_true rfl) ?_
  show AW G (aw_rm 3 1 4) yJ2_iterator cJ2_iterator 1 (some (.object "java/util/Iterator")) (aw_N G (fun v9 h9 => ∃ q, v9 = some (.ref q) ∧ h q = none ∧ aw_b G ≤ q ∧ h9 = aw_up h q (jt_o 0 (-1) m L)) 1 4) 1 4 h 0 [(0, .ref (L))] []
  refine AW_le (kc' := 0 + 1) (ks' := 0 + 4) (by omega) (by omega) ?_
  refine aw_new dJ2_iterator_0 nJ2_267 rfl (fun q hq bq => ?_)
  refine aw_dup dJ2_iterator_3 rfl ?_
  refine aw_aload_n dJ2_iterator_4 rfl ?_
  refine aw_callI (kc := 0) (ks := 0) (mc2 := 0) (ms2 := 0) dJ2_iterator_5 sJ2_269 rfl (jt_init bq (aw_up_s _ _ _) ((aw_up_n (aw_ne hq hL)).trans hL)) rfl rfl ⟨Nat.le_of_ble_eq_true rfl, Nat.le_of_ble_eq_true rfl⟩ (by exact Nat.le_of_ble_eq_true rfl) (fun v9 h9 q9 => ?_)
  obtain ⟨rfl, e9⟩ := q9
  rw [e9]
  refine aw_areturn dJ2_iterator_8 rfl (Or.inl ⟨_, rfl⟩) (Or.inr ⟨_, rfl⟩) ?_
  exact ⟨q, rfl, hq, bq, by rw [aw_up_up]⟩
set_option maxHeartbeats 4000000 in
theorem jt_has {G : aw_G} {h : aw_H} {a L e n c : Nat} {r m m2 : Int32} (ha : h a = some (jt_o (nI c) r m2 L)) (hL : h L = some (jl_o m e n)) (hc : c < 2147483648) (hn : n < 2147483648) : aw_Met G yJ10_hasNext cJ10_hasNext 1 (some .boolean) 0 0 0 [.ref (a)] h (fun v9 h9 => v9 = some (.int (nI (aw_t (c ≠ n)))) ∧ h9 = h) := by
  refine aw_Met.of (by decide +kernel) (Nat.le_of_ble_eq_true rfl) ?_
  show AW G (aw_rm 0 0 0) yJ10_hasNext cJ10_hasNext 1 (some .boolean) (aw_N G (fun v9 h9 => v9 = some (.int (nI (aw_t (c ≠ n)))) ∧ h9 = h) 0 0) 0 0 h 0 [(0, .ref (a))] []
  refine aw_aload_n dJ10_hasNext_0 rfl ?_
  refine aw_get dJ10_hasNext_1 fJ10_25 rfl ha (by rfl) ?_
  refine aw_aload_n dJ10_hasNext_4 rfl ?_
  refine aw_get dJ10_hasNext_5 fJ10_1 rfl ha (by rfl) ?_
  refine aw_get dJ10_hasNext_8 fJ10_28 rfl hL (by rfl) ?_
  refine aw_icmp_eqN (tgt := 18) dJ10_hasNext_11 (by decide) (by omega) (by omega) (fun c_11 => ?_) (fun c_11 => ?_)
  · refine aw_iconst (v := nI 0) dJ10_hasNext_18 rfl ?_
    refine aw_zreturn dJ10_hasNext_19 rfl rfl ?_
    refine ⟨?_, rfl⟩
    first
      | (rw [aw_t1 c_11]; done)
      | (rw [aw_t0 (fun z => z c_11)]; done)
  · refine aw_iconst (v := nI 1) dJ10_hasNext_14 rfl ?_
    refine aw_goto (tgt := 19) dJ10_hasNext_15 (by decide) ?_
    refine aw_zreturn dJ10_hasNext_19 rfl rfl ?_
    refine ⟨?_, rfl⟩
    first
      | (rw [aw_t1 c_11]; done)
      | (rw [aw_t0 (fun z => z c_11)]; done)
set_option maxHeartbeats 4000000 in
theorem jt_chk {G : aw_G} {h : aw_H} {a L e n : Nat} {c r m : Int32} (ha : h a = some (jt_o c r m L)) (hL : h L = some (jl_o m e n)) : aw_Met G yJ10_checkForComodification cJ10_checkForComodification 1 none 0 0 0 [.ref (a)] h (fun v9 h9 => v9 = none ∧ h9 = h) := by
  refine aw_Met.of (by decide +kernel) (Nat.le_of_ble_eq_true rfl) ?_
  show AW G (aw_rm 0 0 0) yJ10_checkForComodification cJ10_checkForComodification 1 none (aw_N G (fun v9 h9 => v9 = none ∧ h9 = h) 0 0) 0 0 h 0 [(0, .ref (a))] []
  refine aw_aload_n dJ10_checkForComodification_0 rfl ?_
  refine aw_get dJ10_checkForComodification_1 fJ10_1 rfl ha (by rfl) ?_
  refine jl_getM dJ10_checkForComodification_4 q183 rfl hL ?_
  refine aw_aload_n dJ10_checkForComodification_7 rfl ?_
  refine aw_get dJ10_checkForComodification_8 fJ10_22 rfl ha (by rfl) ?_
  refine aw_icmp_eq (tgt := 22) dJ10_checkForComodification_11 (by decide) (fun c_11 => ?_) (fun c_11 => by exfalso; exact c_11 rfl)
  refine aw_vreturn dJ10_checkForComodification_22 rfl ?_
  exact ⟨rfl, rfl⟩
set_option maxHeartbeats 4000000 in
theorem jt_next {G : aw_G} {h : aw_H} {a L e n c cap q0 : Nat} {r m : Int32} {f : Nat → Option Nat} (hab : aw_b G ≤ a) (ha : h a = some (jt_o (nI c) r m L)) (hL : h L = some (jl_o m e n)) (he : h e = some (aw_O G cap f)) (hc : c < n) (hn : n ≤ cap) (hcap : cap ≤ 100000) (hq : f c = some q0) : aw_Met G yJ10_next cJ10_next 3 (some (.object "java/lang/Object")) 1 0 0 [.ref (a)] h (fun v9 h9 => v9 = some (.ref q0) ∧ h9 = aw_up h a (jt_o (nI (c + 1)) (nI c) m L)) := by
  refine aw_Met.of (by decide +kernel) (Nat.le_of_ble_eq_true rfl) ?_
  show AW G (aw_rm 1 0 0) yJ10_next cJ10_next 3 (some (.object "java/lang/Object")) (aw_N G (fun v9 h9 => v9 = some (.ref q0) ∧ h9 = aw_up h a (jt_o (nI (c + 1)) (nI c) m L)) 0 0) 0 0 h 0 [(0, .ref (a))] []
  have ne : e ≠ a := fun z => by rw [z, ha] at he; cases he
  refine aw_aload_n dJ10_next_0 rfl ?_
  refine aw_roV dJ10_next_1 sJ10_31 rfl (jt_chk ha hL) ha rfl rfl ⟨Nat.le_of_ble_eq_true rfl, Nat.le_of_ble_eq_true rfl⟩ (Nat.le_of_ble_eq_true rfl) ?_
  refine aw_aload_n dJ10_next_4 rfl ?_
  refine aw_get dJ10_next_5 fJ10_25 rfl ha (by rfl) ?_
  refine aw_istore_n dJ10_next_8 (by decide) rfl rfl ?_
  refine aw_iload_n dJ10_next_9 rfl ?_
  refine aw_aload_n dJ10_next_10 rfl ?_
  refine aw_get dJ10_next_11 fJ10_1 rfl ha (by rfl) ?_
  refine aw_get dJ10_next_14 fJ10_28 rfl hL (by rfl) ?_
  refine aw_icmp_ltN (tgt := 28) dJ10_next_17 (by decide) (by omega) (by omega) (fun c_17 => ?_) (fun c_17 => by exfalso; omega)
  refine aw_aload_n dJ10_next_28 rfl ?_
  refine aw_get dJ10_next_29 fJ10_1 rfl ha (by rfl) ?_
  refine aw_get dJ10_next_32 fJ10_37 rfl hL (by rfl) ?_
  refine aw_astore_n dJ10_next_35 (by decide) rfl rfl ?_
  refine aw_iload_n dJ10_next_36 rfl ?_
  refine aw_aload_n dJ10_next_37 rfl ?_
  refine aw_olen dJ10_next_38 he ?_
  refine AW_st (show _ = Value.int (nI cap) :: _ from rfl) ?_
  refine aw_icmp_ltN (tgt := 50) dJ10_next_39 (by decide) (by omega) (by omega) (fun c_39 => ?_) (fun c_39 => by exfalso; omega)
  refine aw_aload_n dJ10_next_50 rfl ?_
  refine aw_iload_n dJ10_next_51 rfl ?_
  refine aw_iconst (v := nI 1) dJ10_next_52 rfl ?_
  refine aw_iaddN dJ10_next_53 ?_
  refine aw_put dJ10_next_54 (pJ10_25 _) rfl rfl hab ha (by exact Nat.le_of_ble_eq_true rfl) rfl rfl ?_
  refine aw_aload_n dJ10_next_57 rfl ?_
  refine aw_aload_n dJ10_next_58 rfl ?_
  refine aw_iload_n dJ10_next_59 rfl ?_
  refine aw_dup_x1 dJ10_next_60 rfl rfl ?_
  refine aw_put dJ10_next_61 (pJ10_13 _) rfl rfl hab (aw_up_s _ _ _) (by exact Nat.le_of_ble_eq_true rfl) rfl rfl ?_
  refine aw_oaldN dJ10_next_64 ((aw_up_n ne).trans ((aw_up_n ne).trans he)) (show c < cap by omega) (by omega) ?_
  rw [hq]
  refine aw_areturn dJ10_next_65 rfl (Or.inl ⟨_, rfl⟩) (Or.inr ⟨_, rfl⟩) ?_
  exact ⟨rfl, by rw [aw_up_up]; rfl⟩

