set_option maxRecDepth 100000
/-! lists that grow and shrink -/
section JLM
variable {G : aw_G} {R : Room} {y : MethodName} {cc : ByteArray} {nL : Nat} {ret : Option FieldType} {Qf : List Frame → Array Value → State → State → Prop} {kc ks : Nat} {h : aw_H} {pc : Nat} {ls : List (Nat × Value)} {st : List Value}
/-- how often a list has changed: a field of AbstractList's, named through ArrayList -/
theorem jl_getM {own : String} {index a : Nat} {fs : List Value} {v : Value} (d : decode cc pc = .ok (.getfield index, 3)) (hl : Cond.fieldLink own index "java/util/ArrayList" "modCount" "I" ∈ lw_all) (ho : own = y.cls) (he : h a = some (aw_o 14 (v :: fs))) (kk : AW G R y cc nL ret Qf kc ks h (pc + 3) ls (v :: st)) : AW G R y cc nL ret Qf kc ks h pc ls (.ref a :: st) := by
  subst ho
  intro p e s m args below meth c H locs cells slots lsA X hR hS hlv h1 h2
  exact va_get X.1 X.2.1 X.2.2.2.2.2.2.1 in_J2 X.2.2.2.2.2.1 X.2.2.2.2.2.2.2.1.1 (hR.one he) 0 rfl aw_cl14 0 (by decide) (X.2.2.2.2.2.2.1 _ hl) (fun x z => u_same (X.2.2.2.2.2.2.1 _ q184) x z) rfl d (kk p e s m args below meth c H locs cells slots lsA X hR hS hlv h1 h2)
theorem jl_putM {own : String} {index a : Nat} {fs : List Value} {v0 : Value} {v : Int32} (d : decode cc pc = .ok (.putfield index, 3)) (hl : Cond.fieldLink own index "java/util/ArrayList" "modCount" "I" ∈ lw_all) (ho : own = y.cls) (hab : aw_b G ≤ a) (he : h a = some (aw_o 14 (v0 :: fs))) (kk : AW G R y cc nL ret Qf kc ks (aw_up h a (aw_o 14 (.int v :: fs))) (pc + 3) ls st) : AW G R y cc nL ret Qf kc ks h pc ls (.int v :: .ref a :: st) := by
  subst ho
  intro p e s m args below meth c H locs cells slots lsA X hR hS hlv h1 h2
  obtain ⟨ws, g1, hP, hD, g4⟩ := hR
  obtain ⟨q0, hq⟩ := List.mem_iff_getElem?.mp ((g1 a _ hab).mp he)
  have hb9 : aw_b G ≤ s.heap.size := X.2.2.2.2.2.2.2.2.2.1
  refine va_put X.1 X.2.1 X.2.2.2.2.2.2.1 in_J2 tyJ2 tyJ2_ok nmJ2 X.2.2.2.2.2.1 X.2.2.2.2.2.2.2.1.1 hP hD hS q0 hq aw_cl14 0 (by decide) (X.2.2.2.2.2.2.1 _ hl) (fun x z => u_same (X.2.2.2.2.2.2.1 _ q184) x z) rfl rfl rfl rfl (Nat.zero_lt_succ _) d (fun H1 locs1 hP1 hD1 hS1 => ?_)
  refine kk p e s m args below meth c H1 locs1 cells slots lsA X (aw_R.put g1 g4 hq hP1 hD hD1 ?_) hS1 hlv h1 h2
  intro q n1 n2
  have n3 : q < s.heap.size := Nat.lt_of_lt_of_le (Nat.lt_of_not_le n1) hb9
  rw [hS1.2.1 q n3 n1, hS.2.1 q n3 n1]
end JLM
set_option maxHeartbeats 4000000 in
theorem jn_len {o mn pf : Nat} (h1 : 1 ≤ mn) (ho : o < 100000) (hm : mn < 100000) (hp : pf < 100000) : aw_Pu yJ11_newLength cJ11_newLength 4 (some .int) 1 [.int (nI (o)), .int (nI (mn)), .int (nI (pf))] (.int (nI (o + max mn pf))) := by
  refine fun G h => aw_Met.of (by decide +kernel) (Nat.le_of_ble_eq_true rfl) ?_
  show AW G (aw_rm 1 0 0) yJ11_newLength cJ11_newLength 4 (some .int) (aw_N G (fun v9 h9 => v9 = some (.int (nI (o + max mn pf))) ∧ h9 = h) 0 0) 0 0 h 0 [(0, .int (nI (o))), (1, .int (nI (mn))), (2, .int (nI (pf)))] []
  refine aw_iload_n dJ11_newLength_0 rfl ?_
  refine aw_iload_n dJ11_newLength_1 rfl ?_
  refine aw_iload_n dJ11_newLength_2 rfl ?_
  refine aw_mmaxN dJ11_newLength_3 q740 (by omega) (by omega) (Nat.le_of_ble_eq_true rfl) (Nat.le_of_ble_eq_true rfl) (Nat.le_of_ble_eq_true rfl) ?_
  refine aw_iaddN dJ11_newLength_6 ?_
  refine aw_istore_n dJ11_newLength_7 (by decide) rfl rfl ?_
  refine aw_iconst (v := nI 0) dJ11_newLength_8 rfl ?_
  refine aw_iload_n dJ11_newLength_9 rfl ?_
  refine aw_icmp_geN (tgt := 21) dJ11_newLength_10 (by decide) (by omega) (by omega) (fun c_10 => by exfalso; omega) (fun c_10 => ?_)
  refine aw_iload_n dJ11_newLength_13 rfl ?_
  refine aw_ldc (v := nI 2147483639) dJ11_newLength_14 q743 ?_
  refine aw_icmp_gtN (tgt := 21) dJ11_newLength_16 (by decide) (by omega) (by omega) (fun c_16 => by exfalso; omega) (fun c_16 => ?_)
  refine aw_iload_n dJ11_newLength_19 rfl ?_
  refine aw_ireturn dJ11_newLength_20 rfl ?_
  exact ⟨rfl, rfl⟩
/-- the room behind the next growth -/
def jl_nx (n : Nat) : Nat := if n = 0 then 10 else n + max 1 (n / 2)
set_option maxHeartbeats 4000000 in
theorem jl_grow2 {G : aw_G} {h : aw_H} {L e cap n : Nat} {m : Int32} {f : Nat → Option Nat} (hLb : aw_b G ≤ L) (hL : h L = some (jl_o m e n)) (he : h e = some (aw_O G cap f)) (hc : cap ≤ 33) (hn : n = cap) (h0 : cap = 0 → e = aw_ad G 0) (h1 : 0 < cap → aw_b G ≤ e) (hel : ∀ i, i < n → ∀ q, f i = some q → aw_isO h q) : aw_Met G yJ2_grow_2 cJ2_grow_2 4 (some (.array (.object "java/lang/Object"))) 4 1 64 [.ref (L), .int (nI ((n + 1)))] h (fun v9 h9 => ∃ q N, v9 = some (.ref q) ∧ h q = none ∧ aw_b G ≤ q ∧ n < N ∧ (N ≤ 49 ∧ N = jl_nx n) ∧ h9 = aw_up (aw_up h q (aw_O G N (jl_c f n))) L (jl_o m q n)) := by
  refine aw_Met.of (by decide +kernel) (Nat.le_of_ble_eq_true rfl) ?_
  show AW G (aw_rm 4 1 64) yJ2_grow_2 cJ2_grow_2 4 (some (.array (.object "java/lang/Object"))) (aw_N G (fun v9 h9 => ∃ q N, v9 = some (.ref q) ∧ h q = none ∧ aw_b G ≤ q ∧ n < N ∧ (N ≤ 49 ∧ N = jl_nx n) ∧ h9 = aw_up (aw_up h q (aw_O G N (jl_c f n))) L (jl_o m q n)) 1 64) 1 64 h 0 [(0, .ref (L)), (1, .int (nI ((n + 1))))] []
  subst hn
  by_cases z : n = 0
  · have ee := h0 z
    refine aw_aload_n dJ2_grow_2_0 rfl ?_
    refine aw_get dJ2_grow_2_1 fJ2_9 rfl hL (by rfl) ?_
    refine aw_olen dJ2_grow_2_4 he ?_
    refine AW_st (show _ = Value.int (nI n) :: _ from rfl) ?_
    refine aw_istore_n dJ2_grow_2_5 (by decide) rfl rfl ?_
    refine aw_iload_n dJ2_grow_2_6 rfl ?_
    refine aw_if_gtN (tgt := 20) dJ2_grow_2_7 (by decide) (by omega) (fun c_7 => by exfalso; omega) (fun c_7 => ?_)
    refine aw_aload_n dJ2_grow_2_10 rfl ?_
    refine aw_get dJ2_grow_2_11 fJ2_9 rfl hL (by rfl) ?_
    refine aw_gets dJ2_grow_2_14 q176 rfl (fun U H z => z.1) ?_
    refine aw_acmp_eq (tgt := 45) dJ2_grow_2_17 (by decide) (fun c_17 => ?_) (fun c_17 => by exfalso; exact c_17 ee)
    refine aw_aload_n dJ2_grow_2_45 rfl ?_
    refine aw_bipush (v := nI 10) dJ2_grow_2_46 rfl ?_
    refine aw_iload_n dJ2_grow_2_48 rfl ?_
    refine aw_mmaxN dJ2_grow_2_49 q782 (by omega) (by omega) (Nat.le_of_ble_eq_true rfl) (Nat.le_of_ble_eq_true rfl) (Nat.le_of_ble_eq_true rfl) ?_
    refine AW_le (kc' := 0 + 1) (ks' := 0 + max 10 (n + 1)) (by omega) (by omega) ?_
    refine aw_newO (y := yJ2_grow_2) (N := (max 10 (n + 1))) dJ2_grow_2_52 q783 (nI_pos (by omega)) (nI_clamp (by omega)) (by first | decide | omega) (fun q hq bq => ?_)
    refine aw_dup_x1 dJ2_grow_2_55 rfl rfl ?_
    refine aw_put dJ2_grow_2_56 (pJ2_9 _) rfl rfl hLb ((aw_up_n (aw_ne hq hL)).trans hL) (by exact Nat.le_of_ble_eq_true rfl) rfl rfl ?_
    refine aw_areturn dJ2_grow_2_59 rfl (Or.inr ⟨_, rfl⟩) (Or.inr ⟨_, rfl⟩) ?_
    refine ⟨q, max 10 (n + 1), rfl, hq, bq, by omega, ⟨by omega, by unfold jl_nx; rw [if_pos z]; omega⟩, ?_⟩
    congr 2
    congr 1
    funext j
    unfold jl_c
    rw [if_neg (by omega)]
  · have hb := h1 (by omega)
    refine aw_aload_n dJ2_grow_2_0 rfl ?_
    refine aw_get dJ2_grow_2_1 fJ2_9 rfl hL (by rfl) ?_
    refine aw_olen dJ2_grow_2_4 he ?_
    refine AW_st (show _ = Value.int (nI n) :: _ from rfl) ?_
    refine aw_istore_n dJ2_grow_2_5 (by decide) rfl rfl ?_
    refine aw_iload_n dJ2_grow_2_6 rfl ?_
    refine aw_if_gtN (tgt := 20) dJ2_grow_2_7 (by decide) (by omega) (fun c_7 => ?_) (fun c_7 => by exfalso; omega)
    refine aw_iload_n dJ2_grow_2_20 rfl ?_
    refine aw_iload_n dJ2_grow_2_21 rfl ?_
    refine aw_iload_n dJ2_grow_2_22 rfl ?_
    refine aw_isubN dJ2_grow_2_23 (by omega) ?_
    refine aw_iload_n dJ2_grow_2_24 rfl ?_
    refine aw_iconst (v := nI 1) dJ2_grow_2_25 rfl ?_
    refine aw_ishrN dJ2_grow_2_26 (by omega) (by omega) ?_
    refine aw_callP (r := _) dJ2_grow_2_27 sJ2_73 rfl (jn_len (by omega) (by omega) (by omega) (by omega)) rfl rfl ⟨Nat.le_of_ble_eq_true rfl, Nat.le_of_ble_eq_true rfl⟩ (Nat.le_of_ble_eq_true rfl) ?_
    refine aw_istore_n dJ2_grow_2_30 (by decide) rfl rfl ?_
    refine aw_aload_n dJ2_grow_2_31 rfl ?_
    refine aw_aload_n dJ2_grow_2_32 rfl ?_
    refine aw_get dJ2_grow_2_33 fJ2_9 rfl hL (by rfl) ?_
    refine aw_iload_n dJ2_grow_2_36 rfl ?_
    refine AW_le (kc' := 0 + 1) (ks' := 0 + (n + max (n + 1 - n) (n / 2 ^ 1))) (by omega) (by omega) ?_
    refine aw_callS (kc := 0) (ks := 0) (mc2 := 1) (ms2 := n + max (n + 1 - n) (n / 2 ^ 1)) dJ2_grow_2_37 sJ2_66 rfl (ja_cpy (N := n + max (n + 1 - n) (n / 2 ^ 1)) hb he (by omega) (by omega) hel) rfl rfl ⟨Nat.le_of_ble_eq_true rfl, Nat.le_of_ble_eq_true rfl⟩ (by exact Nat.le_of_ble_eq_true rfl) (fun v9 h9 q9 => ?_)
    obtain ⟨q, rfl, q2, q3, q4⟩ := q9
    rw [q4]
    refine aw_dup_x1 dJ2_grow_2_40 rfl rfl ?_
    refine aw_put dJ2_grow_2_41 (pJ2_9 _) rfl rfl hLb ((aw_up_n (aw_ne q2 hL)).trans hL) (by exact Nat.le_of_ble_eq_true rfl) rfl rfl ?_
    refine aw_areturn dJ2_grow_2_44 rfl (Or.inr ⟨_, rfl⟩) (Or.inr ⟨_, rfl⟩) ?_
    exact ⟨q, _, rfl, q2, q3, by omega, ⟨by omega, by unfold jl_nx; rw [if_neg z]; omega⟩, rfl⟩
set_option maxHeartbeats 4000000 in
theorem jl_grow {G : aw_G} {h : aw_H} {L e cap n : Nat} {m : Int32} {f : Nat → Option Nat} (hLb : aw_b G ≤ L) (hL : h L = some (jl_o m e n)) (he : h e = some (aw_O G cap f)) (hc : cap ≤ 33) (hn : n = cap) (h0 : cap = 0 → e = aw_ad G 0) (h1 : 0 < cap → aw_b G ≤ e) (hel : ∀ i, i < n → ∀ q, f i = some q → aw_isO h q) : aw_Met G yJ2_grow cJ2_grow 1 (some (.array (.object "java/lang/Object"))) 5 1 64 [.ref (L)] h (fun v9 h9 => ∃ q N, v9 = some (.ref q) ∧ h q = none ∧ aw_b G ≤ q ∧ n < N ∧ (N ≤ 49 ∧ N = jl_nx n) ∧ h9 = aw_up (aw_up h q (aw_O G N (jl_c f n))) L (jl_o m q n)) := by
  refine aw_Met.of (by decide +kernel) (Nat.le_of_ble_eq_true rfl) ?_
  show AW G (aw_rm 5 1 64) yJ2_grow cJ2_grow 1 (some (.array (.object "java/lang/Object"))) (aw_N G (fun v9 h9 => ∃ q N, v9 = some (.ref q) ∧ h q = none ∧ aw_b G ≤ q ∧ n < N ∧ (N ≤ 49 ∧ N = jl_nx n) ∧ h9 = aw_up (aw_up h q (aw_O G N (jl_c f n))) L (jl_o m q n)) 1 64) 1 64 h 0 [(0, .ref (L))] []
  refine aw_aload_n dJ2_grow_0 rfl ?_
  refine aw_aload_n dJ2_grow_1 rfl ?_
  refine aw_get dJ2_grow_2 fJ2_48 rfl hL (by rfl) ?_
  refine aw_iconst (v := nI 1) dJ2_grow_5 rfl ?_
  refine aw_iaddN dJ2_grow_6 ?_
  refine AW_le (kc' := 0 + 1) (ks' := 0 + 64) (by omega) (by omega) ?_
  refine aw_callV (kc := 0) (ks := 0) (mc2 := 1) (ms2 := 64) dJ2_grow_7 sJ2_69 rfl (jl_grow2 hLb hL he hc hn h0 h1 hel) hL rfl rfl ⟨Nat.le_of_ble_eq_true rfl, Nat.le_of_ble_eq_true rfl⟩ (by exact Nat.le_of_ble_eq_true rfl) (fun v9 h9 q9 => ?_)
  obtain ⟨q, N, rfl, q2⟩ := q9
  refine aw_areturn dJ2_grow_10 rfl (Or.inr ⟨_, rfl⟩) (Or.inr ⟨_, rfl⟩) ?_
  exact ⟨q, N, rfl, q2⟩
/-- behind an add: a list of one more -/
def jl_added (G : aw_G) (h : aw_H) (L e cap n : Nat) (f : Nat → Option Nat) (v : Nat) (h9 : aw_H) : Prop := ∃ m' e' cap' f', h9 L = some (jl_o m' e' (n + 1)) ∧ h9 e' = some (aw_O G cap' f') ∧ n + 1 ≤ cap' ∧ (cap' ≤ 49 ∧ (cap' = cap ∨ cap' = jl_nx cap)) ∧ aw_b G ≤ e' ∧ (e' = e ∨ h e' = none) ∧ f' n = some v ∧ (∀ j, j < n → f' j = f j) ∧ ∀ q, h q ≠ none → q ≠ L → (q = e → cap = 0) → h9 q = h q
set_option maxHeartbeats 4000000 in
theorem jl_add2 {G : aw_G} {h : aw_H} {L e cap n v ci : Nat} {m : Int32} {f : Nat → Option Nat} {fs : List Value} {C : String} {T : u_T} {N0 : Nat} (hLb : aw_b G ≤ L) (hL : h L = some (jl_o m e n)) (he : h e = some (aw_O G cap f)) (hn : n ≤ cap) (hc2 : cap ≤ 49) (hc : n < cap ∨ cap ≤ 33) (h0 : cap = 0 → e = aw_ad G 0) (h1 : 0 < cap → aw_b G ≤ e) (hel : ∀ i, i < n → ∀ q, f i = some q → aw_isO h q) (hvb : aw_b G ≤ v) (hvL : v ≠ L) (hv : h v = some (aw_o ci fs)) (hci : aw_cl[ci]? = some (C, T, N0)) (hcs : (C, "java/lang/Object") ∈ aw_cs) : aw_Met G yJ2_add_2 cJ2_add_2 4 none 6 1 64 [.ref (L), .ref (v), .ref (e), .int (nI (n))] h (fun v9 h9 => v9 = none ∧ jl_added G h L e cap n f v h9) := by
  refine aw_Met.of (by decide +kernel) (Nat.le_of_ble_eq_true rfl) ?_
  show AW G (aw_rm 6 1 64) yJ2_add_2 cJ2_add_2 4 none (aw_N G (fun v9 h9 => v9 = none ∧ jl_added G h L e cap n f v h9) 1 64) 1 64 h 0 [(0, .ref (L)), (1, .ref (v)), (2, .ref (e)), (3, .int (nI (n)))] []
  have fin : ∀ (h2 : aw_H) (e2 cap2 : Nat) (f2 : Nat → Option Nat), n < cap2 → (cap2 ≤ 49 ∧ (cap2 = cap ∨ cap2 = jl_nx cap)) → h2 L = some (jl_o m e2 n) → h2 e2 = some (aw_O G cap2 f2) → aw_b G ≤ e2 → ((e2 = e ∧ 0 < cap) ∨ h e2 = none) → (∀ j, j < n → f2 j = f j) → (∀ q, h q ≠ none → q ≠ L → (q = e → cap = 0) → h2 q = h q) → h2 v = some (aw_o ci fs) → AW G (aw_rm 6 1 64) yJ2_add_2 cJ2_add_2 4 none (aw_N G (fun v9 h9 => v9 = none ∧ jl_added G h L e cap n f v h9) 1 64) 0 0 (h2) 11 [(0, .ref L), (1, .ref v), (2, .ref e2), (3, .int (nI n))] [] := by
    intro h2 e2 cap2 f2 g1 g1b g2 g3 g4 g5 g6 g7 g8
    have ne : L ≠ e2 := fun z => by rw [z, g3] at g2; cases g2
    refine aw_aload_n dJ2_add_2_11 rfl ?_
    refine aw_iload_n dJ2_add_2_12 rfl ?_
    refine aw_aload_n dJ2_add_2_13 rfl ?_
    refine aw_oast dJ2_add_2_14 g4 g3 hvb g8 hci hcs (vp_in_nI g1 (by omega)) ?_
    rw [nI_clamp (by omega)]
    refine aw_aload_n dJ2_add_2_15 rfl ?_
    refine aw_iload_n dJ2_add_2_16 rfl ?_
    refine aw_iconst (v := nI 1) dJ2_add_2_17 rfl ?_
    refine aw_iaddN dJ2_add_2_18 ?_
    refine aw_put dJ2_add_2_19 (pJ2_48 _) rfl rfl hLb ((aw_up_n ne).trans g2) (by exact Nat.le_of_ble_eq_true rfl) rfl rfl ?_
    refine aw_vreturn dJ2_add_2_22 rfl ?_
    refine ⟨rfl, m, e2, cap2, _, aw_up_s _ _ _, (aw_up_n (Ne.symm ne)).trans (aw_up_s _ _ _), g1, g1b, g4, g5.imp (fun y => y.1) (fun y => y), ?_, fun j hj => ?_, fun q z1 z2 z3 => ?_⟩
    · unfold va_up; rw [if_pos rfl]
    · unfold va_up; rw [if_neg (by omega)]; exact g6 j hj
    · rw [aw_up_n z2, aw_up_n (fun z => by rcases g5 with y | y; (have := z3 (z.trans y.1); omega); exact z1 (by rw [z]; exact y))]
      exact g7 q z1 z2 z3
  refine aw_iload_n dJ2_add_2_0 rfl ?_
  refine aw_aload_n dJ2_add_2_1 rfl ?_
  refine aw_olen dJ2_add_2_2 he ?_
  refine AW_st (show _ = Value.int (nI cap) :: _ from rfl) ?_
  refine aw_icmp_neN (tgt := 11) dJ2_add_2_3 (by decide) (by omega) (by omega) (fun c_3 => ?_) (fun c_3 => ?_)
  · first
    | (have nL : q ≠ L := (aw_ne q2 hL).symm
       refine fin _ q N (jl_c f n) q4 ⟨q5.1, Or.inr (by rw [← c_3]; exact q5.2)⟩ (aw_up_s _ _ _) ((aw_up_n nL).trans (aw_up_s _ _ _)) q3 (Or.inr q2) (fun j hj => if_pos hj) (fun z z1 z2 z3 => by rw [aw_up_n z2, aw_up_n (fun y => z1 (by rw [y]; exact q2))]) ?_
       rw [aw_up_n hvL, aw_up_n (aw_ne q2 hv)]
       exact hv)
    | exact AW_le (Nat.zero_le _) (Nat.zero_le _) (fin h e cap f (by omega) ⟨hc2, Or.inl rfl⟩ hL he (h1 (by omega)) (Or.inl ⟨rfl, by omega⟩) (fun j _ => rfl) (fun _ _ _ _ => rfl) hv)
  · refine aw_aload_n dJ2_add_2_6 rfl ?_
    refine AW_le (kc' := 0 + 1) (ks' := 0 + 64) (by omega) (by omega) ?_
    refine aw_callV (kc := 0) (ks := 0) (mc2 := 1) (ms2 := 64) dJ2_add_2_7 sJ2_129 rfl (jl_grow hLb hL he (by omega) c_3 h0 h1 hel) hL rfl rfl ⟨Nat.le_of_ble_eq_true rfl, Nat.le_of_ble_eq_true rfl⟩ (by exact Nat.le_of_ble_eq_true rfl) (fun v9 h9 q9 => ?_)
    obtain ⟨q, N, rfl, q2, q3, q4, q5, q6⟩ := q9
    rw [q6]
    refine aw_astore_n dJ2_add_2_10 (by decide) rfl rfl ?_
    first
    | (have nL : q ≠ L := (aw_ne q2 hL).symm
       refine fin _ q N (jl_c f n) q4 ⟨q5.1, Or.inr (by rw [← c_3]; exact q5.2)⟩ (aw_up_s _ _ _) ((aw_up_n nL).trans (aw_up_s _ _ _)) q3 (Or.inr q2) (fun j hj => if_pos hj) (fun z z1 z2 z3 => by rw [aw_up_n z2, aw_up_n (fun y => z1 (by rw [y]; exact q2))]) ?_
       rw [aw_up_n hvL, aw_up_n (aw_ne q2 hv)]
       exact hv)
    | exact AW_le (Nat.zero_le _) (Nat.zero_le _) (fin h e cap f (by omega) ⟨hc2, Or.inl rfl⟩ hL he (h1 (by omega)) (Or.inl ⟨rfl, by omega⟩) (fun j _ => rfl) (fun _ _ _ _ => rfl) hv)
theorem aw_isO.L {h : aw_H} {L e n e2 n2 q : Nat} {m m2 : Int32} (hL : h L = some (jl_o m e n)) (hq : aw_isO h q) : aw_isO (aw_up h L (jl_o m2 e2 n2)) q := by
  obtain ⟨ci, fs, C, T, N, z1, z2, z3⟩ := hq
  by_cases z : q = L
  · rw [z, hL] at z1
    cases z1
    exact ⟨14, _, C, T, N, by rw [z, aw_up_s], z2, z3⟩
  · exact ⟨ci, fs, C, T, N, by rw [aw_up_n z, z1], z2, z3⟩
set_option maxHeartbeats 4000000 in
theorem jl_add {G : aw_G} {h : aw_H} {L e cap n v ci : Nat} {m : Int32} {f : Nat → Option Nat} {fs : List Value} {C : String} {T : u_T} {N0 : Nat} (hLb : aw_b G ≤ L) (hL : h L = some (jl_o m e n)) (he : h e = some (aw_O G cap f)) (hn : n ≤ cap) (hc2 : cap ≤ 49) (hc : n < cap ∨ cap ≤ 33) (h0 : cap = 0 → e = aw_ad G 0) (h1 : 0 < cap → aw_b G ≤ e) (hel : ∀ i, i < n → ∀ q, f i = some q → aw_isO h q) (hvb : aw_b G ≤ v) (hvL : v ≠ L) (hv : h v = some (aw_o ci fs)) (hci : aw_cl[ci]? = some (C, T, N0)) (hcs : (C, "java/lang/Object") ∈ aw_cs) : aw_Met G yJ2_add cJ2_add 2 (some .boolean) 7 1 64 [.ref (L), .ref (v)] h (fun v9 h9 => v9 = some (.int (nI 1)) ∧ jl_added G h L e cap n f v h9) := by
  refine aw_Met.of (by decide +kernel) (Nat.le_of_ble_eq_true rfl) ?_
  show AW G (aw_rm 7 1 64) yJ2_add cJ2_add 2 (some .boolean) (aw_N G (fun v9 h9 => v9 = some (.int (nI 1)) ∧ jl_added G h L e cap n f v h9) 1 64) 1 64 h 0 [(0, .ref (L)), (1, .ref (v))] []
  have nLe : e ≠ L := fun z => by rw [z, hL] at he; cases he
  have hL2 : aw_up h L (jl_o (m + 1) e n) L = some (jl_o (m + 1) e n) := aw_up_s _ _ _
  have he2 : aw_up h L (jl_o (m + nI 1) e n) e = some (aw_O G cap f) := (aw_up_n nLe).trans he
  have hL3 : aw_up h L (jl_o (m + nI 1) e n) L = some (jl_o (m + nI 1) e n) := aw_up_s _ _ _
  refine aw_aload_n dJ2_add_0 rfl ?_
  refine aw_dup dJ2_add_1 rfl ?_
  refine jl_getM dJ2_add_2 q185 rfl hL ?_
  refine aw_iconst (v := nI 1) dJ2_add_5 rfl ?_
  refine aw_iadd dJ2_add_6 ?_
  refine jl_putM dJ2_add_7 q185 rfl hLb hL ?_
  refine aw_aload_n dJ2_add_10 rfl ?_
  refine aw_aload_n dJ2_add_11 rfl ?_
  refine aw_aload_n dJ2_add_12 rfl ?_
  refine aw_get dJ2_add_13 fJ2_9 rfl hL3 (by rfl) ?_
  refine aw_aload_n dJ2_add_16 rfl ?_
  refine aw_get dJ2_add_17 fJ2_48 rfl hL3 (by rfl) ?_
  refine AW_le (kc' := 0 + 1) (ks' := 0 + 64) (by omega) (by omega) ?_
  refine aw_callV (kc := 0) (ks := 0) (mc2 := 1) (ms2 := 64) dJ2_add_20 sJ2_131 rfl (jl_add2 hLb hL3 he2 hn hc2 hc h0 h1 (fun i hi q hq => aw_isO.L hL (hel i hi q hq)) hvb hvL ((aw_up_n hvL).trans hv) hci hcs) hL3 rfl rfl ⟨Nat.le_of_ble_eq_true rfl, Nat.le_of_ble_eq_true rfl⟩ (by exact Nat.le_of_ble_eq_true rfl) (fun v9 h9 q9 => ?_)
  obtain ⟨rfl, m', e', cap', f', g1, g2, g3, g4, g5, g6, g7, g8, g9⟩ := q9
  refine aw_iconst (v := nI 1) dJ2_add_23 rfl ?_
  refine aw_zreturn dJ2_add_24 rfl rfl ?_
  refine ⟨rfl, m', e', cap', f', g1, g2, g3, g4, g5, ?_, g7, g8, fun q z1 z2 z3 => ?_⟩
  · rcases g6 with y | y
    · exact Or.inl y
    · refine Or.inr ?_
      rw [aw_up_n (fun z => by rw [z, hL3] at y; cases y)] at y
      exact y
  · rw [g9 q (by rw [aw_up_n z2]; exact z1) z2 z3, aw_up_n z2]
/-! a list is empty -/
set_option maxHeartbeats 4000000 in
theorem jl_clear {G : aw_G} {h : aw_H} {L e cap n : Nat} {m : Int32} {f : Nat → Option Nat} (hLb : aw_b G ≤ L) (hL : h L = some (jl_o m e n)) (he : h e = some (aw_O G cap f)) (hn : n ≤ cap) (hc : cap ≤ 100000) (h1 : 0 < cap → aw_b G ≤ e) : aw_Met G yJ2_clear cJ2_clear 4 none 0 0 0 [.ref (L)] h (fun v9 h9 => v9 = none ∧ (∃ m' f', h9 L = some (jl_o m' e 0) ∧ h9 e = some (aw_O G cap f')) ∧ ∀ q, q ≠ L → (q = e → cap = 0) → h9 q = h q) := by
  refine aw_Met.of (by decide +kernel) (Nat.le_of_ble_eq_true rfl) ?_
  show AW G (aw_rm 0 0 0) yJ2_clear cJ2_clear 4 none (aw_N G (fun v9 h9 => v9 = none ∧ (∃ m' f', h9 L = some (jl_o m' e 0) ∧ h9 e = some (aw_O G cap f')) ∧ ∀ q, q ≠ L → (q = e → cap = 0) → h9 q = h q) 0 0) 0 0 h 0 [(0, .ref (L))] []
  have nLe : e ≠ L := fun z => by rw [z, hL] at he; cases he
  have loop : ∀ (d k : Nat) (h2 : aw_H) (f2 : Nat → Option Nat), n - k = d → k ≤ n → h2 L = some (jl_o (m + nI 1) e 0) → h2 e = some (aw_O G cap f2) → (∀ q, q ≠ L → (q = e → cap = 0) → h2 q = h q) → AW G (aw_rm 0 0 0) yJ2_clear cJ2_clear 4 none (aw_N G (fun v9 h9 => v9 = none ∧ (∃ m' f', h9 L = some (jl_o m' e 0) ∧ h9 e = some (aw_O G cap f')) ∧ ∀ q, q ≠ L → (q = e → cap = 0) → h9 q = h q) 0 0) 0 0 (h2) 27 [(0, .ref L), (1, .ref e), (2, .int (nI n)), (3, .int (nI k))] [] := by
    intro d
    induction d using Nat.strongRecOn with
    | _ d ih =>
      intro k h2 f2 hd hk g1 g2 g3
      refine aw_iload_n dJ2_clear_27 rfl ?_
      refine aw_iload_n dJ2_clear_28 rfl ?_
      refine aw_icmp_geN (tgt := 42) dJ2_clear_29 (by decide) (by omega) (by omega) (fun c_29 => ?_) (fun c_29 => ?_)
      · refine aw_vreturn dJ2_clear_42 rfl ?_
        exact ⟨rfl, ⟨_, _, g1, g2⟩, g3⟩
      · refine aw_aload_n dJ2_clear_32 rfl ?_
        refine aw_iload_n dJ2_clear_33 rfl ?_
        refine aw_null dJ2_clear_34 ?_
        refine aw_oastN dJ2_clear_35 (h1 (by omega)) g2 (vp_in_nI (show k < cap by omega) (by omega)) ?_
        rw [nI_clamp (by omega)]
        refine aw_iincN (b := 1) dJ2_clear_36 rfl rfl (by decide) rfl rfl ?_
        refine aw_goto (tgt := 27) dJ2_clear_39 (by decide) ?_
        exact ih (n - (k + 1)) (by omega) (k + 1) _ _ rfl (by omega) ((aw_up_n (Ne.symm nLe)).trans g1) (aw_up_s _ _ _) (fun q z1 z2 => (aw_up_n (fun z => by have := z2 z; omega)).trans (g3 q z1 z2))
  have hL3 : aw_up h L (jl_o (m + nI 1) e n) L = some (jl_o (m + nI 1) e n) := aw_up_s _ _ _
  refine aw_aload_n dJ2_clear_0 rfl ?_
  refine aw_dup dJ2_clear_1 rfl ?_
  refine jl_getM dJ2_clear_2 q185 rfl hL ?_
  refine aw_iconst (v := nI 1) dJ2_clear_5 rfl ?_
  refine aw_iadd dJ2_clear_6 ?_
  refine jl_putM dJ2_clear_7 q185 rfl hLb hL ?_
  refine aw_aload_n dJ2_clear_10 rfl ?_
  refine aw_get dJ2_clear_11 fJ2_9 rfl hL3 (by rfl) ?_
  refine aw_astore_n dJ2_clear_14 (by decide) rfl rfl ?_
  refine aw_aload_n dJ2_clear_15 rfl ?_
  refine aw_get dJ2_clear_16 fJ2_48 rfl hL3 (by rfl) ?_
  refine aw_istore_n dJ2_clear_19 (by decide) rfl rfl ?_
  refine aw_aload_n dJ2_clear_20 rfl ?_
  refine aw_iconst (v := nI 0) dJ2_clear_21 rfl ?_
  refine aw_dup_x1 dJ2_clear_22 rfl rfl ?_
  refine aw_put dJ2_clear_23 (pJ2_48 _) rfl rfl hLb hL3 (by exact Nat.le_of_ble_eq_true rfl) rfl rfl ?_
  refine aw_istore_n dJ2_clear_26 (by decide) rfl rfl ?_
  exact loop n 0 _ f rfl (Nat.zero_le _) (aw_up_s _ _ _) ((aw_up_n nLe).trans ((aw_up_n nLe).trans he)) (fun q z1 z2 => (aw_up_n z1).trans (aw_up_n z1))
/-- what stands behind a remove -/
def jl_rm (f : Nat → Option Nat) (i n : Nat) : Nat → Option Nat := fun j => if j < i then f j else f (j + 1)
set_option maxHeartbeats 4000000 in
theorem jl_frm {G : aw_G} {h : aw_H} {L e cap n i : Nat} {m : Int32} {f : Nat → Option Nat} (hLb : aw_b G ≤ L) (hL : h L = some (jl_o m e (n + 1))) (he : h e = some (aw_O G cap f)) (hn : n + 1 ≤ cap) (hc : cap ≤ 100000) (heb : aw_b G ≤ e) (hi : i ≤ n) (hel : ∀ i, i < n + 1 → ∀ q, f i = some q → aw_isO h q) : aw_Met G yJ2_fastRemove cJ2_fastRemove 4 none 1 0 0 [.ref (L), .ref (e), .int (nI (i))] h (fun v9 h9 => v9 = none ∧ (∃ m' f', h9 L = some (jl_o m' e n) ∧ h9 e = some (aw_O G cap f') ∧ ∀ j, j < n → f' j = if j < i then f j else f (j + 1)) ∧ ∀ q, q ≠ L → q ≠ e → h9 q = h q) := by
  refine aw_Met.of (by decide +kernel) (Nat.le_of_ble_eq_true rfl) ?_
  show AW G (aw_rm 1 0 0) yJ2_fastRemove cJ2_fastRemove 4 none (aw_N G (fun v9 h9 => v9 = none ∧ (∃ m' f', h9 L = some (jl_o m' e n) ∧ h9 e = some (aw_O G cap f') ∧ ∀ j, j < n → f' j = if j < i then f j else f (j + 1)) ∧ ∀ q, q ≠ L → q ≠ e → h9 q = h q) 0 0) 0 0 h 0 [(0, .ref (L)), (1, .ref (e)), (2, .int (nI (i)))] []
  have nLe : e ≠ L := fun z => by rw [z, hL] at he; cases he
  have hL3 : aw_up h L (jl_o (m + nI 1) e (n + 1)) L = some (jl_o (m + nI 1) e (n + 1)) := aw_up_s _ _ _
  have he3 : aw_up h L (jl_o (m + nI 1) e (n + 1)) e = some (aw_O G cap f) := (aw_up_n nLe).trans he
  have fin : ∀ (h2 : aw_H) (f2 : Nat → Option Nat), h2 L = some (jl_o (m + nI 1) e (n + 1)) → h2 e = some (aw_O G cap f2) → (∀ j, j < n → f2 j = if j < i then f j else f (j + 1)) → (∀ q, q ≠ L → q ≠ e → h2 q = h q) → AW G (aw_rm 1 0 0) yJ2_fastRemove cJ2_fastRemove 4 none (aw_N G (fun v9 h9 => v9 = none ∧ (∃ m' f', h9 L = some (jl_o m' e n) ∧ h9 e = some (aw_O G cap f') ∧ ∀ j, j < n → f' j = if j < i then f j else f (j + 1)) ∧ ∀ q, q ≠ L → q ≠ e → h9 q = h q) 0 0) 0 0 (h2) 34 [(0, .ref L), (1, .ref e), (2, .int (nI i)), (3, .int (nI n))] [] := by
    intro h2 f2 g1 g2 g4 g3
    refine aw_aload_n dJ2_fastRemove_34 rfl ?_
    refine aw_aload_n dJ2_fastRemove_35 rfl ?_
    refine aw_iload_n dJ2_fastRemove_36 rfl ?_
    refine aw_dup_x1 dJ2_fastRemove_37 rfl rfl ?_
    refine aw_put dJ2_fastRemove_38 (pJ2_48 _) rfl rfl hLb g1 (by exact Nat.le_of_ble_eq_true rfl) rfl rfl ?_
    refine aw_null dJ2_fastRemove_41 ?_
    refine aw_oastN dJ2_fastRemove_42 heb ((aw_up_n nLe).trans g2) (vp_in_nI (show n < cap by omega) (by omega)) ?_
    rw [nI_clamp (by omega)]
    refine aw_vreturn dJ2_fastRemove_43 rfl ?_
    refine ⟨rfl, ⟨_, _, (aw_up_n (Ne.symm nLe)).trans (aw_up_s _ _ _), aw_up_s _ _ _, fun j hj => ?_⟩, fun q z1 z2 => (aw_up_n z2).trans ((aw_up_n z1).trans (g3 q z1 z2))⟩
    unfold va_up
    rw [if_neg (by omega)]
    exact g4 j hj
  refine aw_aload_n dJ2_fastRemove_0 rfl ?_
  refine aw_dup dJ2_fastRemove_1 rfl ?_
  refine jl_getM dJ2_fastRemove_2 q185 rfl hL ?_
  refine aw_iconst (v := nI 1) dJ2_fastRemove_5 rfl ?_
  refine aw_iadd dJ2_fastRemove_6 ?_
  refine jl_putM dJ2_fastRemove_7 q185 rfl hLb hL ?_
  refine aw_aload_n dJ2_fastRemove_10 rfl ?_
  refine aw_get dJ2_fastRemove_11 fJ2_48 rfl hL3 (by rfl) ?_
  refine aw_iconst (v := nI 1) dJ2_fastRemove_14 rfl ?_
  refine aw_isubN dJ2_fastRemove_15 (by omega) ?_
  refine aw_dup dJ2_fastRemove_16 rfl ?_
  refine aw_istore_n dJ2_fastRemove_17 (by decide) rfl rfl ?_
  refine aw_iload_n dJ2_fastRemove_18 rfl ?_
  refine aw_icmp_leN (tgt := 34) dJ2_fastRemove_19 (by decide) (by omega) (by omega) (fun c_19 => ?_) (fun c_19 => ?_)
  · first
    | exact fin _ _ ((aw_up_n (Ne.symm nLe)).trans hL3) (aw_up_s _ _ _) (fun j hj => by
        unfold va_cpy
        by_cases z : j < i
        · rw [if_neg (by omega), if_pos z]
        · rw [if_pos (by omega), if_neg z, show i + 1 + (j - i) = j + 1 by omega]) (fun q z1 z2 => (aw_up_n z2).trans (aw_up_n z1))
    | exact fin _ f hL3 he3 (fun j hj => by rw [if_pos (by omega)]) (fun q z1 z2 => aw_up_n z1)
  · refine aw_aload_n dJ2_fastRemove_22 rfl ?_
    refine aw_iload_n dJ2_fastRemove_23 rfl ?_
    refine aw_iconst (v := nI 1) dJ2_fastRemove_24 rfl ?_
    refine aw_iaddN dJ2_fastRemove_25 ?_
    refine aw_aload_n dJ2_fastRemove_26 rfl ?_
    refine aw_iload_n dJ2_fastRemove_27 rfl ?_
    refine aw_iload_n dJ2_fastRemove_28 rfl ?_
    refine aw_iload_n dJ2_fastRemove_29 rfl ?_
    refine aw_isubN dJ2_fastRemove_30 (by omega) ?_
    refine aw_copyO (sp := i + 1) (dp := i) (n := n + 1 - 1 - i) dJ2_fastRemove_31 q969 heb heb he3 he3 (by omega) (by omega) (by omega) (by omega) (fun k hk z hz => aw_isO.L hL (hel (i + 1 + k) (by omega) z hz)) (Nat.le_of_ble_eq_true rfl) (Nat.le_of_ble_eq_true rfl) (by exact Nat.le_of_ble_eq_true rfl) ?_
    first
    | exact fin _ _ ((aw_up_n (Ne.symm nLe)).trans hL3) (aw_up_s _ _ _) (fun j hj => by
        unfold va_cpy
        by_cases z : j < i
        · rw [if_neg (by omega), if_pos z]
        · rw [if_pos (by omega), if_neg z, show i + 1 + (j - i) = j + 1 by omega]) (fun q z1 z2 => (aw_up_n z2).trans (aw_up_n z1))
    | exact fin _ f hL3 he3 (fun j hj => by rw [if_pos (by omega)]) (fun q z1 z2 => aw_up_n z1)
set_option maxHeartbeats 4000000 in
theorem jl_rem {G : aw_G} {h : aw_H} {L e cap n i q0 : Nat} {m : Int32} {f : Nat → Option Nat} (hLb : aw_b G ≤ L) (hL : h L = some (jl_o m e (n + 1))) (he : h e = some (aw_O G cap f)) (hn : n + 1 ≤ cap) (hc : cap ≤ 100000) (heb : aw_b G ≤ e) (hi : i ≤ n) (hq : f i = some q0) (hel : ∀ i, i < n + 1 → ∀ q, f i = some q → aw_isO h q) : aw_Met G yJ2_remove cJ2_remove 4 (some (.object "java/lang/Object")) 2 0 0 [.ref (L), .int (nI (i))] h (fun v9 h9 => v9 = some (.ref q0) ∧ (∃ m' f', h9 L = some (jl_o m' e n) ∧ h9 e = some (aw_O G cap f') ∧ ∀ j, j < n → f' j = if j < i then f j else f (j + 1)) ∧ ∀ q, q ≠ L → q ≠ e → h9 q = h q) := by
  refine aw_Met.of (by decide +kernel) (Nat.le_of_ble_eq_true rfl) ?_
  show AW G (aw_rm 2 0 0) yJ2_remove cJ2_remove 4 (some (.object "java/lang/Object")) (aw_N G (fun v9 h9 => v9 = some (.ref q0) ∧ (∃ m' f', h9 L = some (jl_o m' e n) ∧ h9 e = some (aw_O G cap f') ∧ ∀ j, j < n → f' j = if j < i then f j else f (j + 1)) ∧ ∀ q, q ≠ L → q ≠ e → h9 q = h q) 0 0) 0 0 h 0 [(0, .ref (L)), (1, .int (nI (i)))] []
  refine aw_iload_n dJ2_remove_0 rfl ?_
  refine aw_aload_n dJ2_remove_1 rfl ?_
  refine aw_get dJ2_remove_2 fJ2_48 rfl hL (by rfl) ?_
  refine aw_roS dJ2_remove_5 sJ2_118 rfl (jo_chk (by omega) (by omega)) rfl rfl ⟨Nat.le_of_ble_eq_true rfl, Nat.le_of_ble_eq_true rfl⟩ (Nat.le_of_ble_eq_true rfl) ?_
  refine aw_pop dJ2_remove_8 rfl ?_
  refine aw_aload_n dJ2_remove_9 rfl ?_
  refine aw_get dJ2_remove_10 fJ2_9 rfl hL (by rfl) ?_
  refine aw_astore_n dJ2_remove_13 (by decide) rfl rfl ?_
  refine aw_aload_n dJ2_remove_14 rfl ?_
  refine aw_iload_n dJ2_remove_15 rfl ?_
  refine aw_oaldN dJ2_remove_16 he (show i < cap by omega) (by omega) ?_
  rw [hq]
  refine aw_astore_n dJ2_remove_17 (by decide) rfl rfl ?_
  refine aw_aload_n dJ2_remove_18 rfl ?_
  refine aw_aload_n dJ2_remove_19 rfl ?_
  refine aw_iload_n dJ2_remove_20 rfl ?_
  refine aw_callV (kc := 0) (ks := 0) (mc2 := 0) (ms2 := 0) dJ2_remove_21 sJ2_144 rfl (jl_frm hLb hL he hn hc heb hi hel) hL rfl rfl ⟨Nat.le_of_ble_eq_true rfl, Nat.le_of_ble_eq_true rfl⟩ (by exact Nat.le_of_ble_eq_true rfl) (fun v9 h9 q9 => ?_)
  obtain ⟨rfl, g1, g2⟩ := q9
  refine aw_aload_n dJ2_remove_24 rfl ?_
  refine aw_areturn dJ2_remove_25 rfl (Or.inl ⟨_, rfl⟩) (Or.inr ⟨_, rfl⟩) ?_
  exact ⟨rfl, g1, g2⟩

