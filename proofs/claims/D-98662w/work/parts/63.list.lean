set_option maxRecDepth 100000
/-! lists that change -/
theorem aw_up_up (h : aw_H) (a : Nat) (x z : va_E) : aw_up (aw_up h a x) a z = aw_up h a z := by
  funext q
  unfold aw_up
  split <;> rfl
/-- less room is enough -/
theorem AW_le {G : aw_G} {R : Room} {y : MethodName} {cc : ByteArray} {nL : Nat} {ret : Option FieldType} {Qf : List Frame → Array Value → State → State → Prop} {kc ks kc' ks' : Nat} {h : aw_H} {pc : Nat} {ls : List (Nat × Value)} {st : List Value} (h1 : kc' ≤ kc) (h2 : ks' ≤ ks) (k : AW G R y cc nL ret Qf kc' ks' h pc ls st) : AW G R y cc nL ret Qf kc ks h pc ls st := by
  intro p e s m args below meth c H locs cells slots lsA X hR hS hlv g1 g2
  exact k p e s m args below meth c H locs cells slots lsA X hR hS hlv (by omega) (by omega)
/-- the first n of f, nothing behind -/
def jl_c (f : Nat → Option Nat) (n : Nat) : Nat → Option Nat := fun j => if j < n then f j else none
theorem aw_isO.up {h : aw_H} {a q : Nat} {e : va_E} (ha : h a = none) (hq : aw_isO h q) : aw_isO (aw_up h a e) q := by
  obtain ⟨ci, fs, C, T, N, z1, z2, z3⟩ := hq
  exact ⟨ci, fs, C, T, N, by rw [aw_up_n (fun e => by rw [e, ha] at z1; cases z1), z1], z2, z3⟩
theorem aw_ne {h : aw_H} {a q : Nat} {e : va_E} (ha : h a = none) (hq : h q = some e) : q ≠ a := fun z => by rw [z, ha] at hq; cases hq
set_option maxHeartbeats 4000000 in
theorem ja_cpy2 {G : aw_G} {h : aw_H} {e cap N : Nat} {f : Nat → Option Nat} (hab : aw_b G ≤ e) (he : h e = some (aw_O G cap f)) (hc : cap ≤ N) (hN : N < 100000) (hel : ∀ i, i < cap → ∀ q, f i = some q → aw_isO h q) : aw_Met G yJ13_copyOf_2 cJ13_copyOf_2 4 (some (.array (.object "java/lang/Object"))) 1 1 N [.ref (e), .int (nI (N)), .ref ((aw_ad G 60))] h (fun v9 h9 => ∃ q, v9 = some (.ref q) ∧ h q = none ∧ aw_b G ≤ q ∧ h9 = aw_up h q (aw_O G N (jl_c f cap))) := by
  refine aw_Met.of (by decide +kernel) (Nat.le_of_ble_eq_true rfl) ?_
  show AW G (aw_rm 1 1 N) yJ13_copyOf_2 cJ13_copyOf_2 4 (some (.array (.object "java/lang/Object"))) (aw_N G (fun v9 h9 => ∃ q, v9 = some (.ref q) ∧ h q = none ∧ aw_b G ≤ q ∧ h9 = aw_up h q (aw_O G N (jl_c f cap))) 1 N) 1 N h 0 [(0, .ref (e)), (1, .int (nI (N))), (2, .ref ((aw_ad G 60)))] []
  have fin : ∀ q, h q = none → aw_b G ≤ q → AW G (aw_rm 1 1 N) yJ13_copyOf_2 cJ13_copyOf_2 4 (some (.array (.object "java/lang/Object"))) (aw_N G (fun v9 h9 => ∃ q, v9 = some (.ref q) ∧ h q = none ∧ aw_b G ≤ q ∧ h9 = aw_up h q (aw_O G N (jl_c f cap))) 1 N) 0  0 (aw_up h q (aw_O G N (fun _ => none))) 24 [(0, .ref e), (1, .int (nI N)), (2, .ref (aw_ad G 60))] [.ref q] := by
    intro q hq hb
    have ne := aw_ne hq he
    have he2 : aw_up h q (aw_O G N (fun _ => none)) e = some (aw_O G cap f) := (aw_up_n ne).trans he
    refine aw_astore_n dJ13_copyOf_2_24 (by decide) rfl rfl ?_
    refine aw_aload_n dJ13_copyOf_2_25 rfl ?_
    refine aw_iconst (v := nI 0) dJ13_copyOf_2_26 rfl ?_
    refine aw_aload_n dJ13_copyOf_2_27 rfl ?_
    refine aw_iconst (v := nI 0) dJ13_copyOf_2_28 rfl ?_
    refine aw_aload_n dJ13_copyOf_2_29 rfl ?_
    refine aw_olen dJ13_copyOf_2_30 he2 ?_
    refine AW_st (show _ = Value.int (nI cap) :: _ from rfl) ?_
    refine aw_iload_n dJ13_copyOf_2_31 rfl ?_
    refine aw_mminN dJ13_copyOf_2_32 q776 (by omega) (by omega) (Nat.le_of_ble_eq_true rfl) (Nat.le_of_ble_eq_true rfl) (Nat.le_of_ble_eq_true rfl) ?_
    refine aw_copyO (sp := 0) (dp := 0) (n := min cap N) dJ13_copyOf_2_35 q779 hab hb he2 (aw_up_s _ _ _) (by omega) (by omega) (by omega) (by omega) (fun i hi z hz => aw_isO.up hq (hel i (by omega) z (by rw [Nat.zero_add] at hz; exact hz))) (Nat.le_of_ble_eq_true rfl) (Nat.le_of_ble_eq_true rfl) (Nat.le_of_ble_eq_true rfl) ?_
    refine aw_aload_n dJ13_copyOf_2_38 rfl ?_
    refine aw_areturn dJ13_copyOf_2_39 rfl (Or.inr ⟨_, rfl⟩) (Or.inr ⟨_, rfl⟩) ?_
    refine ⟨q, rfl, hq, hb, ?_⟩
    rw [aw_up_up]
    congr 2
    funext j
    unfold va_cpy jl_c
    by_cases z : j < cap
    · rw [if_pos (by omega), if_pos z, Nat.zero_add, Nat.sub_zero]
    · rw [if_neg (by omega), if_neg z]
  refine aw_aload_n dJ13_copyOf_2_0 rfl ?_
  refine aw_ldcM dJ13_copyOf_2_1 q773 ?_
  refine aw_acmp_ne (tgt := 13) dJ13_copyOf_2_3 (by decide) (fun c_3 => by exfalso; exact c_3 rfl) (fun c_3 => ?_)
  refine aw_iload_n dJ13_copyOf_2_6 rfl ?_
  refine AW_le (kc' := 0 + 1) (ks' := 0 + N) (by omega) (by omega) ?_
  refine aw_newO (y := yJ13_copyOf_2) (N := N) dJ13_copyOf_2_7 q775 (nI_pos (by omega)) (nI_clamp (by omega)) (by first | decide | omega) (fun q hq bq => ?_)
  refine aw_goto (tgt := 24) dJ13_copyOf_2_10 (by decide) ?_
  refine AW_st ?_ (fin q hq bq)
  rfl
set_option maxHeartbeats 4000000 in
theorem ja_cpy {G : aw_G} {h : aw_H} {e cap N : Nat} {f : Nat → Option Nat} (hab : aw_b G ≤ e) (he : h e = some (aw_O G cap f)) (hc : cap ≤ N) (hN : N < 100000) (hel : ∀ i, i < cap → ∀ q, f i = some q → aw_isO h q) : aw_Met G yJ13_copyOf cJ13_copyOf 2 (some (.array (.object "java/lang/Object"))) 2 1 N [.ref (e), .int (nI (N))] h (fun v9 h9 => ∃ q, v9 = some (.ref q) ∧ h q = none ∧ aw_b G ≤ q ∧ h9 = aw_up h q (aw_O G N (jl_c f cap))) := by
  refine aw_Met.of (by decide +kernel) (Nat.le_of_ble_eq_true rfl) ?_
  show AW G (aw_rm 2 1 N) yJ13_copyOf cJ13_copyOf 2 (some (.array (.object "java/lang/Object"))) (aw_N G (fun v9 h9 => ∃ q, v9 = some (.ref q) ∧ h q = none ∧ aw_b G ≤ q ∧ h9 = aw_up h q (aw_O G N (jl_c f cap))) 1 N) 1 N h 0 [(0, .ref (e)), (1, .int (nI (N)))] []
  refine aw_aload_n dJ13_copyOf_0 rfl ?_
  refine aw_iload_n dJ13_copyOf_1 rfl ?_
  refine aw_aload_n dJ13_copyOf_2 rfl ?_
  refine aw_getC dJ13_copyOf_3 q750 he (Nat.le_of_ble_eq_true rfl) (Nat.le_of_ble_eq_true rfl) (by exact Nat.le_of_ble_eq_true rfl) ?_
  refine AW_le (kc' := 0 + 1) (ks' := 0 + N) (by omega) (by omega) ?_
  refine aw_callS (kc := 0) (ks := 0) (mc2 := 1) (ms2 := N) dJ13_copyOf_6 sJ13_300 rfl (ja_cpy2 hab he hc hN hel) rfl rfl ⟨Nat.le_of_ble_eq_true rfl, Nat.le_of_ble_eq_true rfl⟩ (by exact Nat.le_of_ble_eq_true rfl) (fun v9 h9 q9 => ?_)
  obtain ⟨q, rfl, q2, q3, q4⟩ := q9
  rw [q4]
  refine aw_areturn dJ13_copyOf_9 rfl (Or.inr ⟨_, rfl⟩) (Or.inr ⟨_, rfl⟩) ?_
  exact ⟨q, rfl, q2, q3, rfl⟩

