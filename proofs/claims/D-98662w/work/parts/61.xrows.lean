set_option maxRecDepth 100000
/-! MORE ROWS: statics, constants, array copies, class objects, references compared, calls of other classes' methods -/
section XRW
variable {G : aw_G} {R : Room} {y : MethodName} {cc : ByteArray} {nL : Nat} {ret : Option FieldType} {Qf : List Frame → Array Value → State → State → Prop} {kc ks : Nat} {h : aw_H} {pc : Nat} {ls : List (Nat × Value)} {st : List Value}
theorem aw_gets {C n d own : String} {v : Value} {index : Nat} (d9 : decode cc pc = .ok (.getstatic index, 3)) (hl : Cond.fieldLink own index C n d ∈ lw_all) (ho : own = y.cls) (hZ : ∀ (U : State) (H : Heap), aw_St G U H → va_Z C n d v (aw_A G) U H) (kk : AW G R y cc nL ret Qf kc ks h (pc + 3) ls (v :: st)) : AW G R y cc nL ret Qf kc ks h pc ls st := by
  subst ho
  intro p e s m args below meth c H locs cells slots lsA X hR hS hlv h1 h2
  exact va_gets X.1 X.2.1 (hZ _ _ X.2.2.2.2.2.2.2.2.1) hS X.2.2.2.2.2.1 (X.2.2.2.2.2.2.1 _ hl) (fun _ z => z) d9 (kk p e s m args below meth c H locs cells slots lsA X hR hS hlv h1 h2)
theorem aw_getsq {C n d own : String} {index : Nat} (d9 : decode cc pc = .ok (.getstatic index, 3)) (hl : Cond.fieldLink own index C n d ∈ lw_all) (ho : own = y.cls) (hZ : ∀ (U : State) (H : Heap), aw_St G U H → va_Zq C n d (aw_A G) U H) (kk : ∀ v : Value, (v = .null ∨ ∃ t, v = .ref t) → AW G R y cc nL ret Qf kc ks h (pc + 3) ls (v :: st)) : AW G R y cc nL ret Qf kc ks h pc ls st := by
  subst ho
  intro p e s m args below meth c H locs cells slots lsA X hR hS hlv h1 h2
  rcases hZ _ _ X.2.2.2.2.2.2.2.2.1 with z | ⟨t, z⟩
  · exact va_gets X.1 X.2.1 z hS X.2.2.2.2.2.1 (X.2.2.2.2.2.2.1 _ hl) (fun _ z => z) d9 (kk _ (Or.inl rfl) p e s m args below meth c H locs cells slots lsA X hR hS hlv h1 h2)
  · exact va_gets X.1 X.2.1 z hS X.2.2.2.2.2.1 (X.2.2.2.2.2.2.1 _ hl) (fun _ z => z) d9 (kk _ (Or.inr ⟨t, rfl⟩) p e s m args below meth c H locs cells slots lsA X hR hS hlv h1 h2)
theorem aw_ldcS {tx : String} {index k : Nat} (d : decode cc pc = .ok (.ldc index, 2)) (ho : "SoManyStairs$Reader" = y.cls) (hk : (index, tx, k) ∈ aw_sk) (kk : AW G R y cc nL ret Qf kc ks h (pc + 2) ls (.ref (aw_ad G (3 + k)) :: st)) : AW G R y cc nL ret Qf kc ks h pc ls st := by
  intro p e s m args below meth c H locs cells slots lsA X hR hS hlv h1 h2
  exact va_ldcS X.1 X.2.1 (own := "SoManyStairs$Reader") (by rw [ho]; exact X.2.2.2.2.2.1) (X.2.2.2.2.2.2.2.1.2.2.2.2.2.2.2.2.1 _ hk) d (kk p e s m args below meth c H locs cells slots lsA X hR hS hlv h1 h2)
theorem aw_ldcM {index : Nat} (d : decode cc pc = .ok (.ldc index, 2)) (hw : Cond.classLink y.cls index "[Ljava/lang/Object;" ∈ lw_all) (kk : AW G R y cc nL ret Qf kc ks h (pc + 2) ls (.ref (aw_ad G 60) :: st)) : AW G R y cc nL ret Qf kc ks h pc ls st := by
  intro p e s m args below meth c H locs cells slots lsA X hR hS hlv h1 h2
  exact va_ldcM X.1 X.2.1 X.2.2.2.2.2.1 (X.2.2.2.2.2.2.1 _ hw) X.2.2.2.2.2.2.2.1.2.2.2.2.2.2.2.2.2 d (kk p e s m args below meth c H locs cells slots lsA X hR hS hlv h1 h2)
theorem aw_getC {index a n : Nat} {f : Nat → Option Nat} (d : decode cc pc = .ok (.invokevirtual index, 3)) (hw : Cond.methodLink y.cls index ⟨"java/lang/Object", "getClass", "()Ljava/lang/Class;"⟩ ∈ lw_all) (he : h a = some (aw_O G n f)) (hf : 1 ≤ R.frames) (hl : 64 ≤ R.locals) (hc : (st.map fun v => v.category).sum ≤ 8) (kk : AW G R y cc nL ret Qf kc ks h (pc + 3) ls (.ref (aw_ad G 60) :: st)) : AW G R y cc nL ret Qf kc ks h pc ls (.ref a :: st) := by
  intro p e s m args below meth c H locs cells slots lsA X hR hS hlv h1 h2
  have hat := hR.at he
  have hra := (X.2.2.2.2.2.2.2.1.1.2 4 _ rfl).2
  have hdc : va_Nw (.declares ⟨"java/lang/Object", "getClass", "()Ljava/lang/Class;"⟩) s := X.2.2.2.2.2.2.2.1.2.2.2.2.2.1 _ (List.mem_of_getElem? (i := 0) (by decide +kernel))
  refine va_getC X.1 X.2.1 (X.2.2.2.2.1.trans hlv.1.symm) X.2.2.2.2.2.1 (X.2.2.2.2.2.2.1 _ hw) (va_any rfl hdc) (X.2.2.2.2.2.2.1 _ q2072) (X.2.2.2.2.2.2.1 _ q751) (X.2.2.2.2.2.2.1 _ q769) X.2.2.2.2.2.2.2.1.2.2.2.2.2.2.2.2.2 ⟨_, hat, rfl, va_nmO hra (by decide +kernel)⟩ hf (by omega) d (kk p e s m args below meth c H locs cells slots lsA X hR hS hlv h1 h2)
theorem aw_acmp_eq {x z : Nat} {off : Int} {tgt : Nat} (d : decode cc pc = .ok (.if_acmp .eq off, 3)) (ht : (pc : Int) + off = (tgt : Int)) (kt : x = z → AW G R y cc nL ret Qf kc ks h tgt ls st) (kf : ¬ x = z → AW G R y cc nL ret Qf kc ks h (pc + 3) ls st) : AW G R y cc nL ret Qf kc ks h pc ls (.ref z :: .ref x :: st) := by
  intro p e s m args below meth c H locs cells slots lsA X hR hS hlv h1 h2
  exact lv_acmp_eq (rx := some x) (ry := some z) X.1 X.2.1 d ht (fun q => kt (Option.some.inj q) p e s m args below meth c H locs cells slots lsA X hR hS hlv h1 h2) (fun q => kf (fun w => q (by rw [w])) p e s m args below meth c H locs cells slots lsA X hR hS hlv h1 h2)
theorem aw_acmp_ne {x z : Nat} {off : Int} {tgt : Nat} (d : decode cc pc = .ok (.if_acmp .ne off, 3)) (ht : (pc : Int) + off = (tgt : Int)) (kt : ¬ x = z → AW G R y cc nL ret Qf kc ks h tgt ls st) (kf : x = z → AW G R y cc nL ret Qf kc ks h (pc + 3) ls st) : AW G R y cc nL ret Qf kc ks h pc ls (.ref z :: .ref x :: st) := by
  intro p e s m args below meth c H locs cells slots lsA X hR hS hlv h1 h2
  exact lv_acmp_ne (rx := some x) (ry := some z) X.1 X.2.1 d ht (fun q => kt (fun w => q (by rw [w])) p e s m args below meth c H locs cells slots lsA X hR hS hlv h1 h2) (fun q => kf (Option.some.inj q) p e s m args below meth c H locs cells slots lsA X hR hS hlv h1 h2)
theorem aw_copyI {index a0 a n0 n1 : Nat} {f g : Nat → Int32} {sp dp n : Nat} (d : decode cc pc = .ok (.invokestatic index, 3)) (hw : Cond.methodLink y.cls index arraycopyName ∈ lw_all) (hab0 : aw_b G ≤ a0) (hab : aw_b G ≤ a) (he0 : h a0 = some (aw_I G n0 f)) (he : h a = some (aw_I G n1 g)) (hb1 : n0 < 2147483648) (hb2 : n1 < 2147483648) (h4 : sp + n ≤ n0) (h5 : dp + n ≤ n1) (hf : 1 ≤ R.frames) (hl : 64 ≤ R.locals) (hc : (st.map fun v => v.category).sum ≤ 8) (kk : AW G R y cc nL ret Qf kc ks (aw_up h a (aw_I G n1 (va_cpy f g sp dp n))) (pc + 3) ls st) : AW G R y cc nL ret Qf kc ks h pc ls (.int (nI n) :: .int (nI dp) :: .ref a :: .int (nI sp) :: .ref a0 :: st) := by
  intro p e s m args below meth c H locs cells slots lsA X hR hS hlv h1 h2
  obtain ⟨ws, g1, hP, hD, g4⟩ := hR
  obtain ⟨q0, hq0⟩ := List.mem_iff_getElem?.mp ((g1 a0 _ hab0).mp he0)
  obtain ⟨q1, hq1⟩ := List.mem_iff_getElem?.mp ((g1 a _ hab).mp he)
  have hb9 : aw_b G ≤ s.heap.size := X.2.2.2.2.2.2.2.2.2.1
  have hnw : nativeFrameWords "java/lang/System" "arraycopy" 5 ≤ 40 := by decide
  have cs : (nI sp).toNatClampNeg = sp := nI_clamp (by omega)
  have cd : (nI dp).toNatClampNeg = dp := nI_clamp (by omega)
  have cn : (nI n).toNatClampNeg = n := nI_clamp (by omega)
  refine va_copyi X.1 X.2.1 (X.2.2.2.2.1.trans hlv.1.symm) X.2.2.2.2.2.1 (X.2.2.2.2.2.2.1 _ hw) (X.2.2.2.2.2.2.1 _ q781) (X.2.2.2.2.2.2.1 _ q780) (X.2.2.2.2.2.2.1 _ q140) X.2.2.2.2.2.2.2.1.1 hP hD hS q0 q1 0 0 hq0 hq1 rfl rfl rfl (nI_pos (by omega)) (nI_pos (by omega)) (nI_pos (by omega)) (by rw [cs, cn]; exact h4) (by rw [cd, cn]; exact h5) (fun _ _ => rfl) hf (by omega) d ?_
  rw [cs, cd, cn]
  intro H1 locs1 hP1 hD1 hS1
  refine kk p e s m args below meth c H1 locs1 cells slots lsA X (aw_R.put g1 g4 hq1 hP1 hD hD1 ?_) hS1 hlv h1 h2
  intro q n1 n2
  have n3 : q < s.heap.size := Nat.lt_of_lt_of_le (Nat.lt_of_not_le n1) hb9
  rw [hS1.2.1 q n3 n1, hS.2.1 q n3 n1]
/-- an object of a class of the list that may lie in an array of objects -/
def aw_isO (h : aw_H) (q : Nat) : Prop := ∃ (ci : Nat) (fs : List Value) (C : String) (T : u_T) (N : Nat), h q = some (aw_o ci fs) ∧ aw_cl[ci]? = some (C, T, N) ∧ (C, "java/lang/Object") ∈ aw_cs
theorem aw_copyO {index a0 a n0 n1 : Nat} {f g : Nat → Option Nat} {sp dp n : Nat} (d : decode cc pc = .ok (.invokestatic index, 3)) (hw : Cond.methodLink y.cls index arraycopyName ∈ lw_all) (hab0 : aw_b G ≤ a0) (hab : aw_b G ≤ a) (he0 : h a0 = some (aw_O G n0 f)) (he : h a = some (aw_O G n1 g)) (hb1 : n0 < 2147483648) (hb2 : n1 < 2147483648) (h4 : sp + n ≤ n0) (h5 : dp + n ≤ n1) (hel : ∀ i, i < n → ∀ q, f (sp + i) = some q → aw_isO h q) (hf : 1 ≤ R.frames) (hl : 64 ≤ R.locals) (hc : (st.map fun v => v.category).sum ≤ 8) (kk : AW G R y cc nL ret Qf kc ks (aw_up h a (aw_O G n1 (va_cpy f g sp dp n))) (pc + 3) ls st) : AW G R y cc nL ret Qf kc ks h pc ls (.int (nI n) :: .int (nI dp) :: .ref a :: .int (nI sp) :: .ref a0 :: st) := by
  intro p e s m args below meth c H locs cells slots lsA X hR hS hlv h1 h2
  have hel2 : ∀ i, i < n → ∀ q, f (sp + i) = some q → va_Any "java/lang/Object" s H q := by
    intro i hi q hq
    obtain ⟨ci, fs, C, T, N, z1, z2, z3⟩ := hel i hi q hq
    exact va_rAny (q0 := 0) X.2.2.2.2.2.2.2.1.1 (hR.one z1) rfl z2 (vb_asgC (X.2.2.2.2.2.2.2.1.2.2.2.1 _ z3))
  obtain ⟨ws, g1, hP, hD, g4⟩ := hR
  obtain ⟨q0, hq0⟩ := List.mem_iff_getElem?.mp ((g1 a0 _ hab0).mp he0)
  obtain ⟨q1, hq1⟩ := List.mem_iff_getElem?.mp ((g1 a _ hab).mp he)
  have hb9 : aw_b G ≤ s.heap.size := X.2.2.2.2.2.2.2.2.2.1
  have hnw : nativeFrameWords "java/lang/System" "arraycopy" 5 ≤ 40 := by decide
  have cs : (nI sp).toNatClampNeg = sp := nI_clamp (by omega)
  have cd : (nI dp).toNatClampNeg = dp := nI_clamp (by omega)
  have cn : (nI n).toNatClampNeg = n := nI_clamp (by omega)
  refine va_copyM X.1 X.2.1 (X.2.2.2.2.1.trans hlv.1.symm) X.2.2.2.2.2.1 (X.2.2.2.2.2.2.1 _ hw) (X.2.2.2.2.2.2.1 _ q781) (X.2.2.2.2.2.2.1 _ q780) (X.2.2.2.2.2.2.1 _ q140) X.2.2.2.2.2.2.2.1.1 hP hD hS q0 q1 4 4 hq0 hq1 rfl rfl (nI_pos (by omega)) (nI_pos (by omega)) (nI_pos (by omega)) (by rw [cs, cn]; exact h4) (by rw [cd, cn]; exact h5) (by rw [cs, cn]; exact hel2) hf (by omega) d ?_
  rw [cs, cd, cn]
  intro H1 locs1 hP1 hD1 hS1
  refine kk p e s m args below meth c H1 locs1 cells slots lsA X (aw_R.put g1 g4 hq1 hP1 hD hD1 ?_) hS1 hlv h1 h2
  intro q n1 n2
  have n3 : q < s.heap.size := Nat.lt_of_lt_of_le (Nat.lt_of_not_le n1) hb9
  rw [hS1.2.1 q n3 n1, hS.2.1 q n3 n1]
/-- a call of x through an object whose class has y2 for it; x is abstract -/
def aw_SA (own : String) (index : Nat) (x y2 : MethodName) (cc2 : ByteArray) (nL2 : Nat) (ret2 : Option FieldType) (n ci : Nat) : Prop := ∃ (C : String) (T : u_T) (N : Nat), GoodIn lw_all (va_wsU own index C x.cls x y2 (ws_ y2 cc2 nL2 ret2)) ∧ x ∈ aw_de ∧ (x.cls ≠ "java/lang/invoke/MethodHandle" ∧ x.cls ≠ "java/lang/invoke/VarHandle" ∧ (parseMethodDescriptor x.desc).map (fun d => d.parameters.length) = some n) ∧ aw_cl[ci]? = some (C, T, N)
theorem aw_callA {own : String} {x y2 : MethodName} {cc2 : ByteArray} {nL2 n index ci b f2 mc2 ms2 : Nat} {ret2 : Option FieldType} {fs As rest : List Value} {Po : Option Value → aw_H → Prop} (d : decode cc pc = .ok (.invokevirtual index, 3)) (S : aw_SA own index x y2 cc2 nL2 ret2 n ci) (ho : own = y.cls) (hM : aw_Met G y2 cc2 nL2 ret2 f2 mc2 ms2 (.ref b :: As) h Po) (hb : h b = some (aw_o ci fs)) (hst : st = As.reverse ++ .ref b :: rest) (hn : As.length = n) (hR : f2 + 1 ≤ R.frames ∧ 8 + (nL2 + 11) + 64 * f2 ≤ R.locals) (hc : (rest.map fun v => v.category).sum ≤ 8)
    (kk : ∀ v h', Po v h' → AW G R y cc nL ret Qf kc ks h' (pc + 3) ls (v.toList ++ rest)) : AW G R y cc nL ret Qf (kc + mc2) (ks + ms2) h pc ls st := by
  subst ho
  subst hst
  obtain ⟨C, T, N, S1, S0, S2, S3⟩ := S
  intro p e s m args below meth c H locs cells slots lsA X hR9 hS hlv h1 h2
  exact aw_cont (va_runU (As := As) (rest := rest) ⟨X.1, X.2.1, X.2.2.2.2.1, X.2.2.2.2.2.1, X.2.2.2.2.2.2.1⟩ hM (va_cwA n X.2.2.2.2.2.2.1 S1 rfl rfl rfl (X.2.2.2.2.2.2.2.1.2.2.2.2.2.1 _ S0) S2 hR) ⟨aw_P.blind, va_recv X.2.2.2.2.2.2.2.1.1 (hR9.one hb) S3 (q0 := 0) rfl, fun U hU hW => aw_P.mk X hR9 hS hU hW⟩ rfl hn hlv.1 rfl (lv_room hc) d ⟨by omega, by omega⟩) X hS hlv h1 h2 kk
end XRW
