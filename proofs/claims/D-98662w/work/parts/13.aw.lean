/-! THE LAYER: contracts, calls, returns -/
set_option maxRecDepth 100000
def aw_P (G : aw_G) (args : List Value) (h : aw_H) : Array Value → State → Prop := va_Pc args (fun U => aw_R G h U.heap ∧ aw_Tb G U ∧ aw_St G U U.heap ∧ aw_b G ≤ U.heap.size)
def aw_Q (G : aw_G) (Po : Option Value → aw_H → Prop) : Array Value → State → Outcome → State → Prop := fun _ st oc t => ∃ v h', oc = .returned v ∧ Po v h' ∧ aw_R G h' t.heap ∧ va_F (aw_A G) st t
abbrev aw_rm (f mc ms : Nat) : Room := { frames := f, cells := mc, slots := ms, locals := 64 * f }
def aw_N (G : aw_G) (Po : Option Value → aw_H → Prop) (mc ms : Nat) : List Frame → Array Value → State → State → Prop := fun below args s => MQ below (aw_Q G Po) args s mc ms (aw_A G)
/-- A CONTRACT: called with these arguments in the heap h, it returns v with the heap h', as Po says -/
def aw_Met (G : aw_G) (y : MethodName) (cc : ByteArray) (nL : Nat) (ret : Option FieldType) (f mc ms : Nat) (args : List Value) (h : aw_H) (Po : Option Value → aw_H → Prop) : Prop :=
  Met G.1 y (ws_ y cc nL ret) (aw_rm f mc ms) (aw_P G args h) (aw_Q G Po) mc ms (aw_A G)
theorem aw_P.blind {G : aw_G} {args : List Value} {h : aw_H} : FrameBlind (aw_P G args h) := by
  intro a U g mk q
  obtain ⟨q1, q2, q3, q4, q5⟩ := q
  exact ⟨q1, q2, aw_Tb.same (s := U) rfl q3, aw_St.moved (Vm.Alike.refl U.vm) q4, q5⟩
section AWC
variable {G : aw_G} {R : Room} {y : MethodName} {cc : ByteArray} {nL : Nat} {ret : Option FieldType} {Qf : List Frame → Array Value → State → State → Prop} {kc ks : Nat} {h : aw_H} {pc : Nat} {ls : List (Nat × Value)} {st : List Value}
theorem aw_Met.of {f mc ms : Nat} {args : List Value} {Po : Option Value → aw_H → Prop} (hy : plainName y.cls = true) (hl : (lg_sl args).length ≤ nL) (k : AW G (aw_rm f mc ms) y cc nL ret (aw_N G Po mc ms) mc ms h 0 (lv_args 0 args) []) : aw_Met G y cc nL ret f mc ms args h Po := by
  refine Met.ofW (cc := cc) (maxL := nL) (ret := ret) hy rfl ?_
  intro p e s m args9 below meth c s₁ B hml hv
  obtain ⟨rfl, hR, hT, hSt, hb⟩ := hv
  have hts := atoms_spec (ws := ws_ y cc nL ret) B.pre
  have hts : ∀ w ∈ lw_all, w.before _ s = true := fun w h => hts w (List.mem_cons_of_mem _ h)
  have hlv := lv_entry args (n := nL) hl
  rw [lg_entry_eq]
  exact k p e s m _ below meth c s.heap [] 0 0 _ ⟨B.exec, B.bytes, B.returns, B.notSynchronized, hml, findClass_of_methodNamed B.named, hts, hT, hSt, hb, (name_of_methodNamed B.named B.method).1⟩ hR va_S.rf hlv (Nat.le_of_eq (Nat.zero_add _)) (Nat.le_of_eq (Nat.zero_add _))
/-- behind a call -/
theorem aw_cont {p : Program} {e : Env} {s : State} {m : MethodId} {args a : Array Value} {below : List Frame} {meth : Method} {c : Code} {H : Heap} {locs : List Loc} {cells slots mc2 ms2 : Nat} {lsA : Array Slot} {rest : List Value} {Po : Option Value → aw_H → Prop}
    (hr : va_Run p G.1 e R s m args below meth c H locs cells slots mc2 ms2 (F0 m pc lsA st) rest (aw_Q G Po a) (aw_A G)) (X : aw_C G y cc nL ret p e s m args meth c) (hS : va_S (aw_A G) s.heap H locs) (hlv : lv_has lsA nL ls) (h1 : cells + (kc + mc2) ≤ R.cells) (h2 : slots + (ks + ms2) ≤ R.slots)
    (kk : ∀ v h', Po v h' → AW G R y cc nL ret Qf kc ks h' (pc + 3) ls (v.toList ++ rest)) : W p G.1 e R s m args below meth c H locs cells slots (Qf below args s) (F0 m pc lsA st) := by
  intro T hT Y
  obtain ⟨v, st₀, t, T', L, h0, Y', hL, e1, e2, ⟨v', h', hv, hp, hb, hz, hk⟩, st⟩ := hr T hT Y
  cases hv
  rw [h0] at hz hk
  have hS' : va_S (aw_A G) s.heap T'.heap (locs ++ L) := ⟨Nat.le_trans hS.1 (by rw [e1]; exact hz), fun q g1 g2 => by rw [e1, hk q (Nat.lt_of_lt_of_le g1 hS.1) g2]; exact hS.2.1 q g1 g2, fun q hq => by
    rcases List.mem_append.mp hq with g | g
    · exact hS.2.2 q g
    · exact hL q g⟩
  obtain ⟨t2, a1, b1⟩ := kk v h' hp p e s m args below meth c T'.heap (locs ++ L) (cells + mc2) (slots + ms2) lsA X (by rw [e1]; exact hb) hS' hlv (by omega) (by omega) T' rfl Y'
  exact ⟨t2, st t2 a1, b1⟩
theorem aw_P.mk {p : Program} {e : Env} {s : State} {m : MethodId} {args : Array Value} {meth : Method} {c : Code} {H : Heap} {locs : List Loc} {As : List Value} (X : aw_C G y cc nL ret p e s m args meth c) (hR : aw_R G h H) (hS : va_S (aw_A G) s.heap H locs) {U : State} (hU : U.heap = H) (hW : s.WarmedH U.vm) : aw_P G As h As.toArray U := by
  refine ⟨rfl, by rw [hU]; exact hR, aw_Tb.warm hW X.2.2.2.2.2.2.2.1, aw_St.moved hW.alike ?_, ?_⟩
  · rw [hU]
    exact aw_St.kept X.2.2.2.2.2.2.2.2.1 (fun a z1 z2 => hS.2.1 a z1 z2)
  · rw [hU]
    exact Nat.le_trans X.2.2.2.2.2.2.2.2.2.1 hS.1
/-- what a call through an object of the very class asks of the tables -/
def aw_SV (own : String) (index : Nat) (y2 : MethodName) (cc2 : ByteArray) (nL2 : Nat) (ret2 : Option FieldType) (n ci : Nat) : Prop := GoodIn lw_all (wsV own index y2.cls y2 (ws_ y2 cc2 nL2 ret2)) ∧ (y2.cls ≠ "java/lang/invoke/MethodHandle" ∧ y2.cls ≠ "java/lang/invoke/VarHandle" ∧ (parseMethodDescriptor y2.desc).map (fun d => d.parameters.length) = some n) ∧ ∃ (T : u_T) (N : Nat), aw_cl[ci]? = some (y2.cls, T, N)
theorem aw_callV {own : String} {y2 : MethodName} {cc2 : ByteArray} {nL2 n index ci b f2 mc2 ms2 : Nat} {ret2 : Option FieldType} {fs As rest : List Value} {Po : Option Value → aw_H → Prop} (d : decode cc pc = .ok (.invokevirtual index, 3)) (S : aw_SV own index y2 cc2 nL2 ret2 n ci) (ho : own = y.cls) (hM : aw_Met G y2 cc2 nL2 ret2 f2 mc2 ms2 (.ref b :: As) h Po) (hb : h b = some (aw_o ci fs)) (hst : st = As.reverse ++ .ref b :: rest) (hn : As.length = n) (hR : f2 + 1 ≤ R.frames ∧ 8 + (nL2 + 11) + 64 * f2 ≤ R.locals) (hc : (rest.map fun v => v.category).sum ≤ 8)
    (kk : ∀ v h', Po v h' → AW G R y cc nL ret Qf kc ks h' (pc + 3) ls (v.toList ++ rest)) : AW G R y cc nL ret Qf (kc + mc2) (ks + ms2) h pc ls st := by
  subst ho
  subst hst
  obtain ⟨S1, S2, T, N, S3⟩ := S
  intro p e s m args below meth c H locs cells slots lsA X hR9 hS hlv h1 h2
  exact aw_cont (va_runV (As := As) (rest := rest) ⟨X.1, X.2.1, X.2.2.2.2.1, X.2.2.2.2.2.1, X.2.2.2.2.2.2.1⟩ hM (cwV n X.2.2.2.2.2.2.1 S1 rfl rfl rfl ⟨rfl, S2⟩ hR) ⟨aw_P.blind, va_recv X.2.2.2.2.2.2.2.1.1 (hR9.one hb) S3 (q0 := 0) rfl, fun U hU hW => aw_P.mk X hR9 hS hU hW⟩ rfl hn hlv.1 rfl (lv_room hc) d ⟨by omega, by omega⟩) X hS hlv h1 h2 kk
/-- a static call -/
def aw_SS (own : String) (index : Nat) (y2 : MethodName) (cc2 : ByteArray) (nL2 : Nat) (ret2 : Option FieldType) (n : Nat) : Prop := GoodIn lw_all (va_wsS own index y2 (ws_ y2 cc2 nL2 ret2)) ∧ (y2.cls ≠ "java/lang/invoke/MethodHandle" ∧ y2.cls ≠ "java/lang/invoke/VarHandle" ∧ (parseMethodDescriptor y2.desc).map (fun d => d.parameters.length) = some n)
theorem aw_callS {own : String} {y2 : MethodName} {cc2 : ByteArray} {nL2 n index f2 mc2 ms2 : Nat} {ret2 : Option FieldType} {As rest : List Value} {Po : Option Value → aw_H → Prop} (d : decode cc pc = .ok (.invokestatic index, 3)) (S : aw_SS own index y2 cc2 nL2 ret2 n) (ho : own = y.cls) (hM : aw_Met G y2 cc2 nL2 ret2 f2 mc2 ms2 As h Po) (hst : st = As.reverse ++ rest) (hn : As.length = n) (hR : f2 + 1 ≤ R.frames ∧ 8 + (nL2 + 11) + 64 * f2 ≤ R.locals) (hc : (rest.map fun v => v.category).sum ≤ 8)
    (kk : ∀ v h', Po v h' → AW G R y cc nL ret Qf kc ks h' (pc + 3) ls (v.toList ++ rest)) : AW G R y cc nL ret Qf (kc + mc2) (ks + ms2) h pc ls st := by
  subst ho
  subst hst
  obtain ⟨S1, S2⟩ := S
  intro p e s m args below meth c H locs cells slots lsA X hR9 hS hlv h1 h2
  exact aw_cont (va_runS (As := As) (rest := rest) ⟨X.1, X.2.1, X.2.2.2.2.1, X.2.2.2.2.2.1, X.2.2.2.2.2.2.1⟩ hM (va_cwS n X.2.2.2.2.2.2.1 S1 rfl rfl rfl S2 hR) ⟨aw_P.blind, fun U hU hW => aw_P.mk X hR9 hS hU hW⟩ rfl hn hlv.1 rfl (lv_room hc) d ⟨by omega, by omega⟩) X hS hlv h1 h2 kk
/-- a static call of a nest mate's method -/
def aw_SSN (own : String) (index : Nat) (y2 : MethodName) (cc2 : ByteArray) (nL2 : Nat) (ret2 : Option FieldType) (n : Nat) (host : String) : Prop := Cond.code y2 cc2 nL2 ret2 ∈ lw_all ∧ Cond.static y2 ∈ lw_all ∧ Cond.initialized y2.cls ∈ lw_all ∧ (own, index, y2, host) ∈ aw_mn ∧ (y2.cls ≠ "java/lang/invoke/MethodHandle" ∧ y2.cls ≠ "java/lang/invoke/VarHandle" ∧ (parseMethodDescriptor y2.desc).map (fun d => d.parameters.length) = some n)
theorem aw_callSN {own host : String} {y2 : MethodName} {cc2 : ByteArray} {nL2 n index f2 mc2 ms2 : Nat} {ret2 : Option FieldType} {As rest : List Value} {Po : Option Value → aw_H → Prop} (d : decode cc pc = .ok (.invokestatic index, 3)) (S : aw_SSN own index y2 cc2 nL2 ret2 n host) (ho : own = y.cls) (hM : aw_Met G y2 cc2 nL2 ret2 f2 mc2 ms2 As h Po) (hst : st = As.reverse ++ rest) (hn : As.length = n) (hR : f2 + 1 ≤ R.frames ∧ 8 + (nL2 + 11) + 64 * f2 ≤ R.locals) (hc : (rest.map fun v => v.category).sum ≤ 8)
    (kk : ∀ v h', Po v h' → AW G R y cc nL ret Qf kc ks h' (pc + 3) ls (v.toList ++ rest)) : AW G R y cc nL ret Qf (kc + mc2) (ks + ms2) h pc ls st := by
  subst ho
  subst hst
  obtain ⟨S1, S2, S3, S4, S5⟩ := S
  intro p e s m args below meth c H locs cells slots lsA X hR9 hS hlv h1 h2
  exact aw_cont (va_runSN (As := As) (rest := rest) ⟨X.1, X.2.1, X.2.2.2.2.1, X.2.2.2.2.2.1, X.2.2.2.2.2.2.1⟩ hM ⟨va_cnB n X.2.2.2.2.2.2.1 (lw_meth S1) rfl rfl rfl (X.2.2.2.2.2.2.2.1.2.1 _ S4) (X.2.2.2.2.2.2.1 _ S3) S5 hR, X.2.2.2.2.2.2.1 _ S2, trivial⟩ ⟨aw_P.blind, fun U hU hW => aw_P.mk X hR9 hS hU hW⟩ rfl hn hlv.1 rfl (lv_room hc) d ⟨by omega, by omega⟩) X hS hlv h1 h2 kk
/-- a constructor's call -/
def aw_SI (own : String) (index : Nat) (y2 : MethodName) (cc2 : ByteArray) (nL2 : Nat) (n : Nat) : Prop := Cond.code y2 cc2 nL2 none ∈ lw_all ∧ Cond.methodLink own index y2 ∈ lw_all ∧ Cond.instanceMethod y2 ∈ lw_all ∧ Cond.initialized y2.cls ∈ lw_all ∧ y2.name = "<init>" ∧ (y2.cls ≠ "java/lang/invoke/MethodHandle" ∧ y2.cls ≠ "java/lang/invoke/VarHandle" ∧ (parseMethodDescriptor y2.desc).map (fun d => d.parameters.length) = some n)
theorem aw_callI {own : String} {y2 : MethodName} {cc2 : ByteArray} {nL2 n index b f2 mc2 ms2 : Nat} {As rest : List Value} {Po : Option Value → aw_H → Prop} (d : decode cc pc = .ok (.invokespecial index, 3)) (S : aw_SI own index y2 cc2 nL2 n) (ho : own = y.cls) (hM : aw_Met G y2 cc2 nL2 none f2 mc2 ms2 (.ref b :: As) h Po) (hst : st = As.reverse ++ .ref b :: rest) (hn : As.length = n) (hR : f2 + 1 ≤ R.frames ∧ 8 + (nL2 + 11) + 64 * f2 ≤ R.locals) (hc : (rest.map fun v => v.category).sum ≤ 8)
    (kk : ∀ v h', Po v h' → AW G R y cc nL ret Qf kc ks h' (pc + 3) ls (v.toList ++ rest)) : AW G R y cc nL ret Qf (kc + mc2) (ks + ms2) h pc ls st := by
  subst ho
  subst hst
  obtain ⟨S1, S2, S3, S4, S5, S6⟩ := S
  intro p e s m args below meth c H locs cells slots lsA X hR9 hS hlv h1 h2
  exact aw_cont (va_runI (As := As) (rest := rest) ⟨X.1, X.2.1, X.2.2.2.2.1, X.2.2.2.2.2.1, X.2.2.2.2.2.2.1⟩ hM (cwI n X.2.2.2.2.2.2.1 (lw_meth S1) rfl rfl rfl (X.2.2.2.2.2.2.1 _ S4) (X.2.2.2.2.2.2.1 _ S2) (X.2.2.2.2.2.2.1 _ S3) S5 S6 hR) ⟨aw_P.blind, fun U hU hW => aw_P.mk X hR9 hS hU hW⟩ rfl hn hlv.1 rfl (lv_room hc) d ⟨by omega, by omega⟩) X hS hlv h1 h2 kk
/-- a nest mate's private constructor -/
def aw_SIN (own : String) (index : Nat) (y2 : MethodName) (cc2 : ByteArray) (nL2 : Nat) (n : Nat) (host : String) : Prop := Cond.code y2 cc2 nL2 none ∈ lw_all ∧ (own, index, y2, host) ∈ aw_mn ∧ Cond.instanceMethod y2 ∈ lw_all ∧ Cond.initialized y2.cls ∈ lw_all ∧ y2.name = "<init>" ∧ (y2.cls ≠ "java/lang/invoke/MethodHandle" ∧ y2.cls ≠ "java/lang/invoke/VarHandle" ∧ (parseMethodDescriptor y2.desc).map (fun d => d.parameters.length) = some n)
theorem aw_callIN {own host : String} {y2 : MethodName} {cc2 : ByteArray} {nL2 n index b f2 mc2 ms2 : Nat} {As rest : List Value} {Po : Option Value → aw_H → Prop} (d : decode cc pc = .ok (.invokespecial index, 3)) (S : aw_SIN own index y2 cc2 nL2 n host) (ho : own = y.cls) (hM : aw_Met G y2 cc2 nL2 none f2 mc2 ms2 (.ref b :: As) h Po) (hst : st = As.reverse ++ .ref b :: rest) (hn : As.length = n) (hR : f2 + 1 ≤ R.frames ∧ 8 + (nL2 + 11) + 64 * f2 ≤ R.locals) (hc : (rest.map fun v => v.category).sum ≤ 8)
    (kk : ∀ v h', Po v h' → AW G R y cc nL ret Qf kc ks h' (pc + 3) ls (v.toList ++ rest)) : AW G R y cc nL ret Qf (kc + mc2) (ks + ms2) h pc ls st := by
  subst ho
  subst hst
  obtain ⟨S1, S2, S3, S4, S5, S6⟩ := S
  intro p e s m args below meth c H locs cells slots lsA X hR9 hS hlv h1 h2
  exact aw_cont (va_runIN (As := As) (rest := rest) ⟨X.1, X.2.1, X.2.2.2.2.1, X.2.2.2.2.2.1, X.2.2.2.2.2.2.1⟩ hM ⟨va_cnB n X.2.2.2.2.2.2.1 (lw_meth S1) rfl rfl rfl (X.2.2.2.2.2.2.2.1.2.1 _ S2) (X.2.2.2.2.2.2.1 _ S4) S6 hR, S5, X.2.2.2.2.2.2.1 _ S3⟩ ⟨aw_P.blind, fun U hU hW => aw_P.mk X hR9 hS hU hW⟩ rfl hn hlv.1 rfl (lv_room hc) d ⟨by omega, by omega⟩) X hS hlv h1 h2 kk
/-! returns -/
theorem aw_end {p : Program} {e : Env} {s : State} {m : MethodId} {args : Array Value} {meth : Method} {c : Code} {H : Heap} {locs : List Loc} {Po : Option Value → aw_H → Prop} {v : Option Value} (hR : aw_R G h H) (hS : va_S (aw_A G) s.heap H locs) (hp : Po v h) : ∀ t : State, t.heap = H → s.WarmedH t.vm → aw_Q G Po args s (.returned v) t := fun t ht hW => ⟨v, h, rfl, hp, by rw [ht]; exact hR, hS.F ht⟩
variable {f mc ms : Nat} {Po : Option Value → aw_H → Prop}
theorem aw_ireturn {v : Int32} (d : decode cc pc = .ok (.ireturn, 1)) (hr : ret = some .int) (hp : Po (some (.int v)) h) : AW G (aw_rm f mc ms) y cc nL ret (aw_N G Po mc ms) kc ks h pc ls [.int v] := by
  intro p e s m args below meth c H locs cells slots lsA X hR9 hS hlv h1 h2
  subst hr
  have hlocks := X.2.2.2.1
  exact W.widen (k := mc) (n := ms) (Nat.le_trans (Nat.le_add_right _ _) h1) (Nat.le_trans (Nat.le_add_right _ _) h2) (W.iret (v := v) X.1 X.2.1 X.2.2.1 (aw_end (p := p) (e := e) (m := m) (meth := meth) (c := c) hR9 hS hp) hS.2.2 d hlocks)
theorem aw_zreturn {v : Int32} (d : decode cc pc = .ok (.ireturn, 1)) (hr : ret = some .boolean) (hv : narrow .boolean (.int v) = .int v) (hp : Po (some (.int v)) h) : AW G (aw_rm f mc ms) y cc nL ret (aw_N G Po mc ms) kc ks h pc ls [.int v] := by
  intro p e s m args below meth c H locs cells slots lsA X hR9 hS hlv h1 h2
  subst hr
  have hlocks := X.2.2.2.1
  exact W.widen (k := mc) (n := ms) (Nat.le_trans (Nat.le_add_right _ _) h1) (Nat.le_trans (Nat.le_add_right _ _) h2) (W.zret (v := v) X.1 X.2.1 X.2.2.1 hv (aw_end (p := p) (e := e) (m := m) (meth := meth) (c := c) hR9 hS hp) hS.2.2 d hlocks)
theorem aw_vreturn (d : decode cc pc = .ok (.return_, 1)) (hr : ret = none) (hp : Po none h) : AW G (aw_rm f mc ms) y cc nL ret (aw_N G Po mc ms) kc ks h pc ls [] := by
  intro p e s m args below meth c H locs cells slots lsA X hR9 hS hlv h1 h2
  subst hr
  have hlocks := X.2.2.2.1
  exact W.widen (k := mc) (n := ms) (Nat.le_trans (Nat.le_add_right _ _) h1) (Nat.le_trans (Nat.le_add_right _ _) h2) (W.vret X.1 X.2.1 X.2.2.1 (aw_end (p := p) (e := e) (m := m) (meth := meth) (c := c) hR9 hS hp) hS.2.2 d hlocks)
theorem aw_areturn {v : Value} {rt : FieldType} (d : decode cc pc = .ok (.areturn, 1)) (hr : ret = some rt) (hrt : (∃ n, rt = .object n) ∨ ∃ t, rt = .array t) (hv : v = .null ∨ ∃ a, v = .ref a) (hp : Po (some v) h) : AW G (aw_rm f mc ms) y cc nL ret (aw_N G Po mc ms) kc ks h pc ls [v] := by
  intro p e s m args below meth c H locs cells slots lsA X hR9 hS hlv h1 h2
  subst hr
  have hlocks := X.2.2.2.1
  exact W.widen (k := mc) (n := ms) (Nat.le_trans (Nat.le_add_right _ _) h1) (Nat.le_trans (Nat.le_add_right _ _) h2) (W.aret (v := v) X.1 X.2.1 X.2.2.1 hrt hv (aw_end (p := p) (e := e) (m := m) (meth := meth) (c := c) hR9 hS hp) hS.2.2 d hlocks)
end AWC
