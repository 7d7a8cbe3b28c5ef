set_option maxRecDepth 100000
/-! calls of abstract methods, of an inherited one, through an interface -/
theorem lw_U {own : String} {idx : Nat} {C owner : String} {x y : MethodName} {b : ByteArray} {L : Nat} {r : Option FieldType} (h1 : Cond.methodLink own idx x ∈ lw_all) (h2 : Cond.sameMethod x.cls owner x.name x.desc ∈ lw_all) (h3 : Cond.selects C x y ∈ lw_all) (h4 : Cond.instanceMethod y ∈ lw_all) (h5 : Cond.initialized y.cls ∈ lw_all) (h6 : Cond.code y b L r ∈ lw_all) : GoodIn lw_all (va_wsU own idx C owner x y (ws_ y b L r)) := by
  refine lw_app ?_ (lw_meth h6)
  intro w hw
  simp only [List.mem_cons, List.not_mem_nil, or_false] at hw
  rcases hw with e | e | e | e | e
  · rw [e]; exact h1
  · rw [e]; exact h2
  · rw [e]; exact h3
  · rw [e]; exact h4
  · rw [e]; exact h5
theorem lw_F {own : String} {idx : Nat} {C : String} {x y : MethodName} {b : ByteArray} {L : Nat} {r : Option FieldType} (h1 : Cond.methodLink own idx x ∈ lw_all) (h3 : Cond.selects C x y ∈ lw_all) (h4 : Cond.instanceMethod y ∈ lw_all) (h5 : Cond.initialized y.cls ∈ lw_all) (h6 : Cond.code y b L r ∈ lw_all) : GoodIn lw_all (va_wsF own idx C x y (ws_ y b L r)) := by
  refine lw_app ?_ (lw_meth h6)
  intro w hw
  simp only [List.mem_cons, List.not_mem_nil, or_false] at hw
  rcases hw with e | e | e | e
  · rw [e]; exact h1
  · rw [e]; exact h3
  · rw [e]; exact h4
  · rw [e]; exact h5
/-- a call of a method that the object's class has from its superclass -/
def aw_SU (own : String) (index : Nat) (y2 : MethodName) (cc2 : ByteArray) (nL2 : Nat) (ret2 : Option FieldType) (n ci : Nat) : Prop := ∃ (C : String) (T : u_T) (N : Nat), GoodIn lw_all (va_wsU own index C y2.cls y2 y2 (ws_ y2 cc2 nL2 ret2)) ∧ (y2.cls ≠ "java/lang/invoke/MethodHandle" ∧ y2.cls ≠ "java/lang/invoke/VarHandle" ∧ (parseMethodDescriptor y2.desc).map (fun d => d.parameters.length) = some n) ∧ aw_cl[ci]? = some (C, T, N)
section SUW
variable {G : aw_G} {R : Room} {y : MethodName} {cc : ByteArray} {nL : Nat} {ret : Option FieldType} {Qf : List Frame → Array Value → State → State → Prop} {kc ks : Nat} {h : aw_H} {pc : Nat} {ls : List (Nat × Value)} {st : List Value}
theorem aw_callU {own : String} {y2 : MethodName} {cc2 : ByteArray} {nL2 n index ci b f2 mc2 ms2 : Nat} {ret2 : Option FieldType} {fs As rest : List Value} {Po : Option Value → aw_H → Prop} (d : decode cc pc = .ok (.invokevirtual index, 3)) (S : aw_SU own index y2 cc2 nL2 ret2 n ci) (ho : own = y.cls) (hM : aw_Met G y2 cc2 nL2 ret2 f2 mc2 ms2 (.ref b :: As) h Po) (hb : h b = some (aw_o ci fs)) (hst : st = As.reverse ++ .ref b :: rest) (hn : As.length = n) (hR : f2 + 1 ≤ R.frames ∧ 8 + (nL2 + 11) + 64 * f2 ≤ R.locals) (hc : (rest.map fun v => v.category).sum ≤ 8)
    (kk : ∀ v h', Po v h' → AW G R y cc nL ret Qf kc ks h' (pc + 3) ls (v.toList ++ rest)) : AW G R y cc nL ret Qf (kc + mc2) (ks + ms2) h pc ls st := by
  subst ho
  subst hst
  obtain ⟨C, T, N, S1, S2, S3⟩ := S
  intro p e s m args below meth c H locs cells slots lsA X hR9 hS hlv h1 h2
  exact aw_cont (va_runU (As := As) (rest := rest) ⟨X.1, X.2.1, X.2.2.2.2.1, X.2.2.2.2.2.1, X.2.2.2.2.2.2.1⟩ hM (va_cwU n X.2.2.2.2.2.2.1 S1 rfl rfl rfl rfl S2 hR) ⟨aw_P.blind, va_recv X.2.2.2.2.2.2.2.1.1 (hR9.one hb) S3 (q0 := 0) rfl, fun U hU hW => aw_P.mk X hR9 hS hU hW⟩ rfl hn hlv.1 rfl (lv_room hc) d ⟨by omega, by omega⟩) X hS hlv h1 h2 kk
end SUW
theorem sX1_48_X9 : aw_SA RX1 48 ⟨"SoManyStairs$Part", "of", "([I)I"⟩ yX9_of cX9_of 2 (some .int) 1 8 := ⟨RX9, TX9, 1, lw_U q928 q930 q934 q935 q142 q936, List.mem_of_getElem? (i := 6) rfl, by decide +kernel, rfl⟩
theorem sX1_48_X10 : aw_SA RX1 48 ⟨"SoManyStairs$Part", "of", "([I)I"⟩ yX10_of cX10_of 2 (some .int) 1 9 := ⟨RX10, TX10, 1, lw_U q928 q930 q946 q938 q143 q939, List.mem_of_getElem? (i := 6) rfl, by decide +kernel, rfl⟩
theorem sX1_48_X11 : aw_SA RX1 48 ⟨"SoManyStairs$Part", "of", "([I)I"⟩ yX11_of cX11_of 2 (some .int) 1 10 := ⟨RX11, TX11, 1, lw_U q928 q930 q931 q932 q144 q933, List.mem_of_getElem? (i := 6) rfl, by decide +kernel, rfl⟩
theorem sX1_48_X12 : aw_SA RX1 48 ⟨"SoManyStairs$Part", "of", "([I)I"⟩ yX12_of cX12_of 4 (some .int) 1 11 := ⟨RX12, TX12, 3, lw_U q928 q930 q947 q940 q145 q941, List.mem_of_getElem? (i := 6) rfl, by decide +kernel, rfl⟩
theorem sX9_13_X9 : aw_SA RX9 13 ⟨"SoManyStairs$Part", "of", "([I)I"⟩ yX9_of cX9_of 2 (some .int) 1 8 := ⟨RX9, TX9, 1, lw_U q937 q930 q934 q935 q142 q936, List.mem_of_getElem? (i := 6) rfl, by decide +kernel, rfl⟩
theorem sX9_13_X10 : aw_SA RX9 13 ⟨"SoManyStairs$Part", "of", "([I)I"⟩ yX10_of cX10_of 2 (some .int) 1 9 := ⟨RX10, TX10, 1, lw_U q937 q930 q946 q938 q143 q939, List.mem_of_getElem? (i := 6) rfl, by decide +kernel, rfl⟩
theorem sX9_13_X11 : aw_SA RX9 13 ⟨"SoManyStairs$Part", "of", "([I)I"⟩ yX11_of cX11_of 2 (some .int) 1 10 := ⟨RX11, TX11, 1, lw_U q937 q930 q931 q932 q144 q933, List.mem_of_getElem? (i := 6) rfl, by decide +kernel, rfl⟩
theorem sX9_13_X12 : aw_SA RX9 13 ⟨"SoManyStairs$Part", "of", "([I)I"⟩ yX12_of cX12_of 4 (some .int) 1 11 := ⟨RX12, TX12, 3, lw_U q937 q930 q947 q940 q145 q941, List.mem_of_getElem? (i := 6) rfl, by decide +kernel, rfl⟩
theorem sX12_20_X9 : aw_SA RX12 20 ⟨"SoManyStairs$Part", "of", "([I)I"⟩ yX9_of cX9_of 2 (some .int) 1 8 := ⟨RX9, TX9, 1, lw_U q942 q930 q934 q935 q142 q936, List.mem_of_getElem? (i := 6) rfl, by decide +kernel, rfl⟩
theorem sX12_20_X10 : aw_SA RX12 20 ⟨"SoManyStairs$Part", "of", "([I)I"⟩ yX10_of cX10_of 2 (some .int) 1 9 := ⟨RX10, TX10, 1, lw_U q942 q930 q946 q938 q143 q939, List.mem_of_getElem? (i := 6) rfl, by decide +kernel, rfl⟩
theorem sX12_20_X11 : aw_SA RX12 20 ⟨"SoManyStairs$Part", "of", "([I)I"⟩ yX11_of cX11_of 2 (some .int) 1 10 := ⟨RX11, TX11, 1, lw_U q942 q930 q931 q932 q144 q933, List.mem_of_getElem? (i := 6) rfl, by decide +kernel, rfl⟩
theorem sX12_20_X12 : aw_SA RX12 20 ⟨"SoManyStairs$Part", "of", "([I)I"⟩ yX12_of cX12_of 4 (some .int) 1 11 := ⟨RX12, TX12, 3, lw_U q942 q930 q947 q940 q145 q941, List.mem_of_getElem? (i := 6) rfl, by decide +kernel, rfl⟩
theorem sX13_29_X14 : aw_SA RX13 29 ⟨"SoManyStairs$Mark", "isSo", "(III)Z"⟩ yX14_isSo cX14_isSo 4 (some .boolean) 3 12 := ⟨RX14, TX14, 6, lw_U q1299 q1301 q1302 q1303 q148 q1304, List.mem_of_getElem? (i := 5) rfl, by decide +kernel, rfl⟩
theorem sX13_29_X15 : aw_SA RX13 29 ⟨"SoManyStairs$Mark", "isSo", "(III)Z"⟩ yX15_isSo cX15_isSo 4 (some .boolean) 3 13 := ⟨RX15, TX15, 6, lw_U q1299 q1301 q1306 q1307 q149 q1308, List.mem_of_getElem? (i := 5) rfl, by decide +kernel, rfl⟩
theorem sX0_343_X14 : aw_SU RX0 343 yX13_fits cX13_fits 5 (some .boolean) 4 12 := ⟨RX14, TX14, 6, lw_U q1293 q1295 q1296 q1294 q147 q1298, by decide +kernel, rfl⟩
theorem sX0_343_X15 : aw_SU RX0 343 yX13_fits cX13_fits 5 (some .boolean) 4 13 := ⟨RX15, TX15, 6, lw_U q1293 q1295 q1297 q1294 q147 q1298, by decide +kernel, rfl⟩
theorem sX1_64 : aw_SF RX1 64 ⟨"java/util/Iterator", "hasNext", "()Z"⟩ yJ10_hasNext cJ10_hasNext 1 (some .boolean) 0 := ⟨lw_F q1001 q656 q658 q135 q660, fun G U z => z.2.2.2.2.2.2.1, by decide +kernel⟩
theorem sX6_128 : aw_SF RX6 128 ⟨"java/util/Iterator", "hasNext", "()Z"⟩ yJ10_hasNext cJ10_hasNext 1 (some .boolean) 0 := ⟨lw_F q652 q656 q658 q135 q660, fun G U z => z.2.2.2.2.2.2.1, by decide +kernel⟩
theorem sX1_70 : aw_SF RX1 70 ⟨"java/util/Iterator", "next", "()Ljava/lang/Object;"⟩ yJ10_next cJ10_next 3 (some (.object "java/lang/Object")) 0 := ⟨lw_F q1003 q665 q667 q135 q669, fun G U z => z.2.2.2.2.2.2.2.1, by decide +kernel⟩
theorem sX6_134 : aw_SF RX6 134 ⟨"java/util/Iterator", "next", "()Ljava/lang/Object;"⟩ yJ10_next cJ10_next 3 (some (.object "java/lang/Object")) 0 := ⟨lw_F q662 q665 q667 q135 q669, fun G U z => z.2.2.2.2.2.2.2.1, by decide +kernel⟩
