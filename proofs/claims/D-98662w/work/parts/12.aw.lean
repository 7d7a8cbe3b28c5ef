set_option maxRecDepth 100000
section AWA
variable {G : aw_G} {R : Room} {y : MethodName} {cc : ByteArray} {nL : Nat} {ret : Option FieldType} {Qf : List Frame → Array Value → State → State → Prop} {kc ks : Nat} {h : aw_H} {pc : Nat} {ls : List (Nat × Value)} {st : List Value}
theorem aw_iald {a n : Nat} {f : Nat → Int32} {i : Int32} (d : decode cc pc = .ok (.iaload, 1)) (he : h a = some (aw_I G n f)) (hi : vp_in i n) (kk : AW G R y cc nL ret Qf kc ks h (pc + 1) ls (.int (f i.toNatClampNeg) :: st)) : AW G R y cc nL ret Qf kc ks h pc ls (.int i :: .ref a :: st) := by
  intro p e s m args below meth c H locs cells slots lsA X hR hS hlv h1 h2
  exact va_iald X.1 X.2.1 X.2.2.2.2.2.2.2.1.1 (hR.one he) 0 0 rfl rfl hi d (kk p e s m args below meth c H locs cells slots lsA X hR hS hlv h1 h2)
theorem aw_lald {a n : Nat} {f : Nat → Int64} {i : Int32} (d : decode cc pc = .ok (.laload, 1)) (he : h a = some (aw_J G n f)) (hi : vp_in i n) (kk : AW G R y cc nL ret Qf kc ks h (pc + 1) ls (.long (f i.toNatClampNeg) :: st)) : AW G R y cc nL ret Qf kc ks h pc ls (.int i :: .ref a :: st) := by
  intro p e s m args below meth c H locs cells slots lsA X hR hS hlv h1 h2
  exact va_lald X.1 X.2.1 X.2.2.2.2.2.2.2.1.1 (hR.one he) 0 1 rfl rfl hi d (kk p e s m args below meth c H locs cells slots lsA X hR hS hlv h1 h2)
theorem aw_bald {a n : Nat} {f : Nat → Int32} {i : Int32} (d : decode cc pc = .ok (.baload, 1)) (he : h a = some (aw_B G n f)) (hi : vp_in i n) (kk : AW G R y cc nL ret Qf kc ks h (pc + 1) ls (.int (f i.toNatClampNeg) :: st)) : AW G R y cc nL ret Qf kc ks h pc ls (.int i :: .ref a :: st) := by
  intro p e s m args below meth c H locs cells slots lsA X hR hS hlv h1 h2
  exact va_bald X.1 X.2.1 X.2.2.2.2.2.2.2.1.1 (hR.one he) 0 2 rfl rfl hi d (kk p e s m args below meth c H locs cells slots lsA X hR hS hlv h1 h2)
theorem aw_zald {a n : Nat} {f : Nat → Int32} {i : Int32} (d : decode cc pc = .ok (.baload, 1)) (he : h a = some (aw_Z G n f)) (hi : vp_in i n) (kk : AW G R y cc nL ret Qf kc ks h (pc + 1) ls (.int (f i.toNatClampNeg) :: st)) : AW G R y cc nL ret Qf kc ks h pc ls (.int i :: .ref a :: st) := by
  intro p e s m args below meth c H locs cells slots lsA X hR hS hlv h1 h2
  exact va_zald X.1 X.2.1 X.2.2.2.2.2.2.2.1.1 (hR.one he) 0 3 rfl rfl hi d (kk p e s m args below meth c H locs cells slots lsA X hR hS hlv h1 h2)
theorem aw_oald {a n : Nat} {f : Nat → Option Nat} {i : Int32} (d : decode cc pc = .ok (.aaload, 1)) (he : h a = some (aw_O G n f)) (hi : vp_in i n) (kk : AW G R y cc nL ret Qf kc ks h (pc + 1) ls (va_rf (f i.toNatClampNeg) :: st)) : AW G R y cc nL ret Qf kc ks h pc ls (.int i :: .ref a :: st) := by
  intro p e s m args below meth c H locs cells slots lsA X hR hS hlv h1 h2
  exact va_aldq X.1 X.2.1 X.2.2.2.2.2.2.2.1.1 (hR.one he) 0 4 rfl rfl hi d (kk p e s m args below meth c H locs cells slots lsA X hR hS hlv h1 h2)
theorem aw_kald {a n : Nat} {f : Nat → Option Nat} {i : Int32} (d : decode cc pc = .ok (.aaload, 1)) (he : h a = some (aw_Kp G n f)) (hi : vp_in i n) (kk : AW G R y cc nL ret Qf kc ks h (pc + 1) ls (va_rf (f i.toNatClampNeg) :: st)) : AW G R y cc nL ret Qf kc ks h pc ls (.int i :: .ref a :: st) := by
  intro p e s m args below meth c H locs cells slots lsA X hR hS hlv h1 h2
  exact va_aldq X.1 X.2.1 X.2.2.2.2.2.2.2.1.1 (hR.one he) 0 5 rfl rfl hi d (kk p e s m args below meth c H locs cells slots lsA X hR hS hlv h1 h2)
theorem aw_sald {a n : Nat} {f : Nat → Option Nat} {i : Int32} (d : decode cc pc = .ok (.aaload, 1)) (he : h a = some (aw_Sr G n f)) (hi : vp_in i n) (kk : AW G R y cc nL ret Qf kc ks h (pc + 1) ls (va_rf (f i.toNatClampNeg) :: st)) : AW G R y cc nL ret Qf kc ks h pc ls (.int i :: .ref a :: st) := by
  intro p e s m args below meth c H locs cells slots lsA X hR hS hlv h1 h2
  exact va_aldq X.1 X.2.1 X.2.2.2.2.2.2.2.1.1 (hR.one he) 0 6 rfl rfl hi d (kk p e s m args below meth c H locs cells slots lsA X hR hS hlv h1 h2)
theorem aw_alen {a n : Nat} {f : Nat → Int32} (d : decode cc pc = .ok (.arraylength, 1)) (he : h a = some (aw_I G n f)) (kk : AW G R y cc nL ret Qf kc ks h (pc + 1) ls (.int (Int32.ofNat n) :: st)) : AW G R y cc nL ret Qf kc ks h pc ls (.ref a :: st) := by
  intro p e s m args below meth c H locs cells slots lsA X hR hS hlv h1 h2
  exact va_alen X.1 X.2.1 X.2.2.2.2.2.2.2.1.1 (hR.one he) 0 0 rfl rfl rfl d (kk p e s m args below meth c H locs cells slots lsA X hR hS hlv h1 h2)
theorem aw_olen {a n : Nat} {f : Nat → Option Nat} (d : decode cc pc = .ok (.arraylength, 1)) (he : h a = some (aw_O G n f)) (kk : AW G R y cc nL ret Qf kc ks h (pc + 1) ls (.int (Int32.ofNat n) :: st)) : AW G R y cc nL ret Qf kc ks h pc ls (.ref a :: st) := by
  intro p e s m args below meth c H locs cells slots lsA X hR hS hlv h1 h2
  exact va_alen X.1 X.2.1 X.2.2.2.2.2.2.2.1.1 (hR.one he) 0 4 rfl rfl rfl d (kk p e s m args below meth c H locs cells slots lsA X hR hS hlv h1 h2)
theorem aw_slen {a n : Nat} {f : Nat → Option Nat} (d : decode cc pc = .ok (.arraylength, 1)) (he : h a = some (aw_Sr G n f)) (kk : AW G R y cc nL ret Qf kc ks h (pc + 1) ls (.int (Int32.ofNat n) :: st)) : AW G R y cc nL ret Qf kc ks h pc ls (.ref a :: st) := by
  intro p e s m args below meth c H locs cells slots lsA X hR hS hlv h1 h2
  exact va_alen X.1 X.2.1 X.2.2.2.2.2.2.2.1.1 (hR.one he) 0 6 rfl rfl rfl d (kk p e s m args below meth c H locs cells slots lsA X hR hS hlv h1 h2)
theorem aw_blen {a n : Nat} {f : Nat → Int32} (d : decode cc pc = .ok (.arraylength, 1)) (he : h a = some (aw_B G n f)) (kk : AW G R y cc nL ret Qf kc ks h (pc + 1) ls (.int (Int32.ofNat n) :: st)) : AW G R y cc nL ret Qf kc ks h pc ls (.ref a :: st) := by
  intro p e s m args below meth c H locs cells slots lsA X hR hS hlv h1 h2
  exact va_alen X.1 X.2.1 X.2.2.2.2.2.2.2.1.1 (hR.one he) 0 2 rfl rfl rfl d (kk p e s m args below meth c H locs cells slots lsA X hR hS hlv h1 h2)
theorem aw_iast {a n : Nat} {f : Nat → Int32} {i : Int32} {x : Int32} (d : decode cc pc = .ok (.iastore, 1)) (hab : aw_b G ≤ a) (he : h a = some (aw_I G n f)) (hi : vp_in i n) (kk : AW G R y cc nL ret Qf kc ks (aw_up h a (aw_I G n (upd f i.toNatClampNeg x))) (pc + 1) ls st) : AW G R y cc nL ret Qf kc ks h pc ls (.int x :: .int i :: .ref a :: st) := by
  intro p e s m args below meth c H locs cells slots lsA X hR hS hlv h1 h2
  obtain ⟨ws, g1, hP, hD, g4⟩ := hR
  obtain ⟨q0, hq⟩ := List.mem_iff_getElem?.mp ((g1 a _ hab).mp he)
  have hb9 : aw_b G ≤ s.heap.size := X.2.2.2.2.2.2.2.2.2.1
  exact va_iast X.1 X.2.1 X.2.2.2.2.2.2.2.1.1 hP hD hS q0 0 hq rfl hi d (fun H1 locs1 hP1 hD1 hS1 => kk p e s m args below meth c H1 locs1 cells slots lsA X (aw_R.put g1 g4 hq hP1 hD hD1 (fun q n1 n2 => (hS1.2.1 q (Nat.lt_of_lt_of_le (Nat.lt_of_not_le n1) hb9) n1).trans (hS.2.1 q (Nat.lt_of_lt_of_le (Nat.lt_of_not_le n1) hb9) n1).symm)) hS1 hlv h1 h2)
theorem aw_last {a n : Nat} {f : Nat → Int64} {i : Int32} {x : Int64} (d : decode cc pc = .ok (.lastore, 1)) (hab : aw_b G ≤ a) (he : h a = some (aw_J G n f)) (hi : vp_in i n) (kk : AW G R y cc nL ret Qf kc ks (aw_up h a (aw_J G n (vp_updL f i.toNatClampNeg x))) (pc + 1) ls st) : AW G R y cc nL ret Qf kc ks h pc ls (.long x :: .int i :: .ref a :: st) := by
  intro p e s m args below meth c H locs cells slots lsA X hR hS hlv h1 h2
  obtain ⟨ws, g1, hP, hD, g4⟩ := hR
  obtain ⟨q0, hq⟩ := List.mem_iff_getElem?.mp ((g1 a _ hab).mp he)
  have hb9 : aw_b G ≤ s.heap.size := X.2.2.2.2.2.2.2.2.2.1
  exact va_last X.1 X.2.1 X.2.2.2.2.2.2.2.1.1 hP hD hS q0 1 hq rfl hi d (fun H1 locs1 hP1 hD1 hS1 => kk p e s m args below meth c H1 locs1 cells slots lsA X (aw_R.put g1 g4 hq hP1 hD hD1 (fun q n1 n2 => (hS1.2.1 q (Nat.lt_of_lt_of_le (Nat.lt_of_not_le n1) hb9) n1).trans (hS.2.1 q (Nat.lt_of_lt_of_le (Nat.lt_of_not_le n1) hb9) n1).symm)) hS1 hlv h1 h2)
theorem aw_bast {a n : Nat} {f : Nat → Int32} {i : Int32} {x : Int32} (d : decode cc pc = .ok (.bastore, 1)) (hab : aw_b G ≤ a) (he : h a = some (aw_B G n f)) (hi : vp_in i n) (kk : AW G R y cc nL ret Qf kc ks (aw_up h a (aw_B G n (upd f i.toNatClampNeg (vp_nar .byte x)))) (pc + 1) ls st) : AW G R y cc nL ret Qf kc ks h pc ls (.int x :: .int i :: .ref a :: st) := by
  intro p e s m args below meth c H locs cells slots lsA X hR hS hlv h1 h2
  obtain ⟨ws, g1, hP, hD, g4⟩ := hR
  obtain ⟨q0, hq⟩ := List.mem_iff_getElem?.mp ((g1 a _ hab).mp he)
  have hb9 : aw_b G ≤ s.heap.size := X.2.2.2.2.2.2.2.2.2.1
  exact va_bast X.1 X.2.1 X.2.2.2.2.2.2.2.1.1 hP hD hS q0 2 hq rfl hi d (fun H1 locs1 hP1 hD1 hS1 => kk p e s m args below meth c H1 locs1 cells slots lsA X (aw_R.put g1 g4 hq hP1 hD hD1 (fun q n1 n2 => (hS1.2.1 q (Nat.lt_of_lt_of_le (Nat.lt_of_not_le n1) hb9) n1).trans (hS.2.1 q (Nat.lt_of_lt_of_le (Nat.lt_of_not_le n1) hb9) n1).symm)) hS1 hlv h1 h2)
theorem aw_zast {a n : Nat} {f : Nat → Int32} {i : Int32} {x : Int32} (d : decode cc pc = .ok (.bastore, 1)) (hab : aw_b G ≤ a) (he : h a = some (aw_Z G n f)) (hi : vp_in i n) (kk : AW G R y cc nL ret Qf kc ks (aw_up h a (aw_Z G n (upd f i.toNatClampNeg (vp_nar .boolean x)))) (pc + 1) ls st) : AW G R y cc nL ret Qf kc ks h pc ls (.int x :: .int i :: .ref a :: st) := by
  intro p e s m args below meth c H locs cells slots lsA X hR hS hlv h1 h2
  obtain ⟨ws, g1, hP, hD, g4⟩ := hR
  obtain ⟨q0, hq⟩ := List.mem_iff_getElem?.mp ((g1 a _ hab).mp he)
  have hb9 : aw_b G ≤ s.heap.size := X.2.2.2.2.2.2.2.2.2.1
  exact va_zast X.1 X.2.1 X.2.2.2.2.2.2.2.1.1 hP hD hS q0 3 hq rfl hi d (fun H1 locs1 hP1 hD1 hS1 => kk p e s m args below meth c H1 locs1 cells slots lsA X (aw_R.put g1 g4 hq hP1 hD hD1 (fun q n1 n2 => (hS1.2.1 q (Nat.lt_of_lt_of_le (Nat.lt_of_not_le n1) hb9) n1).trans (hS.2.1 q (Nat.lt_of_lt_of_le (Nat.lt_of_not_le n1) hb9) n1).symm)) hS1 hlv h1 h2)
theorem aw_oastN {a n : Nat} {f : Nat → Option Nat} {i : Int32} (d : decode cc pc = .ok (.aastore, 1)) (hab : aw_b G ≤ a) (he : h a = some (aw_O G n f)) (hi : vp_in i n) (kk : AW G R y cc nL ret Qf kc ks (aw_up h a (aw_O G n (va_up f i.toNatClampNeg none))) (pc + 1) ls st) : AW G R y cc nL ret Qf kc ks h pc ls (.null :: .int i :: .ref a :: st) := by
  intro p e s m args below meth c H locs cells slots lsA X hR hS hlv h1 h2
  obtain ⟨ws, g1, hP, hD, g4⟩ := hR
  obtain ⟨q0, hq⟩ := List.mem_iff_getElem?.mp ((g1 a _ hab).mp he)
  have hb9 : aw_b G ≤ s.heap.size := X.2.2.2.2.2.2.2.2.2.1
  exact va_astqN X.1 X.2.1 X.2.2.2.2.2.2.2.1.1 hP hD hS q0 4 hq rfl hi d (fun H1 locs1 hP1 hD1 hS1 => kk p e s m args below meth c H1 locs1 cells slots lsA X (aw_R.put g1 g4 hq hP1 hD hD1 (fun q n1 n2 => (hS1.2.1 q (Nat.lt_of_lt_of_le (Nat.lt_of_not_le n1) hb9) n1).trans (hS.2.1 q (Nat.lt_of_lt_of_le (Nat.lt_of_not_le n1) hb9) n1).symm)) hS1 hlv h1 h2)
theorem aw_oast {a n v ci : Nat} {fs : List Value} {C : String} {T : u_T} {N : Nat} {f : Nat → Option Nat} {i : Int32} (d : decode cc pc = .ok (.aastore, 1)) (hab : aw_b G ≤ a) (he : h a = some (aw_O G n f)) (hvb : aw_b G ≤ v) (hv : h v = some (aw_o ci fs)) (hc : aw_cl[ci]? = some (C, T, N)) (hcs : (C, "java/lang/Object") ∈ aw_cs) (hi : vp_in i n) (kk : AW G R y cc nL ret Qf kc ks (aw_up h a (aw_O G n (va_up f i.toNatClampNeg (some v)))) (pc + 1) ls st) : AW G R y cc nL ret Qf kc ks h pc ls (.ref v :: .int i :: .ref a :: st) := by
  intro p e s m args below meth c H locs cells slots lsA X hR hS hlv h1 h2
  obtain ⟨ws, g1, hP, hD, g4⟩ := hR
  obtain ⟨q0, hq⟩ := List.mem_iff_getElem?.mp ((g1 a _ hab).mp he)
  have hb9 : aw_b G ≤ s.heap.size := X.2.2.2.2.2.2.2.2.2.1
  obtain ⟨qk, hqk⟩ := List.mem_iff_getElem?.mp ((g1 v _ hvb).mp hv)
  exact va_astqO X.1 X.2.1 X.2.2.2.2.2.2.2.1.1 hP hD hS q0 4 qk ci hq rfl (X.2.2.2.2.2.2.2.1.2.2.2.1 _ hcs) hqk hc hi d (fun H1 locs1 hP1 hD1 hS1 => kk p e s m args below meth c H1 locs1 cells slots lsA X (aw_R.put g1 g4 hq hP1 hD hD1 (fun q n1 n2 => (hS1.2.1 q (Nat.lt_of_lt_of_le (Nat.lt_of_not_le n1) hb9) n1).trans (hS.2.1 q (Nat.lt_of_lt_of_le (Nat.lt_of_not_le n1) hb9) n1).symm)) hS1 hlv h1 h2)
theorem aw_kast {a n v : Nat} {fs : List Value} {f : Nat → Option Nat} {i : Int32} (d : decode cc pc = .ok (.aastore, 1)) (hab : aw_b G ≤ a) (he : h a = some (aw_Kp G n f)) (hvb : aw_b G ≤ v) (hv : h v = some (aw_o 4 fs)) (hi : vp_in i n) (kk : AW G R y cc nL ret Qf kc ks (aw_up h a (aw_Kp G n (va_up f i.toNatClampNeg (some v)))) (pc + 1) ls st) : AW G R y cc nL ret Qf kc ks h pc ls (.ref v :: .int i :: .ref a :: st) := by
  intro p e s m args below meth c H locs cells slots lsA X hR hS hlv h1 h2
  obtain ⟨ws, g1, hP, hD, g4⟩ := hR
  obtain ⟨q0, hq⟩ := List.mem_iff_getElem?.mp ((g1 a _ hab).mp he)
  have hb9 : aw_b G ≤ s.heap.size := X.2.2.2.2.2.2.2.2.2.1
  obtain ⟨qk, hqk⟩ := List.mem_iff_getElem?.mp ((g1 v _ hvb).mp hv)
  exact va_astq X.1 X.2.1 X.2.2.2.2.2.2.2.1.1 hP hD hS q0 5 qk 4 hq rfl hqk rfl hi d (fun H1 locs1 hP1 hD1 hS1 => kk p e s m args below meth c H1 locs1 cells slots lsA X (aw_R.put g1 g4 hq hP1 hD hD1 (fun q n1 n2 => (hS1.2.1 q (Nat.lt_of_lt_of_le (Nat.lt_of_not_le n1) hb9) n1).trans (hS.2.1 q (Nat.lt_of_lt_of_le (Nat.lt_of_not_le n1) hb9) n1).symm)) hS1 hlv h1 h2)
/-- what 'new' of the class number ci asks -/
def aw_Nl (own : String) (index ci N : Nat) (fs : List Value) : Prop := ∃ (C : String) (T : u_T) (ty : Nat → FieldType), aw_cl[ci]? = some (C, T, N) ∧ (∀ w ∈ u_ws C T N, w ∈ lw_all) ∧ (∀ k, k < N → parseFieldDescriptor (T k).2.2.1 = some (ty k)) ∧ Cond.classLink own index C ∈ lw_all ∧ Cond.instantiable C N ∈ lw_all ∧ Cond.initialized C ∈ lw_all ∧ ∀ j, j < N → defaultValue (ty j) = vp_V fs j
theorem aw_new {own : String} {index ci N : Nat} {fs : List Value} (d : decode cc pc = .ok (.new index, 3)) (F : aw_Nl own index ci N fs) (ho : own = y.cls) (kk : ∀ q, h q = none → aw_b G ≤ q → AW G R y cc nL ret Qf kc ks (aw_up h q (aw_o ci fs)) (pc + 3) ls (.ref q :: st)) : AW G R y cc nL ret Qf (kc + 1) (ks + N) h pc ls st := by
  subst ho
  obtain ⟨C, T, ty, hc, hin, hty, hcl, hinst, hini, hfs⟩ := F
  intro p e s m args below meth c H locs cells slots lsA X hR hS hlv h1 h2
  obtain ⟨ws, g1, hP, hD, g4⟩ := hR
  have hb9 : aw_b G ≤ s.heap.size := X.2.2.2.2.2.2.2.2.2.1
  have hA9 : ∀ q, s.heap.size ≤ q → aw_A G q := fun q hq => Nat.le_trans hb9 hq
  refine va_new X.1 X.2.1 X.2.2.2.2.2.2.1 hin ty hty X.2.2.2.2.2.1 (X.2.2.2.2.2.2.1 _ hcl) (X.2.2.2.2.2.2.1 _ hinst) (X.2.2.2.2.2.2.1 _ hini) X.2.2.2.2.2.2.2.1.1 hP hD hS hA9 hc hfs (by omega) (by omega) d (fun q => fun H1 hP1 hD1 hS1 => by
    have z := aw_R.new g1 g4 hP1 hD1 (fun x n1 n2 => (hS1.2.1 x (Nat.lt_of_lt_of_le (Nat.lt_of_not_le n1) hb9) n1).trans (hS.2.1 x (Nat.lt_of_lt_of_le (Nat.lt_of_not_le n1) hb9) n1).symm)
    exact kk q z.2.1 z.1 p e s m args below meth c H1 locs (cells + 1) (slots + N) lsA X z.2.2 hS1 hlv (by omega) (by omega))
theorem aw_newI {n : Int32} {N : Nat} (d : decode cc pc = .ok (.newarray .int, 2)) (hw : Cond.arrayClass .int ∈ lw_all) (hn : ¬ n < 0) (hN : n.toNatClampNeg = N) (hby : N * componentBytes .int ≤ 536870912) (kk : ∀ q, h q = none → aw_b G ≤ q → AW G R y cc nL ret Qf kc ks (aw_up h q (aw_I G N (fun _ => 0))) (pc + 2) ls (.ref q :: st)) : AW G R y cc nL ret Qf (kc + 1) (ks + N) h pc ls (.int n :: st) := by
  intro p e s m args below meth c H locs cells slots lsA X hR hS hlv h1 h2
  obtain ⟨ws, g1, hP, hD, g4⟩ := hR
  have hb9 : aw_b G ≤ s.heap.size := X.2.2.2.2.2.2.2.2.2.1
  have hA9 : ∀ q, s.heap.size ≤ q → aw_A G q := fun q hq => Nat.le_trans hb9 hq
  refine va_newa (atype := .int) (a0 := (N, .inl (fun _ => 0))) (N' := N) (ty := .int) X.1 X.2.1 (X.2.2.2.2.2.2.1 _ hw) rfl X.2.2.2.2.2.2.2.1.1 hP hD hS hA9 (fun cA => rfl) hn hN hby (by omega) (by omega) d (fun q cA H1 hK1 hP1 hD1 hS1 => ?_)
  have e1 : cA = aw_ca G 0 := by
    have q1 := (hK1.2 7 (cA, .int) rfl).2
    have q2 := (X.2.2.2.2.2.2.2.1.1.2 0 (aw_ca G 0, .int) rfl).2
    exact Option.some.inj (q1.symm.trans q2)
  subst e1
  have z := aw_R.new g1 g4 hP1 hD1 (fun x n1 n2 => (hS1.2.1 x (Nat.lt_of_lt_of_le (Nat.lt_of_not_le n1) hb9) n1).trans (hS.2.1 x (Nat.lt_of_lt_of_le (Nat.lt_of_not_le n1) hb9) n1).symm)
  exact kk q z.2.1 z.1 p e s m args below meth c H1 locs (cells + 1) (slots + N) lsA X z.2.2 hS1 hlv (by omega) (by omega)
theorem aw_newJ {n : Int32} {N : Nat} (d : decode cc pc = .ok (.newarray .long, 2)) (hw : Cond.arrayClass .long ∈ lw_all) (hn : ¬ n < 0) (hN : n.toNatClampNeg = N) (hby : N * componentBytes .long ≤ 536870912) (kk : ∀ q, h q = none → aw_b G ≤ q → AW G R y cc nL ret Qf kc ks (aw_up h q (aw_J G N (fun _ => 0))) (pc + 2) ls (.ref q :: st)) : AW G R y cc nL ret Qf (kc + 1) (ks + N) h pc ls (.int n :: st) := by
  intro p e s m args below meth c H locs cells slots lsA X hR hS hlv h1 h2
  obtain ⟨ws, g1, hP, hD, g4⟩ := hR
  have hb9 : aw_b G ≤ s.heap.size := X.2.2.2.2.2.2.2.2.2.1
  have hA9 : ∀ q, s.heap.size ≤ q → aw_A G q := fun q hq => Nat.le_trans hb9 hq
  refine va_newa (atype := .long) (a0 := (N, .inr (.inl (fun _ => 0)))) (N' := N) (ty := .long) X.1 X.2.1 (X.2.2.2.2.2.2.1 _ hw) rfl X.2.2.2.2.2.2.2.1.1 hP hD hS hA9 (fun cA => rfl) hn hN hby (by omega) (by omega) d (fun q cA H1 hK1 hP1 hD1 hS1 => ?_)
  have e1 : cA = aw_ca G 1 := by
    have q1 := (hK1.2 7 (cA, .long) rfl).2
    have q2 := (X.2.2.2.2.2.2.2.1.1.2 1 (aw_ca G 1, .long) rfl).2
    exact Option.some.inj (q1.symm.trans q2)
  subst e1
  have z := aw_R.new g1 g4 hP1 hD1 (fun x n1 n2 => (hS1.2.1 x (Nat.lt_of_lt_of_le (Nat.lt_of_not_le n1) hb9) n1).trans (hS.2.1 x (Nat.lt_of_lt_of_le (Nat.lt_of_not_le n1) hb9) n1).symm)
  exact kk q z.2.1 z.1 p e s m args below meth c H1 locs (cells + 1) (slots + N) lsA X z.2.2 hS1 hlv (by omega) (by omega)
theorem aw_newB {n : Int32} {N : Nat} (d : decode cc pc = .ok (.newarray .byte, 2)) (hw : Cond.arrayClass .byte ∈ lw_all) (hn : ¬ n < 0) (hN : n.toNatClampNeg = N) (hby : N * componentBytes .byte ≤ 536870912) (kk : ∀ q, h q = none → aw_b G ≤ q → AW G R y cc nL ret Qf kc ks (aw_up h q (aw_B G N (fun _ => 0))) (pc + 2) ls (.ref q :: st)) : AW G R y cc nL ret Qf (kc + 1) (ks + N) h pc ls (.int n :: st) := by
  intro p e s m args below meth c H locs cells slots lsA X hR hS hlv h1 h2
  obtain ⟨ws, g1, hP, hD, g4⟩ := hR
  have hb9 : aw_b G ≤ s.heap.size := X.2.2.2.2.2.2.2.2.2.1
  have hA9 : ∀ q, s.heap.size ≤ q → aw_A G q := fun q hq => Nat.le_trans hb9 hq
  refine va_newa (atype := .byte) (a0 := (N, .inl (fun _ => 0))) (N' := N) (ty := .byte) X.1 X.2.1 (X.2.2.2.2.2.2.1 _ hw) rfl X.2.2.2.2.2.2.2.1.1 hP hD hS hA9 (fun cA => rfl) hn hN hby (by omega) (by omega) d (fun q cA H1 hK1 hP1 hD1 hS1 => ?_)
  have e1 : cA = aw_ca G 2 := by
    have q1 := (hK1.2 7 (cA, .byte) rfl).2
    have q2 := (X.2.2.2.2.2.2.2.1.1.2 2 (aw_ca G 2, .byte) rfl).2
    exact Option.some.inj (q1.symm.trans q2)
  subst e1
  have z := aw_R.new g1 g4 hP1 hD1 (fun x n1 n2 => (hS1.2.1 x (Nat.lt_of_lt_of_le (Nat.lt_of_not_le n1) hb9) n1).trans (hS.2.1 x (Nat.lt_of_lt_of_le (Nat.lt_of_not_le n1) hb9) n1).symm)
  exact kk q z.2.1 z.1 p e s m args below meth c H1 locs (cells + 1) (slots + N) lsA X z.2.2 hS1 hlv (by omega) (by omega)
theorem aw_newZ {n : Int32} {N : Nat} (d : decode cc pc = .ok (.newarray .boolean, 2)) (hw : Cond.arrayClass .boolean ∈ lw_all) (hn : ¬ n < 0) (hN : n.toNatClampNeg = N) (hby : N * componentBytes .boolean ≤ 536870912) (kk : ∀ q, h q = none → aw_b G ≤ q → AW G R y cc nL ret Qf kc ks (aw_up h q (aw_Z G N (fun _ => 0))) (pc + 2) ls (.ref q :: st)) : AW G R y cc nL ret Qf (kc + 1) (ks + N) h pc ls (.int n :: st) := by
  intro p e s m args below meth c H locs cells slots lsA X hR hS hlv h1 h2
  obtain ⟨ws, g1, hP, hD, g4⟩ := hR
  have hb9 : aw_b G ≤ s.heap.size := X.2.2.2.2.2.2.2.2.2.1
  have hA9 : ∀ q, s.heap.size ≤ q → aw_A G q := fun q hq => Nat.le_trans hb9 hq
  refine va_newa (atype := .boolean) (a0 := (N, .inl (fun _ => 0))) (N' := N) (ty := .boolean) X.1 X.2.1 (X.2.2.2.2.2.2.1 _ hw) rfl X.2.2.2.2.2.2.2.1.1 hP hD hS hA9 (fun cA => rfl) hn hN hby (by omega) (by omega) d (fun q cA H1 hK1 hP1 hD1 hS1 => ?_)
  have e1 : cA = aw_ca G 3 := by
    have q1 := (hK1.2 7 (cA, .boolean) rfl).2
    have q2 := (X.2.2.2.2.2.2.2.1.1.2 3 (aw_ca G 3, .boolean) rfl).2
    exact Option.some.inj (q1.symm.trans q2)
  subst e1
  have z := aw_R.new g1 g4 hP1 hD1 (fun x n1 n2 => (hS1.2.1 x (Nat.lt_of_lt_of_le (Nat.lt_of_not_le n1) hb9) n1).trans (hS.2.1 x (Nat.lt_of_lt_of_le (Nat.lt_of_not_le n1) hb9) n1).symm)
  exact kk q z.2.1 z.1 p e s m args below meth c H1 locs (cells + 1) (slots + N) lsA X z.2.2 hS1 hlv (by omega) (by omega)
theorem aw_newO {index : Nat} {n : Int32} {N : Nat} (d : decode cc pc = .ok (.anewarray index, 3)) (hw : Cond.classLink y.cls index "java/lang/Object" ∈ lw_all) (hn : ¬ n < 0) (hN : n.toNatClampNeg = N) (hby : N * 4 ≤ 536870912) (kk : ∀ q, h q = none → aw_b G ≤ q → AW G R y cc nL ret Qf kc ks (aw_up h q (aw_O G N (fun _ => none))) (pc + 3) ls (.ref q :: st)) : AW G R y cc nL ret Qf (kc + 1) (ks + N) h pc ls (.int n :: st) := by
  intro p e s m args below meth c H locs cells slots lsA X hR hS hlv h1 h2
  obtain ⟨ws, g1, hP, hD, g4⟩ := hR
  have hb9 : aw_b G ≤ s.heap.size := X.2.2.2.2.2.2.2.2.2.1
  have hA9 : ∀ q, s.heap.size ≤ q → aw_A G q := fun q hq => Nat.le_trans hb9 hq
  refine va_newq (N' := N) X.1 X.2.1 X.2.2.2.2.2.1 (X.2.2.2.2.2.2.1 _ hw) (X.2.2.2.2.2.2.2.1.2.2.2.2.1 "java/lang/Object" (by decide)) X.2.2.2.2.2.2.2.1.1 hP hD hS hA9 hn hN hby (by omega) (by omega) d (fun q cA H1 hK1 hP1 hD1 hS1 => ?_)
  have e1 : cA = aw_ca G 4 := by
    obtain ⟨-, -, -, -, -, q1⟩ := (hK1.2 7 (cA, .object "java/lang/Object") rfl).2
    obtain ⟨-, -, -, -, -, q2⟩ := (X.2.2.2.2.2.2.2.1.1.2 4 (aw_ca G 4, .object "java/lang/Object") rfl).2
    exact Option.some.inj (q1.symm.trans q2)
  subst e1
  have z := aw_R.new g1 g4 hP1 hD1 (fun x n1 n2 => (hS1.2.1 x (Nat.lt_of_lt_of_le (Nat.lt_of_not_le n1) hb9) n1).trans (hS.2.1 x (Nat.lt_of_lt_of_le (Nat.lt_of_not_le n1) hb9) n1).symm)
  exact kk q z.2.1 z.1 p e s m args below meth c H1 locs (cells + 1) (slots + N) lsA X z.2.2 hS1 hlv (by omega) (by omega)
theorem aw_newK {index : Nat} {n : Int32} {N : Nat} (d : decode cc pc = .ok (.anewarray index, 3)) (hw : Cond.classLink y.cls index "SoManyStairs$Kept" ∈ lw_all) (hn : ¬ n < 0) (hN : n.toNatClampNeg = N) (hby : N * 4 ≤ 536870912) (kk : ∀ q, h q = none → aw_b G ≤ q → AW G R y cc nL ret Qf kc ks (aw_up h q (aw_Kp G N (fun _ => none))) (pc + 3) ls (.ref q :: st)) : AW G R y cc nL ret Qf (kc + 1) (ks + N) h pc ls (.int n :: st) := by
  intro p e s m args below meth c H locs cells slots lsA X hR hS hlv h1 h2
  obtain ⟨ws, g1, hP, hD, g4⟩ := hR
  have hb9 : aw_b G ≤ s.heap.size := X.2.2.2.2.2.2.2.2.2.1
  have hA9 : ∀ q, s.heap.size ≤ q → aw_A G q := fun q hq => Nat.le_trans hb9 hq
  refine va_newq (N' := N) X.1 X.2.1 X.2.2.2.2.2.1 (X.2.2.2.2.2.2.1 _ hw) (X.2.2.2.2.2.2.2.1.2.2.2.2.1 "SoManyStairs$Kept" (by decide)) X.2.2.2.2.2.2.2.1.1 hP hD hS hA9 hn hN hby (by omega) (by omega) d (fun q cA H1 hK1 hP1 hD1 hS1 => ?_)
  have e1 : cA = aw_ca G 5 := by
    obtain ⟨-, -, -, -, -, q1⟩ := (hK1.2 7 (cA, .object "SoManyStairs$Kept") rfl).2
    obtain ⟨-, -, -, -, -, q2⟩ := (X.2.2.2.2.2.2.2.1.1.2 5 (aw_ca G 5, .object "SoManyStairs$Kept") rfl).2
    exact Option.some.inj (q1.symm.trans q2)
  subst e1
  have z := aw_R.new g1 g4 hP1 hD1 (fun x n1 n2 => (hS1.2.1 x (Nat.lt_of_lt_of_le (Nat.lt_of_not_le n1) hb9) n1).trans (hS.2.1 x (Nat.lt_of_lt_of_le (Nat.lt_of_not_le n1) hb9) n1).symm)
  exact kk q z.2.1 z.1 p e s m args below meth c H1 locs (cells + 1) (slots + N) lsA X z.2.2 hS1 hlv (by omega) (by omega)
theorem aw_cast {index a ci N : Nat} {fs : List Value} {C nm : String} {T : u_T} (d : decode cc pc = .ok (.checkcast index, 3)) (hw : Cond.classLink y.cls index nm ∈ lw_all) (hc : aw_cl[ci]? = some (C, T, N)) (hcs : (C, nm) ∈ aw_cs) (he : h a = some (aw_o ci fs)) (kk : AW G R y cc nL ret Qf kc ks h (pc + 3) ls (.ref a :: st)) : AW G R y cc nL ret Qf kc ks h pc ls (.ref a :: st) := by
  intro p e s m args below meth c H locs cells slots lsA X hR hS hlv h1 h2
  exact va_castY X.1 X.2.1 X.2.2.2.2.2.1 (X.2.2.2.2.2.2.1 _ hw) (X.2.2.2.2.2.2.2.1.2.2.2.1 _ hcs) (va_recv X.2.2.2.2.2.2.2.1.1 (hR.one he) hc (q0 := 0) rfl) d (kk p e s m args below meth c H locs cells slots lsA X hR hS hlv h1 h2)
theorem aw_objInit {idx a : Nat} (d : decode cc pc = .ok (.invokespecial idx, 3)) (h1 : Cond.methodLink y.cls idx Lib.objectInit ∈ lw_all) (h2 : Cond.instanceMethod Lib.objectInit ∈ lw_all) (h3 : Cond.code Lib.objectInit ⟨#[0xb1]⟩ 1 none ∈ lw_all) (hf : 1 ≤ R.frames) (hl : 64 ≤ R.locals) (hcat : (st.map fun v => v.category).sum ≤ 8) (kk : AW G R y cc nL ret Qf kc ks h (pc + 3) ls st) : AW G R y cc nL ret Qf kc ks h pc ls (.ref a :: st) := by
  intro p e s m args below meth c H locs cells slots lsA X hR hS hlv g1 g2
  refine W.objInit X.1 X.2.1 X.2.2.2.2.2.1 (X.2.2.2.2.2.2.1 _ h1) (X.2.2.2.2.2.2.1 _ h2) (X.2.2.2.2.2.2.1 _ h3) rfl (by rw [X.2.2.2.2.1]; exact hlv.1) rfl d hf ?_ (kk p e s m args below meth c H locs cells slots lsA X hR hS hlv g1 g2)
  have z := lv_room (m := m) (pc := pc) (ls := lsA) (rest := .ref a :: st) hcat
  show 2 * (F0 m pc lsA (.ref a :: st)).monitorRoom + _ + 12 ≤ _
  omega
end AWA
