/-! THE LAYER: fields, arrays, calls, returns -/
set_option maxRecDepth 100000
section AWH
variable {G : aw_G} {R : Room} {y : MethodName} {cc : ByteArray} {nL : Nat} {ret : Option FieldType} {Qf : List Frame → Array Value → State → State → Prop} {kc ks : Nat} {h : aw_H} {pc : Nat} {ls : List (Nat × Value)} {st : List Value}
/-- a field of the class number ci, at place k, as the constant index of the class own names it -/
def aw_Fl (own : String) (index ci k : Nat) : Prop := ∃ (C : String) (T : u_T) (N : Nat) (ref : String), aw_cl[ci]? = some (C, T, N) ∧ (∀ w ∈ u_ws C T N, w ∈ lw_all) ∧ k < N ∧ (Cond.fieldLink own index ref (T k).2.1 (T k).2.2.1 ∈ lw_all ∨ ∃ host, (own, index, ref, (T k).2.1, (T k).2.2.1, host) ∈ aw_fn) ∧ ref = (T k).1
theorem aw_get {own : String} {index ci k a : Nat} {fs : List Value} {v : Value} (d : decode cc pc = .ok (.getfield index, 3)) (F : aw_Fl own index ci k) (ho : own = y.cls) (he : h a = some (aw_o ci fs)) (hv : fs[k]? = some v) (kk : AW G R y cc nL ret Qf kc ks h (pc + 3) ls (v :: st)) : AW G R y cc nL ret Qf kc ks h pc ls (.ref a :: st) := by
  subst ho
  obtain ⟨C, T, N, ref, hc, hin, hk, hl, rfl⟩ := F
  intro p e s m args below meth c H locs cells slots lsA X hR hS hlv h1 h2
  rcases hl with hl | ⟨host, hl⟩
  · exact va_get X.1 X.2.1 X.2.2.2.2.2.2.1 hin X.2.2.2.2.2.1 X.2.2.2.2.2.2.2.1.1 (hR.one he) 0 rfl hc k hk (X.2.2.2.2.2.2.1 _ hl) (fun _ z => z) hv d (kk p e s m args below meth c H locs cells slots lsA X hR hS hlv h1 h2)
  · exact va_getN X.1 X.2.1 X.2.2.2.2.2.2.1 hin X.2.2.2.2.2.1 X.2.2.2.2.2.2.2.1.1 (hR.one he) 0 rfl hc k hk (va_Nw.use rfl (X.2.2.2.2.2.2.2.1.2.2.1 _ hl)) (fun _ z => z) hv d (kk p e s m args below meth c H locs cells slots lsA X hR hS hlv h1 h2)
/-- the same for a write: the field isn't final, or this is its class's constructor -/
def aw_Pl (own : String) (index ci k : Nat) (nm : String) (ty : FieldType) : Prop := ∃ (C : String) (T : u_T) (N : Nat) (ref : String) (ty0 : Nat → FieldType), aw_cl[ci]? = some (C, T, N) ∧ (∀ w ∈ u_ws C T N, w ∈ lw_all) ∧ k < N ∧ (Cond.fieldLink own index ref (T k).2.1 (T k).2.2.1 ∈ lw_all ∨ ((T k).2.2.2 = false ∧ ∃ host, (own, index, ref, (T k).2.1, (T k).2.2.1, host) ∈ aw_fn)) ∧ ref = (T k).1 ∧ (∀ k, k < N → parseFieldDescriptor (T k).2.2.1 = some (ty0 k)) ∧ (∀ a, a < N → ∀ b, b < N → a ≠ b → (T a).2.1 ≠ (T b).2.1) ∧ ((T k).2.2.2 = false ∨ ((T k).2.2.2 = true ∧ nm = "<init>" ∧ (T k).1 = own)) ∧ parseFieldDescriptor (T k).2.2.1 = some ty
theorem aw_put {own nm : String} {index ci k a : Nat} {fs : List Value} {v : Value} {ty : FieldType} (d : decode cc pc = .ok (.putfield index, 3)) (F : aw_Pl own index ci k nm ty) (ho : own = y.cls) (hnm : nm = y.name) (hab : aw_b G ≤ a) (he : h a = some (aw_o ci fs)) (hl9 : k < fs.length) (hn : narrow ty v = v) (hfit : fits ty v = true) (kk : AW G R y cc nL ret Qf kc ks (aw_up h a (aw_o ci (fs.set k v))) (pc + 3) ls st) : AW G R y cc nL ret Qf kc ks h pc ls (v :: .ref a :: st) := by
  subst ho
  subst hnm
  obtain ⟨C, T, N, ref, ty0, hc, hin, hk, hl, rfl, hty, hnm, hfin, hd⟩ := F
  intro p e s m args below meth c H locs cells slots lsA X hR hS hlv h1 h2
  obtain ⟨ws, g1, hP, hD, g4⟩ := hR
  obtain ⟨q0, hq⟩ := List.mem_iff_getElem?.mp ((g1 a _ hab).mp he)
  have hb9 : aw_b G ≤ s.heap.size := X.2.2.2.2.2.2.2.2.2.1
  have fin : ∀ (H1 : Heap) (locs1 : List Loc), va_P G.2.1 aw_cl (ws.set q0 (a, .inr (ci, fs.set k v))) H1 → va_D (aw_A G) (ws.set q0 (a, .inr (ci, fs.set k v))) → va_S (aw_A G) s.heap H1 locs1 → W p G.1 e R s m args below meth c H1 locs1 cells slots (Qf below args s) (F0 m (pc + 3) lsA st) := by
    intro H1 locs1 hP1 hD1 hS1
    refine kk p e s m args below meth c H1 locs1 cells slots lsA X (aw_R.put g1 g4 hq hP1 hD hD1 ?_) hS1 hlv h1 h2
    intro q n1 n2
    have n3 : q < s.heap.size := Nat.lt_of_lt_of_le (Nat.lt_of_not_le n1) hb9
    rw [hS1.2.1 q n3 n1, hS.2.1 q n3 n1]
  rcases hfin with hfin | ⟨hfin, hini, hdecl⟩
  · rcases hl with hl | ⟨-, host, hl⟩
    · exact va_put X.1 X.2.1 X.2.2.2.2.2.2.1 hin ty0 hty hnm X.2.2.2.2.2.1 X.2.2.2.2.2.2.2.1.1 hP hD hS q0 hq hc k hk (X.2.2.2.2.2.2.1 _ hl) (fun _ z => z) hfin hd hn hfit hl9 d fin
    · exact va_putN X.1 X.2.1 X.2.2.2.2.2.2.1 hin ty0 hty hnm X.2.2.2.2.2.1 X.2.2.2.2.2.2.2.1.1 hP hD hS q0 hq hc k hk (va_Nw.use rfl (X.2.2.2.2.2.2.2.1.2.2.1 _ hl)) (fun _ z => z) hfin hd hn hfit hl9 d fin
  · rcases hl with hl | ⟨hno, -⟩
    · exact va_putF X.1 X.2.1 X.2.2.2.2.2.2.1 hin ty0 hty hnm X.2.2.2.2.2.1 X.2.2.2.2.2.2.2.1.1 hP hD hS q0 hq hc k hk (X.2.2.2.2.2.2.1 _ hl) (fun _ z => z) hfin (by rw [X.2.2.2.2.2.2.2.2.2.2]; exact hini) hdecl hd hn hfit hl9 d fin
    · rw [hfin] at hno
      cases hno
end AWH
