set_option maxRecDepth 100000
/-! the model is made -/
def mm_e0 (G : aw_G) (k : Nat) : va_E := match mm_il k with
  | some n => aw_I G n (fun _ => 0)
  | none => match mm_zl k with
    | some n => aw_Z G n (fun _ => 0)
    | none => match mm_vl k with
      | some n => aw_I G n (fun _ => 0)
      | none => match mm_sl k with
        | some n => aw_I G n (fun _ => 0)
        | none => aw_J G 8 (fun _ => 0)
/-- the model on its way: its arrays of L are made -/
def mm_Ini (G : aw_G) (a : Nat) (wf : Nat → Nat) (L : List Nat) (h0 h : aw_H) (g : Nat → Value) : Prop := h a = some (aw_o 5 ((List.range 69).map g)) ∧ (∀ k, k ∈ L → aw_b G ≤ wf k ∧ wf k ≠ a ∧ h0 (wf k) = none ∧ h (wf k) = some (mm_e0 G k)) ∧ (∀ k j, k ∈ L → j ∈ L → wf k = wf j → k = j) ∧ (∀ q, q ≠ a → h0 q ≠ none → h q = h0 q)
theorem aw_mset {n k : Nat} {g : Nat → Value} {v : Value} : ((List.range n).map g).set k v = (List.range n).map (aw_u g k v) := by
  apply List.ext_getElem
  · simp
  · intro i h1 h2
    rw [List.getElem_set]
    simp only [List.getElem_map, List.getElem_range]
    unfold aw_u
    by_cases e : k = i
    · rw [if_pos e, if_pos e.symm]
    · rw [if_neg e, if_neg (fun z => e z.symm)]
theorem mm_ini {G : aw_G} {a q k : Nat} {wf : Nat → Nat} {L : List Nat} {h0 h : aw_H} {g : Nat → Value} (hI : mm_Ini G a wf L h0 h g) (hk : k ∉ L) (hq : h q = none) (hb : aw_b G ≤ q) : mm_Ini G a (aw_u wf k q) (k :: L) h0 (aw_up (aw_up h q (mm_e0 G k)) a (aw_o 5 ((List.range 69).map (aw_u g k (.ref q))))) (aw_u g k (.ref q)) := by
  obtain ⟨i1, i2, i3, i4⟩ := hI
  have qa : q ≠ a := fun e => by rw [e, i1] at hq; cases hq
  have ql : ∀ j, j ∈ L → wf j ≠ q := fun j hj e => by
    have x := (i2 j hj).2.2.2
    rw [e, hq] at x
    cases x
  have lk : ∀ j, j ∈ L → j ≠ k := fun j hj e => hk (e ▸ hj)
  have q0 : h0 q = none := by
    cases x : h0 q with
    | none => rfl
    | some v =>
      have := i4 q qa (by rw [x]; exact fun z => by cases z)
      rw [hq, x] at this
      cases this
  refine ⟨aw_up_s _ _ _, fun j hj => ?_, fun j i hj hi e => ?_, fun z hz h9 => ?_⟩
  · rcases List.mem_cons.mp hj with rfl | hj
    · rw [aw_u_s]
      exact ⟨hb, qa, q0, by rw [aw_up_n qa, aw_up_s]⟩
    · rw [aw_u_n (lk j hj)]
      obtain ⟨x1, x2, x3, x4⟩ := i2 j hj
      exact ⟨x1, x2, x3, by rw [aw_up_n x2, aw_up_n (ql j hj), x4]⟩
  · rcases List.mem_cons.mp hj with ej | gj
    · rcases List.mem_cons.mp hi with ei | gi
      · rw [ej, ei]
      · rw [ej, aw_u_s, aw_u_n (lk i gi)] at e
        exact absurd e.symm (ql i gi)
    · rcases List.mem_cons.mp hi with ei | gi
      · rw [ei, aw_u_s, aw_u_n (lk j gj)] at e
        exact absurd e (ql j gj)
      · rw [aw_u_n (lk i gi), aw_u_n (lk j gj)] at e
        exact i3 j i gj gi e
  · rw [aw_up_n hz, aw_up_n (fun e => h9 (by rw [e]; exact q0)), i4 z hz h9]
section INI
variable {G : aw_G} {R : Room} {y : MethodName} {cc : ByteArray} {nL : Nat} {ret : Option FieldType} {Qf : List Frame → Array Value → State → State → Prop} {kc ks : Nat} {h0 h : aw_H} {pc : Nat} {ls : List (Nat × Value)} {st : List Value} {a : Nat} {wf : Nat → Nat} {L : List Nat} {g : Nat → Value}
theorem mm_iniN {own nm : String} {index k : Nat} {v : Int32} (hI : mm_Ini G a wf L h0 h g) (hab : aw_b G ≤ a) (d : decode cc pc = .ok (.putfield index, 3)) (F : aw_Pl own index 5 k nm .int) (ho : own = y.cls) (hnm : nm = y.name) (hk : k < 69) (kk : ∀ h, mm_Ini G a wf L h0 h (aw_u g k (.int v)) → AW G R y cc nL ret Qf kc ks h (pc + 3) ls st) : AW G R y cc nL ret Qf kc ks h pc ls (.int v :: .ref a :: st) := by
  obtain ⟨i1, i2, i3, i4⟩ := hI
  refine aw_put d F ho hnm hab i1 (by simp; exact hk) rfl rfl (kk _ ⟨by rw [aw_up_s, aw_mset], fun j hj => ?_, i3, fun z hz h9 => ?_⟩)
  · obtain ⟨x1, x2, x3, x4⟩ := i2 j hj
    exact ⟨x1, x2, x3, by rw [aw_up_n x2, x4]⟩
  · rw [aw_up_n hz, i4 z hz h9]
theorem mm_iniI {own nm : String} {index k N : Nat} (hI : mm_Ini G a wf L h0 h g) (hab : aw_b G ≤ a) (d1 : decode cc pc = .ok (.newarray .int, 2)) (d2 : decode cc (pc + 2) = .ok (.putfield index, 3)) (F : aw_Pl own index 5 k nm (.array .int)) (ho : own = y.cls) (hnm : nm = y.name) (hw : Cond.arrayClass .int ∈ lw_all) (hN : N < 2147483648) (hby : N * componentBytes .int ≤ 536870912) (hk : k < 69) (hkL : k ∉ L) (e0 : mm_e0 G k = aw_I G N (fun _ => 0)) (kk : ∀ q h, mm_Ini G a (aw_u wf k q) (k :: L) h0 h (aw_u g k (.ref q)) → AW G R y cc nL ret Qf kc ks h (pc + 2 + 3) ls st) : AW G R y cc nL ret Qf (kc + 1) (ks + N) h pc ls (.int (nI N) :: .ref a :: st) := by
  refine aw_newI d1 hw (fun z => by rw [Int32.lt_iff_toInt_lt, aw_ti hN, show Int32.toInt 0 = 0 from rfl] at z; omega) (nI_clamp hN) hby (fun q hq hb => ?_)
  have K := mm_ini hI hkL hq hb
  have qa : a ≠ q := fun e => by rw [← e, hI.1] at hq; cases hq
  rw [e0] at K
  exact aw_put d2 F ho hnm hab ((aw_up_n qa).trans hI.1) (by simp; exact hk) rfl rfl (by rw [aw_mset]; exact kk q _ K)
theorem mm_iniJ {own nm : String} {index k N : Nat} (hI : mm_Ini G a wf L h0 h g) (hab : aw_b G ≤ a) (d1 : decode cc pc = .ok (.newarray .long, 2)) (d2 : decode cc (pc + 2) = .ok (.putfield index, 3)) (F : aw_Pl own index 5 k nm (.array .long)) (ho : own = y.cls) (hnm : nm = y.name) (hw : Cond.arrayClass .long ∈ lw_all) (hN : N < 2147483648) (hby : N * componentBytes .long ≤ 536870912) (hk : k < 69) (hkL : k ∉ L) (e0 : mm_e0 G k = aw_J G N (fun _ => 0)) (kk : ∀ q h, mm_Ini G a (aw_u wf k q) (k :: L) h0 h (aw_u g k (.ref q)) → AW G R y cc nL ret Qf kc ks h (pc + 2 + 3) ls st) : AW G R y cc nL ret Qf (kc + 1) (ks + N) h pc ls (.int (nI N) :: .ref a :: st) := by
  refine aw_newJ d1 hw (fun z => by rw [Int32.lt_iff_toInt_lt, aw_ti hN, show Int32.toInt 0 = 0 from rfl] at z; omega) (nI_clamp hN) hby (fun q hq hb => ?_)
  have K := mm_ini hI hkL hq hb
  have qa : a ≠ q := fun e => by rw [← e, hI.1] at hq; cases hq
  rw [e0] at K
  exact aw_put d2 F ho hnm hab ((aw_up_n qa).trans hI.1) (by simp; exact hk) rfl rfl (by rw [aw_mset]; exact kk q _ K)
theorem mm_iniZ {own nm : String} {index k N : Nat} (hI : mm_Ini G a wf L h0 h g) (hab : aw_b G ≤ a) (d1 : decode cc pc = .ok (.newarray .boolean, 2)) (d2 : decode cc (pc + 2) = .ok (.putfield index, 3)) (F : aw_Pl own index 5 k nm (.array .boolean)) (ho : own = y.cls) (hnm : nm = y.name) (hw : Cond.arrayClass .boolean ∈ lw_all) (hN : N < 2147483648) (hby : N * componentBytes .boolean ≤ 536870912) (hk : k < 69) (hkL : k ∉ L) (e0 : mm_e0 G k = aw_Z G N (fun _ => 0)) (kk : ∀ q h, mm_Ini G a (aw_u wf k q) (k :: L) h0 h (aw_u g k (.ref q)) → AW G R y cc nL ret Qf kc ks h (pc + 2 + 3) ls st) : AW G R y cc nL ret Qf (kc + 1) (ks + N) h pc ls (.int (nI N) :: .ref a :: st) := by
  refine aw_newZ d1 hw (fun z => by rw [Int32.lt_iff_toInt_lt, aw_ti hN, show Int32.toInt 0 = 0 from rfl] at z; omega) (nI_clamp hN) hby (fun q hq hb => ?_)
  have K := mm_ini hI hkL hq hb
  have qa : a ≠ q := fun e => by rw [← e, hI.1] at hq; cases hq
  rw [e0] at K
  exact aw_put d2 F ho hnm hab ((aw_up_n qa).trans hI.1) (by simp; exact hk) rfl rfl (by rw [aw_mset]; exact kk q _ K)
end INI
/-- the model at first -/
def mm_s0 : mm_S := (aw_u (fun _ => 0) 41 9, -1, 0, fun _ _ => 0, fun _ _ => 0, fun _ => 0)
def mm_AL : List Nat := [68, 67, 66, 63, 62, 61, 60, 59, 58, 57, 56, 55, 54, 53, 51, 50, 47, 46, 45, 36, 35, 34, 33, 32, 31, 30, 29, 28, 27, 26, 19, 18, 17, 16, 15, 14, 13, 12, 11, 10, 0]
theorem mm_AL_in {k : Nat} (h : mm_isA k) : k ∈ mm_AL := by
  have l : k < 69 := by
    rcases h with h | h | h | h | h
    · unfold mm_il at h
      split at h <;> first | omega | cases h
    · unfold mm_zl at h
      split at h <;> first | omega | cases h
    · unfold mm_vl at h
      split at h <;> first | omega | cases h
    · unfold mm_sl at h
      split at h <;> first | omega | cases h
    · omega
  have g : ∀ j, j < 69 → ((mm_il j).isSome || (mm_zl j).isSome || (mm_vl j).isSome || (mm_sl j).isSome || decide (j = 10)) = true → j ∈ mm_AL := by decide
  refine g k l ?_
  unfold mm_isA at h
  simp only [Bool.or_eq_true, decide_eq_true_eq]
  rcases h with h | h | h | h | h
  · exact Or.inl (Or.inl (Or.inl (Or.inl h)))
  · exact Or.inl (Or.inl (Or.inl (Or.inr h)))
  · exact Or.inl (Or.inl (Or.inr h))
  · exact Or.inl (Or.inr h)
  · exact Or.inr h
/-- THE MODEL IS MADE -/
def mm_Made (G : aw_G) (a : Nat) (h : aw_H) : Option Value → aw_H → Prop := fun v h' => v = none ∧ ∃ w : mm_Wd, w.1 = a ∧ mm_W G w ∧ mm_R G w h' mm_s0 ∧ (∀ q, q ≠ a → h q ≠ none → h' q = h q) ∧ ∀ k, mm_isA k → h (w.2 k) = none
theorem mm_made {G : aw_G} {a : Nat} {wf : Nat → Nat} {h0 h : aw_H} {g : Nat → Value} (hab : aw_b G ≤ a) (hI : mm_Ini G a wf mm_AL h0 h g) (e : (List.range 69).map g = mm_F (a, wf) mm_s0) : mm_Made G a h0 none h := by
  obtain ⟨i1, i2, i3, i4⟩ := hI
  refine ⟨rfl, (a, wf), rfl, ⟨hab, fun k hk => ⟨(i2 k (mm_AL_in hk)).1, (i2 k (mm_AL_in hk)).2.1⟩, fun k j hk hj => i3 k j (mm_AL_in hk) (mm_AL_in hj)⟩, ⟨by rw [← e]; exact i1, fun k n hk => ?_, fun k n hk => ?_, fun k n hk => ?_, ?_, fun k n hk => ?_⟩, i4, fun k hk => (i2 k (mm_AL_in hk)).2.2.1⟩
  · have x := (i2 k (mm_AL_in (Or.inl (by rw [hk]; rfl)))).2.2.2
    unfold mm_e0 at x
    rw [hk] at x
    exact x
  · have x := (i2 k (mm_AL_in (Or.inr (Or.inl (by rw [hk]; rfl))))).2.2.2
    unfold mm_e0 at x
    cases h1 : mm_il k with
    | some m => exact absurd rfl (mm_il_ne h1 hk)
    | none =>
      rw [h1, hk] at x
      exact x
  · have x := (i2 k (mm_AL_in (Or.inr (Or.inr (Or.inl (by rw [hk]; rfl)))))).2.2.2
    unfold mm_e0 at x
    cases h1 : mm_il k with
    | some m => exact absurd rfl (mm_il_vl h1 hk)
    | none =>
      cases h2 : mm_zl k with
      | some m => exact absurd rfl (mm_zl_vl h2 hk)
      | none =>
        rw [h1, h2, hk] at x
        exact x
  · exact (i2 10 (mm_AL_in (Or.inr (Or.inr (Or.inr (Or.inr rfl)))))).2.2.2
  · have x := (i2 k (mm_AL_in (Or.inr (Or.inr (Or.inr (Or.inl (by rw [hk]; rfl))))))).2.2.2
    unfold mm_e0 at x
    cases h1 : mm_il k with
    | some m => exact absurd rfl (mm_il_sl h1 hk)
    | none =>
      cases h2 : mm_zl k with
      | some m => exact absurd rfl (mm_zl_sl h2 hk)
      | none =>
        cases h3 : mm_vl k with
        | some m => exact absurd rfl (mm_vl_sl h3 hk)
        | none =>
          rw [h1, h2, h3, hk] at x
          exact ⟨_, x⟩
def mm_dflt : List Value := [.null, .int 0, .int 0, .int 0, .int 0, .int 0, .int 0, .int 0, .int 0, .long 0, .null, .null, .null, .null, .null, .null, .null, .null, .null, .null, .int 0, .int 0, .int 0, .int 0, .int 0, .int 0, .null, .null, .null, .null, .null, .null, .null, .null, .null, .null, .null, .int 0, .int 0, .int 0, .int 0, .int 0, .int 0, .int 0, .int 0, .null, .null, .null, .int 0, .int 0, .null, .null, .int 0, .null, .null, .null, .null, .null, .null, .null, .null, .null, .null, .null, .int 0, .int 0, .null, .null, .null]
def mm_g0 (k : Nat) : Value := (mm_dflt[k]?).getD .null
theorem mm_F_ext {w : mm_Wd} {s : mm_S} {g : Nat → Value} (h0 : g 0 = .ref (w.2 0)) (h1 : g 1 = .int (nI (mm_n s 1))) (h2 : g 2 = .int (nI (mm_n s 2))) (h3 : g 3 = .int (mm_fp s)) (h4 : g 4 = .int (nI (mm_n s 4))) (h5 : g 5 = .int (nI (mm_n s 5))) (h6 : g 6 = .int (nI (mm_n s 6))) (h7 : g 7 = .int (nI (mm_n s 7))) (h8 : g 8 = .int (nI (mm_n s 8))) (h9 : g 9 = .long (mm_w s)) (h10 : g 10 = .ref (w.2 10)) (h11 : g 11 = .ref (w.2 11)) (h12 : g 12 = .ref (w.2 12)) (h13 : g 13 = .ref (w.2 13)) (h14 : g 14 = .ref (w.2 14)) (h15 : g 15 = .ref (w.2 15)) (h16 : g 16 = .ref (w.2 16)) (h17 : g 17 = .ref (w.2 17)) (h18 : g 18 = .ref (w.2 18)) (h19 : g 19 = .ref (w.2 19)) (h20 : g 20 = .int (nI (mm_n s 20))) (h21 : g 21 = .int (nI (mm_n s 21))) (h22 : g 22 = .int (nI (mm_n s 22))) (h23 : g 23 = .int (nI (mm_n s 23))) (h24 : g 24 = .int (nI (mm_n s 24))) (h25 : g 25 = .int (nI (mm_n s 25))) (h26 : g 26 = .ref (w.2 26)) (h27 : g 27 = .ref (w.2 27)) (h28 : g 28 = .ref (w.2 28)) (h29 : g 29 = .ref (w.2 29)) (h30 : g 30 = .ref (w.2 30)) (h31 : g 31 = .ref (w.2 31)) (h32 : g 32 = .ref (w.2 32)) (h33 : g 33 = .ref (w.2 33)) (h34 : g 34 = .ref (w.2 34)) (h35 : g 35 = .ref (w.2 35)) (h36 : g 36 = .ref (w.2 36)) (h37 : g 37 = .int (nI (mm_n s 37))) (h38 : g 38 = .int (nI (mm_n s 38))) (h39 : g 39 = .int (nI (mm_n s 39))) (h40 : g 40 = .int (nI (mm_n s 40))) (h41 : g 41 = .int (nI (mm_n s 41))) (h42 : g 42 = .int (nI (mm_n s 42))) (h43 : g 43 = .int (nI (mm_n s 43))) (h44 : g 44 = .int (nI (mm_n s 44))) (h45 : g 45 = .ref (w.2 45)) (h46 : g 46 = .ref (w.2 46)) (h47 : g 47 = .ref (w.2 47)) (h48 : g 48 = .int (nI (mm_n s 48))) (h49 : g 49 = .int (nI (mm_n s 49))) (h50 : g 50 = .ref (w.2 50)) (h51 : g 51 = .ref (w.2 51)) (h52 : g 52 = .int (nI (mm_n s 52))) (h53 : g 53 = .ref (w.2 53)) (h54 : g 54 = .ref (w.2 54)) (h55 : g 55 = .ref (w.2 55)) (h56 : g 56 = .ref (w.2 56)) (h57 : g 57 = .ref (w.2 57)) (h58 : g 58 = .ref (w.2 58)) (h59 : g 59 = .ref (w.2 59)) (h60 : g 60 = .ref (w.2 60)) (h61 : g 61 = .ref (w.2 61)) (h62 : g 62 = .ref (w.2 62)) (h63 : g 63 = .ref (w.2 63)) (h64 : g 64 = .int (nI (mm_n s 64))) (h65 : g 65 = .int (nI (mm_n s 65))) (h66 : g 66 = .ref (w.2 66)) (h67 : g 67 = .ref (w.2 67)) (h68 : g 68 = .ref (w.2 68)) : (List.range 69).map g = mm_F w s := by
  show [g 0, g 1, g 2, g 3, g 4, g 5, g 6, g 7, g 8, g 9, g 10, g 11, g 12, g 13, g 14, g 15, g 16, g 17, g 18, g 19, g 20, g 21, g 22, g 23, g 24, g 25, g 26, g 27, g 28, g 29, g 30, g 31, g 32, g 33, g 34, g 35, g 36, g 37, g 38, g 39, g 40, g 41, g 42, g 43, g 44, g 45, g 46, g 47, g 48, g 49, g 50, g 51, g 52, g 53, g 54, g 55, g 56, g 57, g 58, g 59, g 60, g 61, g 62, g 63, g 64, g 65, g 66, g 67, g 68] = _
  rw [h0, h1, h2, h3, h4, h5, h6, h7, h8, h9, h10, h11, h12, h13, h14, h15, h16, h17, h18, h19, h20, h21, h22, h23, h24, h25, h26, h27, h28, h29, h30, h31, h32, h33, h34, h35, h36, h37, h38, h39, h40, h41, h42, h43, h44, h45, h46, h47, h48, h49, h50, h51, h52, h53, h54, h55, h56, h57, h58, h59, h60, h61, h62, h63, h64, h65, h66, h67, h68]
  rfl
set_option maxHeartbeats 4000000 in
theorem mm_init {G : aw_G} {h : aw_H} {a : Nat} (hab : aw_b G ≤ a) (ha : h a = some (aw_o 5 mm_dflt)) : aw_Met G yX5_init cX5_init 1 none 1 41 10663 [.ref a] h (mm_Made G a h) := by
  refine aw_Met.of (by decide +kernel) (Nat.le_of_ble_eq_true rfl) ?_
  have hI : mm_Ini G a (fun _ => 0) [] h h mm_g0 := ⟨ha, fun k hk => absurd hk List.not_mem_nil, fun k j hk _ _ => absurd hk List.not_mem_nil, fun q _ _ => rfl⟩
  generalize hh9 : mm_Made G a h = Q at ⊢
  have fin : ∀ wf h2 g, mm_Ini G a wf mm_AL h h2 g → (List.range 69).map g = mm_F (a, wf) mm_s0 → Q none h2 := fun wf h2 g z1 z2 => by rw [← hh9]; exact mm_made hab z1 z2
  show AW G (aw_rm 1 41 10663) yX5_init cX5_init 1 none (aw_N G Q 41 10663) 41 10663 h 0 [(0, .ref a)] []
  refine aw_aload_n dX5_init_0 rfl ?_
  refine aw_objInit dX5_init_1 q1336 q156 q157 (Nat.le_of_ble_eq_true rfl) (Nat.le_of_ble_eq_true rfl) (Nat.le_of_ble_eq_true rfl) ?_
  refine aw_aload_n dX5_init_4 rfl ?_
  refine aw_sipush (v := nI 1600) dX5_init_5 rfl ?_
  refine mm_iniI (k := 0) (N := 1600) hI hab dX5_init_8 dX5_init_10 pX5_7 rfl rfl q235 (by decide) (by decide) (by decide) (by decide) rfl (fun q0 h hI => ?_)
  refine aw_aload_n dX5_init_13 rfl ?_
  refine aw_iconst (v := -1) dX5_init_14 rfl ?_
  refine mm_iniN (k := 3) hI hab dX5_init_15 (pX5_13 _) rfl rfl (by decide) (fun h hI => ?_)
  refine aw_aload_n dX5_init_18 rfl ?_
  refine aw_bipush (v := nI 8) dX5_init_19 rfl ?_
  refine mm_iniJ (k := 10) (N := 8) hI hab dX5_init_21 dX5_init_23 pX5_17 rfl rfl q1545 (by decide) (by decide) (by decide) (by decide) rfl (fun q10 h hI => ?_)
  refine aw_aload_n dX5_init_26 rfl ?_
  refine aw_sipush (v := nI 640) dX5_init_27 rfl ?_
  refine mm_iniI (k := 11) (N := 640) hI hab dX5_init_30 dX5_init_32 pX5_21 rfl rfl q235 (by decide) (by decide) (by decide) (by decide) rfl (fun q11 h hI => ?_)
  refine aw_aload_n dX5_init_35 rfl ?_
  refine aw_sipush (v := nI 640) dX5_init_36 rfl ?_
  refine mm_iniI (k := 12) (N := 640) hI hab dX5_init_39 dX5_init_41 pX5_24 rfl rfl q235 (by decide) (by decide) (by decide) (by decide) rfl (fun q12 h hI => ?_)
  refine aw_aload_n dX5_init_44 rfl ?_
  refine aw_iconst (v := nI 2) dX5_init_45 rfl ?_
  refine mm_iniI (k := 13) (N := 2) hI hab dX5_init_46 dX5_init_48 pX5_27 rfl rfl q235 (by decide) (by decide) (by decide) (by decide) rfl (fun q13 h hI => ?_)
  refine aw_aload_n dX5_init_51 rfl ?_
  refine aw_sipush (v := nI 640) dX5_init_52 rfl ?_
  refine mm_iniI (k := 14) (N := 640) hI hab dX5_init_55 dX5_init_57 pX5_30 rfl rfl q235 (by decide) (by decide) (by decide) (by decide) rfl (fun q14 h hI => ?_)
  refine aw_aload_n dX5_init_60 rfl ?_
  refine aw_sipush (v := nI 640) dX5_init_61 rfl ?_
  refine mm_iniI (k := 15) (N := 640) hI hab dX5_init_64 dX5_init_66 pX5_33 rfl rfl q235 (by decide) (by decide) (by decide) (by decide) rfl (fun q15 h hI => ?_)
  refine aw_aload_n dX5_init_69 rfl ?_
  refine aw_iconst (v := nI 2) dX5_init_70 rfl ?_
  refine mm_iniI (k := 16) (N := 2) hI hab dX5_init_71 dX5_init_73 pX5_36 rfl rfl q235 (by decide) (by decide) (by decide) (by decide) rfl (fun q16 h hI => ?_)
  refine aw_aload_n dX5_init_76 rfl ?_
  refine aw_sipush (v := nI 160) dX5_init_77 rfl ?_
  refine mm_iniI (k := 17) (N := 160) hI hab dX5_init_80 dX5_init_82 pX5_39 rfl rfl q235 (by decide) (by decide) (by decide) (by decide) rfl (fun q17 h hI => ?_)
  refine aw_aload_n dX5_init_85 rfl ?_
  refine aw_bipush (v := nI 64) dX5_init_86 rfl ?_
  refine mm_iniI (k := 18) (N := 64) hI hab dX5_init_88 dX5_init_90 pX5_42 rfl rfl q235 (by decide) (by decide) (by decide) (by decide) rfl (fun q18 h hI => ?_)
  refine aw_aload_n dX5_init_93 rfl ?_
  refine aw_iconst (v := nI 2) dX5_init_94 rfl ?_
  refine mm_iniZ (k := 19) (N := 2) hI hab dX5_init_95 dX5_init_97 pX5_45 rfl rfl q1546 (by decide) (by decide) (by decide) (by decide) rfl (fun q19 h hI => ?_)
  refine aw_aload_n dX5_init_100 rfl ?_
  refine aw_bipush (v := nI 6) dX5_init_101 rfl ?_
  refine mm_iniI (k := 26) (N := 6) hI hab dX5_init_103 dX5_init_105 pX5_49 rfl rfl q235 (by decide) (by decide) (by decide) (by decide) rfl (fun q26 h hI => ?_)
  refine aw_aload_n dX5_init_108 rfl ?_
  refine aw_bipush (v := nI 8) dX5_init_109 rfl ?_
  refine mm_iniI (k := 27) (N := 8) hI hab dX5_init_111 dX5_init_113 pX5_52 rfl rfl q235 (by decide) (by decide) (by decide) (by decide) rfl (fun q27 h hI => ?_)
  refine aw_aload_n dX5_init_116 rfl ?_
  refine aw_bipush (v := nI 8) dX5_init_117 rfl ?_
  refine mm_iniI (k := 28) (N := 8) hI hab dX5_init_119 dX5_init_121 pX5_55 rfl rfl q235 (by decide) (by decide) (by decide) (by decide) rfl (fun q28 h hI => ?_)
  refine aw_aload_n dX5_init_124 rfl ?_
  refine aw_bipush (v := nI 8) dX5_init_125 rfl ?_
  refine mm_iniI (k := 29) (N := 8) hI hab dX5_init_127 dX5_init_129 pX5_58 rfl rfl q235 (by decide) (by decide) (by decide) (by decide) rfl (fun q29 h hI => ?_)
  refine aw_aload_n dX5_init_132 rfl ?_
  refine aw_bipush (v := nI 8) dX5_init_133 rfl ?_
  refine mm_iniI (k := 30) (N := 8) hI hab dX5_init_135 dX5_init_137 pX5_61 rfl rfl q235 (by decide) (by decide) (by decide) (by decide) rfl (fun q30 h hI => ?_)
  refine aw_aload_n dX5_init_140 rfl ?_
  refine aw_bipush (v := nI 8) dX5_init_141 rfl ?_
  refine mm_iniI (k := 31) (N := 8) hI hab dX5_init_143 dX5_init_145 pX5_64 rfl rfl q235 (by decide) (by decide) (by decide) (by decide) rfl (fun q31 h hI => ?_)
  refine aw_aload_n dX5_init_148 rfl ?_
  refine aw_bipush (v := nI 8) dX5_init_149 rfl ?_
  refine mm_iniI (k := 32) (N := 8) hI hab dX5_init_151 dX5_init_153 pX5_67 rfl rfl q235 (by decide) (by decide) (by decide) (by decide) rfl (fun q32 h hI => ?_)
  refine aw_aload_n dX5_init_156 rfl ?_
  refine aw_bipush (v := nI 8) dX5_init_157 rfl ?_
  refine mm_iniI (k := 33) (N := 8) hI hab dX5_init_159 dX5_init_161 pX5_70 rfl rfl q235 (by decide) (by decide) (by decide) (by decide) rfl (fun q33 h hI => ?_)
  refine aw_aload_n dX5_init_164 rfl ?_
  refine aw_bipush (v := nI 8) dX5_init_165 rfl ?_
  refine mm_iniI (k := 34) (N := 8) hI hab dX5_init_167 dX5_init_169 pX5_73 rfl rfl q235 (by decide) (by decide) (by decide) (by decide) rfl (fun q34 h hI => ?_)
  refine aw_aload_n dX5_init_172 rfl ?_
  refine aw_bipush (v := nI 8) dX5_init_173 rfl ?_
  refine mm_iniI (k := 35) (N := 8) hI hab dX5_init_175 dX5_init_177 pX5_76 rfl rfl q235 (by decide) (by decide) (by decide) (by decide) rfl (fun q35 h hI => ?_)
  refine aw_aload_n dX5_init_180 rfl ?_
  refine aw_bipush (v := nI 8) dX5_init_181 rfl ?_
  refine mm_iniI (k := 36) (N := 8) hI hab dX5_init_183 dX5_init_185 pX5_79 rfl rfl q235 (by decide) (by decide) (by decide) (by decide) rfl (fun q36 h hI => ?_)
  refine aw_aload_n dX5_init_188 rfl ?_
  refine aw_bipush (v := nI 9) dX5_init_189 rfl ?_
  refine mm_iniN (k := 41) hI hab dX5_init_191 (pX5_82 _) rfl rfl (by decide) (fun h hI => ?_)
  refine aw_aload_n dX5_init_194 rfl ?_
  refine aw_bipush (v := nI 28) dX5_init_195 rfl ?_
  refine mm_iniI (k := 45) (N := 28) hI hab dX5_init_197 dX5_init_199 pX5_85 rfl rfl q235 (by decide) (by decide) (by decide) (by decide) rfl (fun q45 h hI => ?_)
  refine aw_aload_n dX5_init_202 rfl ?_
  refine aw_bipush (v := nI 28) dX5_init_203 rfl ?_
  refine mm_iniI (k := 46) (N := 28) hI hab dX5_init_205 dX5_init_207 pX5_88 rfl rfl q235 (by decide) (by decide) (by decide) (by decide) rfl (fun q46 h hI => ?_)
  refine aw_aload_n dX5_init_210 rfl ?_
  refine aw_sipush (v := nI 1120) dX5_init_211 rfl ?_
  refine mm_iniI (k := 47) (N := 1120) hI hab dX5_init_214 dX5_init_216 pX5_91 rfl rfl q235 (by decide) (by decide) (by decide) (by decide) rfl (fun q47 h hI => ?_)
  refine aw_aload_n dX5_init_219 rfl ?_
  refine aw_bipush (v := nI 8) dX5_init_220 rfl ?_
  refine mm_iniI (k := 50) (N := 8) hI hab dX5_init_222 dX5_init_224 pX5_94 rfl rfl q235 (by decide) (by decide) (by decide) (by decide) rfl (fun q50 h hI => ?_)
  refine aw_aload_n dX5_init_227 rfl ?_
  refine aw_bipush (v := nI 8) dX5_init_228 rfl ?_
  refine mm_iniI (k := 51) (N := 8) hI hab dX5_init_230 dX5_init_232 pX5_97 rfl rfl q235 (by decide) (by decide) (by decide) (by decide) rfl (fun q51 h hI => ?_)
  refine aw_aload_n dX5_init_235 rfl ?_
  refine aw_sipush (v := nI 2304) dX5_init_236 rfl ?_
  refine mm_iniI (k := 53) (N := 2304) hI hab dX5_init_239 dX5_init_241 pX5_100 rfl rfl q235 (by decide) (by decide) (by decide) (by decide) rfl (fun q53 h hI => ?_)
  refine aw_aload_n dX5_init_244 rfl ?_
  refine aw_sipush (v := nI 2304) dX5_init_245 rfl ?_
  refine mm_iniI (k := 54) (N := 2304) hI hab dX5_init_248 dX5_init_250 pX5_103 rfl rfl q235 (by decide) (by decide) (by decide) (by decide) rfl (fun q54 h hI => ?_)
  refine aw_aload_n dX5_init_253 rfl ?_
  refine aw_bipush (v := nI 8) dX5_init_254 rfl ?_
  refine mm_iniI (k := 55) (N := 8) hI hab dX5_init_256 dX5_init_258 pX5_106 rfl rfl q235 (by decide) (by decide) (by decide) (by decide) rfl (fun q55 h hI => ?_)
  refine aw_aload_n dX5_init_261 rfl ?_
  refine aw_bipush (v := nI 64) dX5_init_262 rfl ?_
  refine mm_iniZ (k := 56) (N := 64) hI hab dX5_init_264 dX5_init_266 pX5_109 rfl rfl q1546 (by decide) (by decide) (by decide) (by decide) rfl (fun q56 h hI => ?_)
  refine aw_aload_n dX5_init_269 rfl ?_
  refine aw_bipush (v := nI 8) dX5_init_270 rfl ?_
  refine mm_iniI (k := 57) (N := 8) hI hab dX5_init_272 dX5_init_274 pX5_112 rfl rfl q235 (by decide) (by decide) (by decide) (by decide) rfl (fun q57 h hI => ?_)
  refine aw_aload_n dX5_init_277 rfl ?_
  refine aw_bipush (v := nI 41) dX5_init_278 rfl ?_
  refine mm_iniI (k := 58) (N := 41) hI hab dX5_init_280 dX5_init_282 pX5_115 rfl rfl q235 (by decide) (by decide) (by decide) (by decide) rfl (fun q58 h hI => ?_)
  refine aw_aload_n dX5_init_285 rfl ?_
  refine aw_bipush (v := nI 30) dX5_init_286 rfl ?_
  refine mm_iniI (k := 59) (N := 30) hI hab dX5_init_288 dX5_init_290 pX5_118 rfl rfl q235 (by decide) (by decide) (by decide) (by decide) rfl (fun q59 h hI => ?_)
  refine aw_aload_n dX5_init_293 rfl ?_
  refine aw_bipush (v := nI 30) dX5_init_294 rfl ?_
  refine mm_iniI (k := 60) (N := 30) hI hab dX5_init_296 dX5_init_298 pX5_121 rfl rfl q235 (by decide) (by decide) (by decide) (by decide) rfl (fun q60 h hI => ?_)
  refine aw_aload_n dX5_init_301 rfl ?_
  refine aw_bipush (v := nI 30) dX5_init_302 rfl ?_
  refine mm_iniI (k := 61) (N := 30) hI hab dX5_init_304 dX5_init_306 pX5_124 rfl rfl q235 (by decide) (by decide) (by decide) (by decide) rfl (fun q61 h hI => ?_)
  refine aw_aload_n dX5_init_309 rfl ?_
  refine aw_bipush (v := nI 30) dX5_init_310 rfl ?_
  refine mm_iniI (k := 62) (N := 30) hI hab dX5_init_312 dX5_init_314 pX5_127 rfl rfl q235 (by decide) (by decide) (by decide) (by decide) rfl (fun q62 h hI => ?_)
  refine aw_aload_n dX5_init_317 rfl ?_
  refine aw_bipush (v := nI 30) dX5_init_318 rfl ?_
  refine mm_iniZ (k := 63) (N := 30) hI hab dX5_init_320 dX5_init_322 pX5_130 rfl rfl q1546 (by decide) (by decide) (by decide) (by decide) rfl (fun q63 h hI => ?_)
  refine aw_aload_n dX5_init_325 rfl ?_
  refine aw_bipush (v := nI 21) dX5_init_326 rfl ?_
  refine mm_iniI (k := 66) (N := 21) hI hab dX5_init_328 dX5_init_330 pX5_133 rfl rfl q235 (by decide) (by decide) (by decide) (by decide) rfl (fun q66 h hI => ?_)
  refine aw_aload_n dX5_init_333 rfl ?_
  refine aw_iconst (v := nI 3) dX5_init_334 rfl ?_
  refine mm_iniZ (k := 67) (N := 3) hI hab dX5_init_335 dX5_init_337 pX5_136 rfl rfl q1546 (by decide) (by decide) (by decide) (by decide) rfl (fun q67 h hI => ?_)
  refine aw_aload_n dX5_init_340 rfl ?_
  refine aw_bipush (v := nI 84) dX5_init_341 rfl ?_
  refine mm_iniI (k := 68) (N := 84) hI hab dX5_init_343 dX5_init_345 pX5_139 rfl rfl q235 (by decide) (by decide) (by decide) (by decide) rfl (fun q68 h hI => ?_)
  refine aw_vreturn dX5_init_348 rfl ?_
  exact fin _ _ _ hI (mm_F_ext (w := (a, _)) rfl rfl rfl rfl rfl rfl rfl rfl rfl rfl rfl rfl rfl rfl rfl rfl rfl rfl rfl rfl rfl rfl rfl rfl rfl rfl rfl rfl rfl rfl rfl rfl rfl rfl rfl rfl rfl rfl rfl rfl rfl rfl rfl rfl rfl rfl rfl rfl rfl rfl rfl rfl rfl rfl rfl rfl rfl rfl rfl rfl rfl rfl rfl rfl rfl rfl rfl rfl rfl)
