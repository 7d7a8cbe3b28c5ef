/-! what the calls answer, as both sides must; the core of the model's state -/
set_option maxRecDepth 100000
noncomputable def aw_if {α : Type} (P : Prop) (a b : α) : α := @ite α P (Classical.propDecidable P) a b
theorem aw_if1 {α : Type} {P : Prop} {a b : α} (h : P) : aw_if P a b = a := by unfold aw_if; exact if_pos h
theorem aw_if0 {α : Type} {P : Prop} {a b : α} (h : ¬ P) : aw_if P a b = b := by unfold aw_if; exact if_neg h
/-- indices of the core: numbers, arrays, raw arrays -/
def mm_cn (k : Nat) : Bool := [1, 2, 23, 41, 42, 48, 49, 52, 64, 65].contains k
def mm_ca (k : Nat) : Bool := [0, 14, 15, 16, 32, 33, 34, 35, 36, 45, 47, 59, 60, 61, 63, 67, 68].contains k
def mm_cv (k : Nat) : Bool := [51, 62].contains k
/-- the same but for what is laid anew before it is used -/
def mm_core (s t : mm_S) : Prop := (∀ k, mm_cn k = true → mm_n s k = mm_n t k) ∧ mm_fp s = mm_fp t ∧ (∀ k, mm_ca k = true → mm_a s k = mm_a t k) ∧ ∀ k, mm_cv k = true → mm_v s k = mm_v t k
theorem mm_core.rf {s : mm_S} : mm_core s s := ⟨fun _ _ => rfl, rfl, fun _ _ => rfl, fun _ _ => rfl⟩
theorem mm_core.tr {s t u : mm_S} (a : mm_core s t) (b : mm_core t u) : mm_core s u := ⟨fun k h => (a.1 k h).trans (b.1 k h), a.2.1.trans b.2.1, fun k h => (a.2.2.1 k h).trans (b.2.2.1 k h), fun k h => (a.2.2.2 k h).trans (b.2.2.2 k h)⟩
theorem mm_core.sy {s t : mm_S} (a : mm_core s t) : mm_core t s := ⟨fun k h => (a.1 k h).symm, a.2.1.symm, fun k h => (a.2.2.1 k h).symm, fun k h => (a.2.2.2 k h).symm⟩
theorem mm_core.A {s t : mm_S} {k : Nat} {f : Nat → Nat} (hk : mm_ca k = false) (h : mm_core s t) : mm_core s (mm_setA t k f) := h.tr ⟨fun _ _ => rfl, rfl, fun j hj => by rw [mm_a_A, if_neg (fun e => by subst e; rw [hk] at hj; cases hj)], fun _ _ => rfl⟩
theorem mm_core.N {s t : mm_S} {k v : Nat} (hk : mm_cn k = false) (h : mm_core s t) : mm_core s (mm_setN t k v) := h.tr ⟨fun j hj => by rw [mm_n_N, if_neg (fun e => by subst e; rw [hk] at hj; cases hj)], rfl, fun _ _ => rfl, fun _ _ => rfl⟩
theorem mm_core.Nm {s t : mm_S} {f : Nat → Int64} (h : mm_core s t) : mm_core s (mm_setNm t f) := h.tr ⟨fun _ _ => rfl, rfl, fun _ _ => rfl, fun _ _ => rfl⟩
theorem mm_core.W {s t : mm_S} {v : Int64} (h : mm_core s t) : mm_core s (mm_setW t v) := h.tr ⟨fun _ _ => rfl, rfl, fun _ _ => rfl, fun _ _ => rfl⟩
/-- setters keep it -/
theorem mm_core.AA {s t : mm_S} {k : Nat} {f : Nat → Nat} (h : mm_core s t) : mm_core (mm_setA s k f) (mm_setA t k f) := ⟨h.1, h.2.1, fun j hj => by rw [mm_a_A, mm_a_A]; split; rfl; exact h.2.2.1 j hj, h.2.2.2⟩
theorem mm_core.NN {s t : mm_S} {k v : Nat} (h : mm_core s t) : mm_core (mm_setN s k v) (mm_setN t k v) := ⟨fun j hj => by rw [mm_n_N, mm_n_N]; split; rfl; exact h.1 j hj, h.2.1, h.2.2.1, h.2.2.2⟩
theorem mm_core.H {s t : mm_S} (h : mm_core s t) : mm_H s = mm_H t := by
  unfold mm_H mm_steps
  rw [h.1 41 rfl, h.1 42 rfl, h.2.2.1 32 rfl, h.2.2.1 33 rfl, h.2.2.1 34 rfl, h.2.2.1 35 rfl, h.2.2.1 36 rfl, h.2.2.1 14 rfl, h.2.2.1 15 rfl, h.2.2.1 16 rfl]
def mm_PoC (G : aw_G) (w : mm_Wd) (h : aw_H) (r : Option Value) (s2 : mm_S) : Option Value → aw_H → Prop := fun v h' => v = r ∧ ∃ s3, mm_core s2 s3 ∧ mm_R G w h' s3 ∧ mm_same w h h'
/-- A CONTRACT OF A CALL: in the state s it answers r; behind it the core is s2's -/
def mm_Op (y : MethodName) (cc : ByteArray) (nL : Nat) (ret : Option FieldType) (f : Nat) (args : List Value) (s : mm_S) (r : Option Value) (s2 : mm_S) : Prop := ∀ (G : aw_G) (w : mm_Wd) (h : aw_H), mm_W G w → mm_R G w h s → aw_Met G y cc nL ret f 0 0 (.ref w.1 :: args) h (mm_PoC G w h r s2)
theorem mm_Op.of {y : MethodName} {cc : ByteArray} {nL : Nat} {ret : Option FieldType} {f : Nat} {args : List Value} {s : mm_S} {r : Option Value} {s2 : mm_S} (hy : plainName y.cls = true) (hl : ∀ w : mm_Wd, (lg_sl (.ref w.1 :: args)).length ≤ nL) (k : ∀ (G : aw_G) (w : mm_Wd) (h : aw_H), mm_W G w → mm_R G w h s → AW G (aw_rm f 0 0) y cc nL ret (aw_N G (mm_PoC G w h r s2) 0 0) 0 0 h 0 (lv_args 0 (.ref w.1 :: args)) []) : mm_Op y cc nL ret f args s r s2 := fun G w h hW hR => aw_Met.of hy (hl w) (k G w h hW hR)
/-! the acts: all as it was ahead of each -/
def mm_a0 (s : mm_S) : Nat := if mm_n s 48 = 40 then 39 else mm_n s 48
def mm_actW (s : mm_S) : Nat → Nat := fun j => if 28 * mm_a0 s ≤ j ∧ j < 28 * mm_a0 s + 28 then mm_a s 45 (j - 28 * mm_a0 s) else if mm_n s 48 = 40 ∧ j < 1092 then mm_a s 47 (28 + j) else mm_a s 47 j
def mm_act (s : mm_S) : mm_S := mm_setN (mm_setN (mm_setA s 47 (mm_actW s)) 48 (mm_a0 s + 1)) 49 0
def mm_exch (s : mm_S) (i : Nat) : mm_S := mm_setA (mm_setA s 47 (fun j => if 28 * i ≤ j ∧ j < 28 * i + 28 then mm_a s 45 (j - 28 * i) else mm_a s 47 j)) 45 (fun j => if j < 28 then mm_a s 47 (28 * i + j) else mm_a s 45 j)
def sp_isT (H : sp_H) (t : Int32) : Prop := 0 ≤ t.toInt ∧ t.toInt < (sp_hn H : Int)
noncomputable def op_tenant (H : sp_H) (A : Nat → Nat) (t w : Int32) : Int32 := aw_if (sp_isT H t) (if w.toInt = 0 then nI (sp_lv H t.toNatClampNeg) else if w.toInt = 1 then nI (sp_sg8 H t.toNatClampNeg) else if w.toInt = 2 then nI (sp_hv H t.toNatClampNeg) else if w.toInt = 3 then nI (sp_ow H t.toNatClampNeg) else if w.toInt = 4 then nI (sp_fl H t.toNatClampNeg) else if w.toInt = 5 then nI (A t.toNatClampNeg) else if w.toInt = 6 then nI (A (8 + t.toNatClampNeg)) else if w.toInt = 7 then nI (A (16 + t.toNatClampNeg)) else if w.toInt = 8 then nI (sp_lack H A t.toNatClampNeg) else -1) (-1)
noncomputable def op_worth (H : sp_H) (A : Nat → Nat) (t a c nt w : Int32) : Int32 := aw_if (sp_can H A t a c nt ∧ 0 ≤ w.toInt ∧ w.toInt ≤ 1) (if w.toInt = 0 then nI (sp_cnt H A a.toNatClampNeg (sp_hvc H (c.toInt + 1).toNat) nt.toNatClampNeg) else nI (a.toNatClampNeg * sp_brc H (c.toInt + 1).toNat)) (-1)
def sp_seed (A : Nat → Nat) : Nat := (A 27 * 137 + 71) % 1000
def op_climbN (H : sp_H) (A : Nat → Nat) (t a c nt : Nat) : Nat := if sp_seed A % 100 < sp_fl H t then 0 else sp_cnt H A a (sp_hvc H c) nt
def op_climbA (H : sp_H) (A : Nat → Nat) (t a c nt : Nat) : Nat → Nat := sp_climb H (aw_u A 27 (sp_seed A)) t a c (op_climbN H A t a c nt)
noncomputable def op_climb (H : sp_H) (A : Nat → Nat) (t a c nt : Int32) : Int32 := aw_if (sp_can H A t a c nt) (nI (op_climbN H A t.toNatClampNeg a.toNatClampNeg (c.toInt + 1).toNat nt.toNatClampNeg)) (-1)
noncomputable def op_climbS (s : mm_S) (t a c nt : Int32) : mm_S := aw_if (sp_can (mm_H s) (mm_a s 45) t a c nt) (mm_setA (mm_act s) 45 (op_climbA (mm_H s) (mm_a s 45) t.toNatClampNeg a.toNatClampNeg (c.toInt + 1).toNat nt.toNatClampNeg)) s
def op_giveP (H : sp_H) (A : Nat → Nat) (t o n : Int32) : Prop := sp_isT H t ∧ sp_isT H o ∧ t ≠ o ∧ (1 ≤ n.toInt ∧ n.toInt ≤ (A (8 + t.toNatClampNeg) : Int)) ∧ A (8 + o.toNatClampNeg) + n.toNatClampNeg ≤ 9999
def op_giveA (A : Nat → Nat) (t o n : Nat) : Nat → Nat := aw_u (aw_u A (8 + t) (A (8 + t) - n)) (8 + o) (A (8 + o) + n)
noncomputable def op_give (H : sp_H) (A : Nat → Nat) (t o n : Int32) : Int32 := aw_if (op_giveP H A t o n) (nI (A (8 + o.toNatClampNeg) + n.toNatClampNeg)) (-1)
noncomputable def op_giveS (s : mm_S) (t o n : Int32) : mm_S := aw_if (op_giveP (mm_H s) (mm_a s 45) t o n) (mm_setA (mm_act s) 45 (op_giveA (mm_a s 45) t.toNatClampNeg o.toNatClampNeg n.toNatClampNeg)) s
def op_week (H : sp_H) (A : Nat → Nat) : Int32 := if A 26 = 999 then -1 else nI (sp_week H A 25)
def op_weekS (s : mm_S) : mm_S := if mm_a s 45 26 = 999 then s else mm_setA (mm_act s) 45 (sp_week (mm_H s) (mm_a s 45))
def op_undoS (s : mm_S) : mm_S := if mm_n s 48 = 0 then s else mm_exch (mm_setN (mm_setN s 48 (mm_n s 48 - 1)) 49 (mm_n s 49 + 1)) (mm_n s 48 - 1)
def op_redoS (s : mm_S) : mm_S := if mm_n s 49 = 0 then s else mm_setN (mm_setN (mm_exch s (mm_n s 48)) 48 (mm_n s 48 + 1)) 49 (mm_n s 49 - 1)
/-- how many storeys at most, with o carried -/
def sp_carr (H : sp_H) (A : Nat → Nat) (t o : Nat) : Nat := min (sp_hs H) (A t / sp_brc H (o + 1))
noncomputable def op_carries (H : sp_H) (A : Nat → Nat) (t o : Int32) : Int32 := aw_if (sp_isT H t ∧ sp_isT H o ∧ t ≠ o) (nI (sp_carr H A t.toNatClampNeg o.toNatClampNeg)) (-1)
/-- the fewest storeys up to n that count d; 0: none -/
def sp_few (c : Nat → Nat) (d : Nat) : Nat → Nat
  | 0 => 0
  | n + 1 => if sp_few c d n ≠ 0 then sp_few c d n else if d ≤ c (n + 1) then n + 1 else 0
/-- the first of n that has p, one more; 0: none -/
def sp_fst (p : Nat → Bool) : Nat → Nat
  | 0 => 0
  | n + 1 => if sp_fst p n ≠ 0 then sp_fst p n else if p n then n + 1 else 0
theorem sp_fst_no {p : Nat → Bool} {n : Nat} (h : ∀ k, k < n → p k = false) : sp_fst p n = 0 := by
  induction n with
  | zero => rfl
  | succ n ih =>
    unfold sp_fst
    rw [ih (fun k hk => h k (by omega)), h n (by omega)]
    rfl
theorem sp_fst_yes {p : Nat → Bool} {n k : Nat} (hk : k < n) (h : ∀ j, j < k → p j = false) (h2 : p k = true) : sp_fst p n = k + 1 := by
  induction n with
  | zero => omega
  | succ n ih =>
    unfold sp_fst
    by_cases e : k = n
    · subst e
      rw [sp_fst_no h, h2]
      rfl
    · rw [ih (by omega), if_pos (by omega)]
theorem sp_few_no {c : Nat → Nat} {d n : Nat} (h : ∀ k, 1 ≤ k → k ≤ n → c k < d) : sp_few c d n = 0 := by
  induction n with
  | zero => rfl
  | succ n ih =>
    unfold sp_few
    rw [ih (fun k h1 h2 => h k h1 (by omega)), if_neg (by omega), if_neg (by have := h (n + 1) (by omega) (by omega); omega)]
theorem sp_few_yes {c : Nat → Nat} {d n k : Nat} (h1 : 1 ≤ k) (hk : k ≤ n) (h : ∀ j, 1 ≤ j → j < k → c j < d) (h2 : d ≤ c k) : sp_few c d n = k := by
  induction n with
  | zero => omega
  | succ n ih =>
    unfold sp_few
    by_cases e : k = n + 1
    · subst e
      rw [sp_few_no (fun j g1 g2 => h j g1 (by omega)), if_neg (by omega), if_pos h2]
    · rw [ih (by omega), if_pos (by omega)]
theorem sp_can_nat {H : sp_H} {A : Nat → Nat} {t a c nt : Int32} (hn : sp_hn H ≤ 8) (h20 : sp_hs H ≤ 20) (h : sp_can H A t a c nt) : ∃ t' a' c' n' : Nat, t = nI t' ∧ a = nI a' ∧ c = sp_cv c' ∧ nt = nI n' ∧ t' < sp_hn H ∧ 1 ≤ a' ∧ a' ≤ sp_hs H ∧ n' ≤ 1 ∧ c' ≤ sp_hn H ∧ c' ≠ t' + 1 ∧ a' * sp_brc H c' ≤ A t' ∧ t.toNatClampNeg = t' ∧ a.toNatClampNeg = a' ∧ (c.toInt + 1).toNat = c' ∧ nt.toNatClampNeg = n' := by
  obtain ⟨g1, g2, g3, g4, g5, g6⟩ := h
  obtain ⟨t', ht, et, t1, t2⟩ := aw_ofN g1.1
  obtain ⟨a', ha, ea, a1, a2⟩ := aw_ofN (x := a) (by omega)
  obtain ⟨n', hn', en, n1, n2⟩ := aw_ofN (x := nt) g3.1
  refine ⟨t', a', (c.toInt + 1).toNat, n', et, ea, ?_, en, by omega, by omega, by omega, by omega, by omega, ?_, ?_, t2, a2, rfl, n2⟩
  · unfold sp_cv
    by_cases z : (c.toInt + 1).toNat = 0
    · rw [if_pos z]
      exact Int32.toInt_inj.mp (by rw [show (-1 : Int32).toInt = -1 from rfl]; omega)
    · rw [if_neg z, aw_eqi (by omega)]
      omega
  · intro z
    exact g5 (Int32.toInt_inj.mp (by omega))
  · rw [a2, t2] at g6
    exact g6
theorem sp_brc_le {H : sp_H} {c : Nat} (h : ∀ k, k < 8 → sp_hv H k ≤ 9) (hc : c ≤ 8) : 1 ≤ sp_brc H c ∧ sp_brc H c ≤ 4 := by
  unfold sp_brc
  split
  · omega
  · have := h (c - 1) (by omega)
    omega
theorem sp_cnt_le {H : sp_H} {A : Nat → Nat} {s c nt : Nat} : sp_cnt H A s c nt ≤ 999 := Nat.min_le_right _ _
theorem aw_let {α : Type} {P : Prop} {x a b : α} (h1 : P → x = a) (h0 : ¬ P → x = b) : x = aw_if P a b := by
  by_cases h : P
  · rw [aw_if1 h, h1 h]
  · rw [aw_if0 h, h0 h]
