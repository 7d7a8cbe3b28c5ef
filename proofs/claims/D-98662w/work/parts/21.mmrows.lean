/-! rows over the model's world; truths as numbers -/
set_option maxRecDepth 100000
def aw_t (P : Prop) [Decidable P] : Nat := if P then 1 else 0
theorem aw_t1 {P : Prop} [Decidable P] (h : P) : aw_t P = 1 := if_pos h
theorem aw_t0 {P : Prop} [Decidable P] (h : ¬ P) : aw_t P = 0 := if_neg h
theorem aw_t_lt {P : Prop} [Decidable P] : aw_t P < 2 := by unfold aw_t; split <;> decide
theorem aw_t_0 {P : Prop} [Decidable P] : aw_t P = 0 ↔ ¬ P := by unfold aw_t; split <;> simp_all
theorem aw_t_c {P Q : Prop} [Decidable P] [Decidable Q] (h : P ↔ Q) : aw_t P = aw_t Q := by
  unfold aw_t
  by_cases q : Q
  · rw [if_pos q, if_pos (h.mpr q)]
  · rw [if_neg q, if_neg (fun z => q (h.mp z))]
theorem aw_nb {v : Nat} (h : v < 2) : narrow .boolean (.int (nI v)) = .int (nI v) := by
  rcases (show v = 0 ∨ v = 1 by omega) with rfl | rfl <;> rfl
section MMW
variable {G : aw_G} {R : Room} {y : MethodName} {cc : ByteArray} {nL : Nat} {ret : Option FieldType} {Qf : List Frame → Array Value → State → State → Prop} {kc ks : Nat} {h : aw_H} {pc : Nat} {ls : List (Nat × Value)} {st : List Value}
theorem aw_if_eqB {P : Prop} {dc : Decidable P} {off : Int} {tgt : Nat} (d : decode cc pc = .ok (.ifCond .eq off, 3)) (ht : (pc : Int) + off = (tgt : Int)) (kt : ¬ P → AW G R y cc nL ret Qf kc ks h tgt ls st) (kf : P → AW G R y cc nL ret Qf kc ks h (pc + 3) ls st) : AW G R y cc nL ret Qf kc ks h pc ls (.int (nI (@aw_t P dc)) :: st) := aw_if_eqN d ht (Nat.lt_trans aw_t_lt (by decide)) (fun q => kt (aw_t_0.mp q)) (fun q => kf (Decidable.of_not_not (fun z => q (aw_t_0.mpr z))))
theorem aw_if_neB {P : Prop} {dc : Decidable P} {off : Int} {tgt : Nat} (d : decode cc pc = .ok (.ifCond .ne off, 3)) (ht : (pc : Int) + off = (tgt : Int)) (kt : P → AW G R y cc nL ret Qf kc ks h tgt ls st) (kf : ¬ P → AW G R y cc nL ret Qf kc ks h (pc + 3) ls st) : AW G R y cc nL ret Qf kc ks h pc ls (.int (nI (@aw_t P dc)) :: st) := aw_if_neN d ht (Nat.lt_trans aw_t_lt (by decide)) (fun q => kt (Decidable.of_not_not (fun z => q (aw_t_0.mpr z)))) (fun q => kf (aw_t_0.mp q))
variable {w : mm_Wd} {h0 : aw_H} {s : mm_S}
theorem mm_putN {own nm : String} {index k v : Nat} (hW : mm_W G w) (hR : mm_R G w h s) (hs : mm_same w h0 h) (d : decode cc pc = .ok (.putfield index, 3)) (F : aw_Pl own index 5 k nm .int) (ho : own = y.cls) (hnm : nm = y.name) (e : (mm_F w s).set k (.int (nI v)) = mm_F w (mm_setN s k v)) (hl : k < 69) (kk : ∀ h', mm_R G w h' (mm_setN s k v) → mm_same w h0 h' → AW G R y cc nL ret Qf kc ks h' (pc + 3) ls st) : AW G R y cc nL ret Qf kc ks h pc ls (.int (nI v) :: .ref w.1 :: st) :=
  aw_put d F ho hnm hW.1 hR.1 hl rfl rfl (by rw [e]; exact kk _ (mm_R.obj hW hR rfl) hs.obj)
theorem mm_putZ {own nm : String} {index k v : Nat} (hW : mm_W G w) (hR : mm_R G w h s) (hs : mm_same w h0 h) (d : decode cc pc = .ok (.putfield index, 3)) (F : aw_Pl own index 5 k nm .boolean) (ho : own = y.cls) (hnm : nm = y.name) (e : (mm_F w s).set k (.int (nI v)) = mm_F w (mm_setN s k v)) (hl : k < 69) (hv : v < 2) (kk : ∀ h', mm_R G w h' (mm_setN s k v) → mm_same w h0 h' → AW G R y cc nL ret Qf kc ks h' (pc + 3) ls st) : AW G R y cc nL ret Qf kc ks h pc ls (.int (nI v) :: .ref w.1 :: st) :=
  aw_put d F ho hnm hW.1 hR.1 hl (aw_nb hv) (by rcases (show v = 0 ∨ v = 1 by omega) with rfl | rfl <;> rfl) (by rw [e]; exact kk _ (mm_R.obj hW hR rfl) hs.obj)
theorem mm_putFp {own nm : String} {index : Nat} {v : Int32} (hW : mm_W G w) (hR : mm_R G w h s) (hs : mm_same w h0 h) (d : decode cc pc = .ok (.putfield index, 3)) (F : aw_Pl own index 5 3 nm .int) (ho : own = y.cls) (hnm : nm = y.name) (kk : ∀ h', mm_R G w h' (mm_setFp s v) → mm_same w h0 h' → AW G R y cc nL ret Qf kc ks h' (pc + 3) ls st) : AW G R y cc nL ret Qf kc ks h pc ls (.int v :: .ref w.1 :: st) :=
  aw_put d F ho hnm hW.1 hR.1 (show 3 < 69 by decide) rfl rfl (by rw [mm_F_set3]; exact kk _ (mm_R.obj hW hR rfl) hs.obj)
theorem mm_putW {own nm : String} {index : Nat} {v : Int64} (hW : mm_W G w) (hR : mm_R G w h s) (hs : mm_same w h0 h) (d : decode cc pc = .ok (.putfield index, 3)) (F : aw_Pl own index 5 9 nm .long) (ho : own = y.cls) (hnm : nm = y.name) (kk : ∀ h', mm_R G w h' (mm_setW s v) → mm_same w h0 h' → AW G R y cc nL ret Qf kc ks h' (pc + 3) ls st) : AW G R y cc nL ret Qf kc ks h pc ls (.long v :: .ref w.1 :: st) :=
  aw_put d F ho hnm hW.1 hR.1 (show 9 < 69 by decide) rfl rfl (by rw [mm_F_set9]; exact kk _ (mm_R.obj hW hR rfl) hs.obj)
theorem aw_upd_nI {f : Nat → Nat} {i : Int32} {j v n : Nat} (hi : i.toNatClampNeg = j) : upd (fun j => nI (f j)) i.toNatClampNeg (nI v) = fun q => nI (aw_u f j v q) := by
  funext q
  rw [hi]
  unfold upd aw_u
  split <;> rfl
theorem mm_iast {k n j v : Nat} (hk : mm_il k = some n) (hW : mm_W G w) (hR : mm_R G w h s) (hs : mm_same w h0 h) (d : decode cc pc = .ok (.iastore, 1)) (hj : j < n) (hn : n < 2 ^ 31) (kk : ∀ h', mm_R G w h' (mm_setA s k (aw_u (mm_a s k) j v)) → mm_same w h0 h' → AW G R y cc nL ret Qf kc ks h' (pc + 1) ls st) : AW G R y cc nL ret Qf kc ks h pc ls (.int (nI v) :: .int (nI j) :: .ref (w.2 k) :: st) := by
  have ik : mm_isA k := Or.inl (by rw [hk]; rfl)
  refine aw_iast d (hW.2.1 k ik).1 (hR.2.1 k n hk) (vp_in_nI hj hn) ?_
  rw [aw_upd_nI (n := n) (nI_clamp (Nat.lt_trans hj hn))]
  exact kk _ (hR.setA hW hk) (hs.arr ik)
theorem mm_zast {k n j v : Nat} (hk : mm_zl k = some n) (hW : mm_W G w) (hR : mm_R G w h s) (hs : mm_same w h0 h) (d : decode cc pc = .ok (.bastore, 1)) (hj : j < n) (hn : n < 2 ^ 31) (hv : v < 2) (kk : ∀ h', mm_R G w h' (mm_setA s k (aw_u (mm_a s k) j v)) → mm_same w h0 h' → AW G R y cc nL ret Qf kc ks h' (pc + 1) ls st) : AW G R y cc nL ret Qf kc ks h pc ls (.int (nI v) :: .int (nI j) :: .ref (w.2 k) :: st) := by
  have ik : mm_isA k := Or.inr (Or.inl (by rw [hk]; rfl))
  refine aw_zast d (hW.2.1 k ik).1 (hR.2.2.1 k n hk) (vp_in_nI hj hn) ?_
  have e : vp_nar .boolean (nI v) = nI v := by rcases (show v = 0 ∨ v = 1 by omega) with rfl | rfl <;> rfl
  rw [e, aw_upd_nI (n := n) (nI_clamp (Nat.lt_trans hj hn))]
  exact kk _ (hR.setZ hW hk) (hs.arr ik)
theorem mm_vast {k n j : Nat} {v : Int32} (hk : mm_vl k = some n) (hW : mm_W G w) (hR : mm_R G w h s) (hs : mm_same w h0 h) (d : decode cc pc = .ok (.iastore, 1)) (hj : j < n) (hn : n < 2 ^ 31) (kk : ∀ h', mm_R G w h' (mm_setV s k (aw_u (mm_v s k) j v)) → mm_same w h0 h' → AW G R y cc nL ret Qf kc ks h' (pc + 1) ls st) : AW G R y cc nL ret Qf kc ks h pc ls (.int v :: .int (nI j) :: .ref (w.2 k) :: st) := by
  have ik : mm_isA k := Or.inr (Or.inr (Or.inl (by rw [hk]; rfl)))
  refine aw_iast d (hW.2.1 k ik).1 (hR.2.2.2.1 k n hk) (vp_in_nI hj hn) ?_
  have e : upd (fun j => mm_v s k j) (nI j).toNatClampNeg v = fun q => aw_u (mm_v s k) j v q := by
    rw [nI_clamp (Nat.lt_trans hj hn)]; rfl
  rw [e]
  exact kk _ (hR.setV hW hk) (hs.arr ik)
theorem mm_last {j : Nat} {v : Int64} (hW : mm_W G w) (hR : mm_R G w h s) (hs : mm_same w h0 h) (d : decode cc pc = .ok (.lastore, 1)) (hj : j < 8) (kk : ∀ h', mm_R G w h' (mm_setNm s (aw_u (mm_nm s) j v)) → mm_same w h0 h' → AW G R y cc nL ret Qf kc ks h' (pc + 1) ls st) : AW G R y cc nL ret Qf kc ks h pc ls (.long v :: .int (nI j) :: .ref (w.2 10) :: st) := by
  have ik : mm_isA 10 := Or.inr (Or.inr (Or.inr (Or.inr rfl)))
  refine aw_last d (hW.2.1 10 ik).1 hR.2.2.2.2.1 (vp_in_nI hj (by decide)) ?_
  have e : vp_updL (fun j => mm_nm s j) (nI j).toNatClampNeg v = fun q => aw_u (mm_nm s) j v q := by
    rw [nI_clamp (Nat.lt_trans hj (by decide))]; rfl
  rw [e]
  exact kk _ (hR.setNm hW) (hs.arr ik)
/-- A CONTRACT OVER THE MODEL: in the state s it answers r, and the state is s2 behind it -/
def mm_Met (y : MethodName) (cc : ByteArray) (nL : Nat) (ret : Option FieldType) (f : Nat) (args : List Value) (s : mm_S) (r : Option Value) (s2 : mm_S) : Prop := ∀ (G : aw_G) (w : mm_Wd) (h : aw_H), mm_W G w → mm_R G w h s → aw_Met G y cc nL ret f 0 0 (.ref w.1 :: args) h (fun v h' => v = r ∧ mm_R G w h' s2 ∧ mm_same w h h')
def mm_Po (G : aw_G) (w : mm_Wd) (h : aw_H) (r : Option Value) (s2 : mm_S) : Option Value → aw_H → Prop := fun v h' => v = r ∧ mm_R G w h' s2 ∧ mm_same w h h'
theorem mm_Met.of {f : Nat} {args : List Value} {s : mm_S} {r : Option Value} {s2 : mm_S} (hy : plainName y.cls = true) (hl : ∀ w : mm_Wd, (lg_sl (.ref w.1 :: args)).length ≤ nL) (k : ∀ (G : aw_G) (w : mm_Wd) (h : aw_H), mm_W G w → mm_R G w h s → AW G (aw_rm f 0 0) y cc nL ret (aw_N G (mm_Po G w h r s2) 0 0) 0 0 h 0 (lv_args 0 (.ref w.1 :: args)) []) : mm_Met y cc nL ret f args s r s2 := fun G w h hW hR => aw_Met.of hy (hl w) (k G w h hW hR)
theorem mm_call {own : String} {y2 : MethodName} {cc2 : ByteArray} {nL2 n index f2 : Nat} {ret2 : Option FieldType} {As rest : List Value} {r : Option Value} {s2 : mm_S} (d : decode cc pc = .ok (.invokevirtual index, 3)) (S : aw_SV own index y2 cc2 nL2 ret2 n 5) (ho : own = y.cls) (hW : mm_W G w) (hR9 : mm_R G w h s) (hs : mm_same w h0 h) (hM : mm_Met y2 cc2 nL2 ret2 f2 As s r s2) (hst : st = As.reverse ++ .ref w.1 :: rest) (hn : As.length = n) (hR : f2 + 1 ≤ R.frames ∧ 8 + (nL2 + 11) + 64 * f2 ≤ R.locals) (hc : (rest.map fun v => v.category).sum ≤ 8)
    (kk : ∀ h', mm_R G w h' s2 → mm_same w h0 h' → AW G R y cc nL ret Qf kc ks h' (pc + 3) ls (r.toList ++ rest)) : AW G R y cc nL ret Qf kc ks h pc ls st := aw_callV (kc := kc) (ks := ks) d S ho (hM G w h hW hR9) hR9.1 hst hn hR hc (fun v h' q => by obtain ⟨rfl, q2, q3⟩ := q; exact kk h' q2 (hs.tr q3))
end MMW
section MMX
variable {G : aw_G} {R : Room} {y : MethodName} {cc : ByteArray} {nL : Nat} {ret : Option FieldType} {Qf : List Frame → Array Value → State → State → Prop} {kc ks : Nat} {h : aw_H} {pc : Nat} {ls : List (Nat × Value)} {st : List Value}
theorem aw_lg0 {x z : Int64} : lg_cmp x z = 0 ↔ x = z := by
  unfold lg_cmp
  by_cases h1 : x > z
  · rw [if_pos h1]
    exact ⟨fun q => absurd q (by decide), fun q => by subst q; exact (Int64.lt_irrefl h1).elim⟩
  · rw [if_neg h1]
    by_cases h2 : x = z
    · simp [h2]
    · rw [if_neg h2]
      exact ⟨fun q => absurd q (by decide), fun q => absurd q h2⟩
theorem aw_if_eqL {x z : Int64} {off : Int} {tgt : Nat} (d : decode cc pc = .ok (.ifCond .eq off, 3)) (ht : (pc : Int) + off = (tgt : Int)) (kt : x = z → AW G R y cc nL ret Qf kc ks h tgt ls st) (kf : ¬ x = z → AW G R y cc nL ret Qf kc ks h (pc + 3) ls st) : AW G R y cc nL ret Qf kc ks h pc ls (.int (lg_cmp x z) :: st) := aw_if_eq d ht (fun q => kt (aw_lg0.mp q)) (fun q => kf (fun z => q (aw_lg0.mpr z)))
theorem aw_if_neL {x z : Int64} {off : Int} {tgt : Nat} (d : decode cc pc = .ok (.ifCond .ne off, 3)) (ht : (pc : Int) + off = (tgt : Int)) (kt : ¬ x = z → AW G R y cc nL ret Qf kc ks h tgt ls st) (kf : x = z → AW G R y cc nL ret Qf kc ks h (pc + 3) ls st) : AW G R y cc nL ret Qf kc ks h pc ls (.int (lg_cmp x z) :: st) := aw_if_ne d ht (fun q => kt (fun z => q (aw_lg0.mpr z))) (fun q => kf (aw_lg0.mp q))
/-- a stack entry or a local has another form -/
theorem AW_st {st' : List Value} (e : st = st') (k : AW G R y cc nL ret Qf kc ks h pc ls st') : AW G R y cc nL ret Qf kc ks h pc ls st := e ▸ k
theorem AW_ls {ls' : List (Nat × Value)} (e : ls = ls') (k : AW G R y cc nL ret Qf kc ks h pc ls' st) : AW G R y cc nL ret Qf kc ks h pc ls st := e ▸ k
theorem AW_dr {ls' r : List (Nat × Value)} (k : AW G R y cc nL ret Qf kc ks h pc ls' st) : AW G R y cc nL ret Qf kc ks h pc (ls' ++ r) st := by
  intro p e s m args below meth c H locs cells slots lsA X hR hS hlv h1 h2
  exact k p e s m args below meth c H locs cells slots lsA X hR hS ⟨hlv.1, hlv.2.1, fun q hq => hlv.2.2 q (List.mem_append_left _ hq)⟩ h1 h2
end MMX
