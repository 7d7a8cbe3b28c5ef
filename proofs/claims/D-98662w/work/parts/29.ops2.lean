/-! what more calls answer -/
set_option maxRecDepth 100000
/-- k or none, for k from 1 on -/
def sp_cz (k : Nat) : Int32 := if k = 0 then -1 else nI k
/-- the first greatest, one more -/
def sp_arg (f : Nat → Nat) : Nat → Nat
  | 0 => 0
  | k + 1 => if sp_arg f k = 0 ∨ f (sp_arg f k - 1) < f k then k + 1 else sp_arg f k
def sp_or (f : Nat → Nat) : Nat → Nat
  | 0 => 0
  | k + 1 => sp_or f k ||| f k * 2 ^ k
def op_poorest (H : sp_H) (A : Nat → Nat) : Int32 := sp_cv (sp_arg (sp_lack H A) (sp_hn H))
def op_owing (H : sp_H) (A : Nat → Nat) : Int32 := nI (sp_or (fun t => aw_t (0 < sp_lack H A t)) (sp_hn H))
def sp_own (H : sp_H) (z : Int) (t : Nat) : Nat := ((sp_ow H t : Int) + z).toNat
noncomputable def op_law (H : sp_H) (A : Nat → Nat) (z : Int32) : Int32 := aw_if (-999 ≤ z.toInt ∧ z.toInt ≤ 999) (nI (sp_sum (fun t => aw_t (A (8 + t) < sp_own H z.toInt t + A (16 + t))) (sp_hn H))) (-1)
/-- the storeys that count most a storey; 0: none -/
def sp_str (c : Nat → Nat) : Nat → Nat
  | 0 => 0
  | k + 1 => if sp_str c k = 0 ∨ c (sp_str c k) * (k + 1) < c (k + 1) * sp_str c k then k + 1 else sp_str c k
noncomputable def op_stride (H : sp_H) (A : Nat → Nat) (t nt : Int32) : Int32 := aw_if (sp_isT H t ∧ 0 ≤ nt.toInt ∧ nt.toInt ≤ 1) (sp_cz (sp_str (fun s => sp_cnt H A s 0 nt.toNatClampNeg) (min (sp_hs H) (A t.toNatClampNeg)))) (-1)
noncomputable def op_live (H : sp_H) (a : Int32) : Int32 := aw_if (0 ≤ a.toInt ∧ a.toInt ≤ (sp_hs H : Int)) (nI (sp_or (fun t => aw_t (sp_lv H t = a.toNatClampNeg)) (sp_hn H))) (-1)
def sp_mon (H : sp_H) (hm : Nat → Nat) (t : Nat) : Nat := 30 * hm t + sp_ow H t
def sp_mn (f : Nat → Nat) : Nat → Nat
  | 0 => 1000000
  | k + 1 => if f k < sp_mn f k then f k else sp_mn f k
def sp_mx (f : Nat → Nat) : Nat → Nat
  | 0 => 0
  | k + 1 => if sp_mx f k < f k then f k else sp_mx f k
def sp_unev (H : sp_H) (hm : Nat → Nat) : Nat := sp_mx (sp_mon H hm) (sp_hn H) - sp_mn (sp_mon H hm) (sp_hn H)
noncomputable def op_month (H : sp_H) (t : Int32) : Int32 := aw_if (sp_isT H t) (nI (sp_mon H (sp_lv H) t.toNatClampNeg)) (-1)
def op_spread (H : sp_H) : Int32 := if sp_hn H = 0 then -1 else nI (sp_unev H (sp_lv H))
/-- one envies another, by where they live -/
def sp_env (H : sp_H) (hm : Nat → Nat) (a b : Nat) : Prop := hm b ≤ hm a ∧ sp_ow H b < sp_ow H a
def sp_envT (H : sp_H) (hm : Nat → Nat) (a b : Nat) : Nat := if hm b ≤ hm a ∧ sp_ow H b < sp_ow H a then 1 else 0
def sp_envs (H : sp_H) (hm : Nat → Nat) : Nat := sp_sum (fun a => sp_sum (sp_envT H hm a) (sp_hn H)) (sp_hn H)
noncomputable def op_envies (H : sp_H) (t : Int32) : Int32 := aw_if (sp_isT H t) (nI (sp_or (sp_envT H (sp_lv H) t.toNatClampNeg) (sp_hn H))) (-1)
def op_quarrel (H : sp_H) : Int32 := nI (sp_envs H (sp_lv H))
def sp_swap (f : Nat → Nat) (a b : Nat) : Nat → Nat := aw_u (aw_u f a (f b)) b (f a)
/-- two change homes: the best pair so far (8a+b, one more), its envies -/
def sp_cst (H : sp_H) (a b : Nat) (p : Nat × Nat) : Nat × Nat := if sp_envs H (sp_swap (sp_lv H) a b) < p.2 then (8 * a + b + 1, sp_envs H (sp_swap (sp_lv H) a b)) else p
def sp_ci (H : sp_H) (a : Nat) : Nat → Nat × Nat → Nat × Nat
  | 0, p => p
  | k + 1, p => sp_cst H a (a + 1 + k) (sp_ci H a k p)
def sp_co (H : sp_H) : Nat → Nat × Nat → Nat × Nat
  | 0, p => p
  | k + 1, p => sp_ci H k (sp_hn H - 1 - k) (sp_co H k p)
def sp_calm (H : sp_H) : Nat × Nat := sp_co H (sp_hn H) (0, sp_envs H (sp_lv H))
noncomputable def op_calm (H : sp_H) (q : Int32) : Int32 := aw_if (0 ≤ q.toInt ∧ q.toInt ≤ 2 ∧ (sp_calm H).1 ≠ 0) (if q.toInt = 0 then nI (((sp_calm H).1 - 1) / 8) else if q.toInt = 1 then nI (((sp_calm H).1 - 1) % 8) else nI (sp_calm H).2) (-1)
/-! weeks ahead -/
def sp_rst (H : sp_H) : Nat → Nat → (Nat → Nat) → Nat
  | 0, _, _ => 0
  | r + 1, n, A => if sp_week H A 25 = A 25 then n + 1 else sp_rst H r (n + 1) (sp_week H A)
def op_rest (H : sp_H) (A : Nat → Nat) : Int32 := sp_cv (sp_rst H 61 0 A)
noncomputable def op_will (H : sp_H) (A : Nat → Nat) (n : Int32) : Int32 := aw_if (0 ≤ n.toInt ∧ n.toInt ≤ 60) (nI (sp_weeks H n.toNatClampNeg A 25)) (-1)
def op_pull (H : sp_H) (A : Nat → Nat) : Int32 := sp_pull H A
def sp_lev (H : sp_H) (A : Nat → Nat) (m : Nat) : Bool := decide (A 25 < sp_lift H (aw_u A 24 (A 24 + m)))
def op_lever (H : sp_H) (A : Nat → Nat) : Int32 := sp_cv (sp_fst (sp_lev H A) 100)
def sp_hov (H : sp_H) (c : Nat) : Nat → (Nat → Nat) → (Nat → Nat)
  | 0, A => A
  | n + 1, A => sp_week H (aw_u (sp_hov H c n A) 24 c)
noncomputable def op_hover (H : sp_H) (A : Nat → Nat) (c : Int32) : Int32 := aw_if (0 ≤ c.toInt ∧ c.toInt ≤ 999) (nI (sp_hov H c.toNatClampNeg 60 A 25)) (-1)
noncomputable def op_ruin (H : sp_H) (A : Nat → Nat) (n : Int32) : Int32 := aw_if (0 ≤ n.toInt ∧ n.toInt ≤ 60) (nI (sp_sum (fun t => sp_weeks H n.toNatClampNeg A (16 + t)) (sp_hn H))) (-1)
/-- climbs of a storeys as long as something is lacking and breath is there -/
def sp_si (H : sp_H) (t a : Nat) : Nat → (Nat → Nat) → (Nat → Nat)
  | 0, A => A
  | f + 1, A => if 0 < sp_lack H A t ∧ a ≤ A t then sp_si H t a f (sp_climb H A t a 0 (sp_cnt H A a 0 0)) else A
def sp_so (H : sp_H) (t a : Nat) : Nat → Nat → (Nat → Nat) → Nat
  | 0, _, _ => 0
  | r + 1, n, A => if sp_lack H (sp_si H t a (A t + 1) A) t = 0 then n + 1 else sp_so H t a r (n + 1) (sp_week H (sp_si H t a (A t + 1) A))
noncomputable def op_settle (H : sp_H) (A : Nat → Nat) (t a : Int32) : Int32 := aw_if (sp_isT H t ∧ 1 ≤ a.toInt ∧ a.toInt ≤ (sp_hs H : Int)) (sp_cv (sp_so H t.toNatClampNeg a.toNatClampNeg 61 0 A)) (-1)
/-! gifts -/
def sp_gvr (H : sp_H) (A : Nat → Nat) : Nat := sp_fst (fun t => decide (sp_due H A t < A (8 + t))) (sp_hn H)
def sp_tkr (H : sp_H) (A : Nat → Nat) : Nat := sp_fst (fun t => decide (0 < sp_lack H A t ∧ A (8 + t) < 9999)) (sp_hn H)
def sp_gift (H : sp_H) (A : Nat → Nat) : Nat := min (A (8 + (sp_gvr H A - 1)) - sp_due H A (sp_gvr H A - 1)) (min (sp_lack H A (sp_tkr H A - 1)) (9999 - A (8 + (sp_tkr H A - 1))))
def sp_gA (H : sp_H) (A : Nat → Nat) : Nat → Nat := aw_u (aw_u A (8 + (sp_gvr H A - 1)) (A (8 + (sp_gvr H A - 1)) - sp_gift H A)) (8 + (sp_tkr H A - 1)) (A (8 + (sp_tkr H A - 1)) + sp_gift H A)
def sp_gfs (H : sp_H) : Nat → (Nat → Nat) → (Nat → Nat) × Nat × Nat
  | 0, A => (A, 0, 0)
  | f + 1, A => if sp_gvr H A ≠ 0 ∧ sp_tkr H A ≠ 0 then ((sp_gfs H f (sp_gA H A)).1, (sp_gfs H f (sp_gA H A)).2.1 + 1, (sp_gfs H f (sp_gA H A)).2.2 + sp_gift H A) else (A, 0, 0)
noncomputable def op_gifts (H : sp_H) (A : Nat → Nat) (q : Int32) : Int32 := aw_if (0 ≤ q.toInt ∧ q.toInt ≤ 2) (if q.toInt = 0 then nI (sp_gfs H (sp_sum (sp_lack H A) (sp_hn H)) A).2.1 else if q.toInt = 1 then nI (sp_gfs H (sp_sum (sp_lack H A) (sp_hn H)) A).2.2 else nI (sp_sum (sp_lack H (sp_gfs H (sp_sum (sp_lack H A) (sp_hn H)) A).1) (sp_hn H))) (-1)
/-! bounds -/
theorem sp_lift_le {H : sp_H} {A : Nat → Nat} : sp_lift H A ≤ sp_hs H := Nat.min_le_right _ _
/-- a week keeps a state within bounds -/
theorem sp_week_ok {H : sp_H} {A : Nat → Nat} {N : Nat} (hH : sp_okH H) (hA : sp_okA N A) : sp_okA (N + 1000) (sp_week H A) := by
  obtain ⟨⟨h1, h2⟩, h3, h4, -, -⟩ := hH
  obtain ⟨a1, a2, a3, a4, a5⟩ := hA
  refine ⟨fun t ht => ?_, ?_, ?_, ?_, ?_⟩
  · obtain ⟨b1, b2, b3⟩ := a1 t ht
    obtain ⟨c1, c2, c3, c4, c5⟩ := h4 t ht
    unfold sp_week sp_wk
    refine ⟨?_, ?_, ?_⟩
    · rw [if_pos ht]
      split <;> omega
    · rw [if_neg (by omega), if_pos (by omega)]
      split <;> omega
    · rw [if_neg (by omega), if_neg (by omega), if_pos (by omega), show 16 + t - 16 = t by omega]
      split <;> omega
  · show 0 ≤ _
    omega
  · show sp_lift H A ≤ 20
    have := @sp_lift_le H A
    omega
  · show A 26 + 1 ≤ _
    omega
  · show A 27 ≤ _
    omega
theorem sp_weeks_ok {H : sp_H} {A : Nat → Nat} {N n : Nat} (hH : sp_okH H) (hA : sp_okA N A) : sp_okA (N + 1000 * n) (sp_weeks H n A) := by
  induction n with
  | zero => exact hA
  | succ n ih => exact (sp_week_ok hH ih).mono (by omega)
theorem sp_climb_ok {H : sp_H} {A : Nat → Nat} {N t a c n : Nat} (ht : t < 8) (ha : a ≤ 20) (hA : sp_okA N A) : sp_okA (N + 20) (sp_climb H A t a c n) := by
  obtain ⟨a1, a2, a3, a4, a5⟩ := hA
  have e9 : ∀ j, sp_climb H A t a c n j = if j = t then A t - a * sp_brc H c else if j = 8 + t then min (A (8 + t) + n) 9999 else if j = 24 then A 24 + a else A j := fun _ => rfl
  refine ⟨fun k hk => ?_, ?_, ?_, ?_, ?_⟩
  · obtain ⟨b1, b2, b3⟩ := a1 k hk
    obtain ⟨d1, d2, d3⟩ := a1 t ht
    refine ⟨?_, ?_, ?_⟩
    · by_cases e : k = t
      · rw [e9, if_pos e]; omega
      · rw [e9, if_neg e, if_neg (by omega), if_neg (by omega)]; exact b1
    · by_cases e : k = t
      · rw [e9, if_neg (by omega), if_pos (by omega)]; omega
      · rw [e9, if_neg (by omega), if_neg (by omega), if_neg (by omega)]; exact b2
    · rw [e9, if_neg (by omega), if_neg (by omega), if_neg (by omega)]; omega
  · rw [e9, if_neg (by omega), if_neg (by omega), if_pos rfl]; omega
  · rw [e9, if_neg (by omega), if_neg (by omega), if_neg (by omega)]; omega
  · rw [e9, if_neg (by omega), if_neg (by omega), if_neg (by omega)]; omega
  · rw [e9, if_neg (by omega), if_neg (by omega), if_neg (by omega)]; omega
theorem sp_u24_ok {A : Nat → Nat} {N M c : Nat} (hA : sp_okA N A) (hM : N ≤ M) (hc : c ≤ M) : sp_okA M (aw_u A 24 c) := by
  obtain ⟨a1, a2, a3, a4, a5⟩ := hA
  refine ⟨fun t ht => ?_, ?_, ?_, ?_, ?_⟩
  · obtain ⟨b1, b2, b3⟩ := a1 t ht
    refine ⟨?_, ?_, ?_⟩
    · rw [aw_u_n (by omega)]; exact b1
    · rw [aw_u_n (by omega)]; exact b2
    · rw [aw_u_n (by omega)]; omega
  · rw [aw_u_s]; exact hc
  · rw [aw_u_n (by omega)]; exact a3
  · rw [aw_u_n (by omega)]; omega
  · rw [aw_u_n (by omega)]; exact a5
/-- what goWeek asks -/
theorem mm_wkh {s : mm_S} {N : Nat} {A : Nat → Nat} (hH : sp_okH (mm_H s)) (hA : sp_okA N A) (hN : N ≤ 100000000) : A 24 < 2147483648 ∧ A 26 + 1 < 2147483648 ∧ ∀ t, t < 8 → A (8 + t) < 2147483648 ∧ A (16 + t) + mm_a s 35 t < 2147483648 := by
  obtain ⟨a1, a2, a3, a4, a5⟩ := hA
  refine ⟨by omega, by omega, fun t ht => ?_⟩
  obtain ⟨b1, b2, b3⟩ := a1 t ht
  have : mm_a s 35 t ≤ 999 := (hH.2.2.1 t ht).2.2.2.1
  omega
theorem sp_due_lt {H : sp_H} {A : Nat → Nat} {N t : Nat} (hH : sp_okH H) (hA : sp_okA N A) (hN : N ≤ 100000000) (ht : t < 8) : sp_due H A t < 2147483648 ∧ A (8 + t) < 2147483648 ∧ sp_lack H A t < 2147483648 := by
  obtain ⟨b1, b2, b3⟩ := hA.1 t ht
  have := (hH.2.2.1 t ht).2.2.2.1
  unfold sp_lack sp_due
  omega
/-- a number that isn't negative, and another -/
theorem aw_addz {a : Nat} {z : Int32} (ha : a < 1000000) (h1 : -1000000 ≤ z.toInt) (h2 : z.toInt ≤ 1000000) : (nI a + z).toInt = (a : Int) + z.toInt := by
  rw [Int32.toInt_add, aw_ti (by omega), Int.bmod_def]
  split <;> omega
