set_option maxRecDepth 100000
/-! the search through orders of homes finds the best, first one -/
def sp_agr (t : Nat) (f g : Nat → Nat) : Prop := ∀ j, j < t → g j = f j
/-- before all that begin as f does -/
def sp_bef (t : Nat) (f g : Nat → Nat) : Prop := ∃ p, p < t ∧ (∀ j, j < p → g j = f j) ∧ g p < f p
/-- the orders with P are tried -/
def sp_tI (H : sp_H) (s0 : mm_S) (P : (Nat → Nat) → Prop) (s : mm_S) : Prop :=
  mm_core (mm_setN (mm_setV s0 51 (mm_v s 51)) 52 (mm_n s 52)) s ∧ ((mm_n s 52 = 0 ∧ mm_v s 51 = mm_v s0 51 ∧ ∀ g, sp_pm (sp_hn H) (sp_lv H) g → ¬ P g) ∨ (mm_n s 52 = sp_hn H ∧ ∃ L, P L ∧ sp_pm (sp_hn H) (sp_lv H) L ∧ mm_n s 71 = sp_unev H L ∧ (mm_v s 51 = fun j => if j < sp_hn H then nI (L j) else mm_v s0 51 j) ∧ ∀ g, sp_pm (sp_hn H) (sp_lv H) g → P g → sp_unev H L ≤ sp_unev H g ∧ (sp_unev H g = sp_unev H L → sp_cd L (sp_hn H) ≤ sp_cd g (sp_hn H))))
theorem sp_tI_A {H : sp_H} {s0 s : mm_S} {P : (Nat → Nat) → Prop} {B : Nat → Nat} (h : sp_tI H s0 P s) : sp_tI H s0 P (mm_setA s 72 B) := ⟨mm_core.A rfl h.1, h.2⟩
theorem sp_tI_m {H : sp_H} {s0 s : mm_S} {P Q : (Nat → Nat) → Prop} (h : sp_tI H s0 P s) (h1 : ∀ L, P L → Q L) (h2 : ∀ g, sp_pm (sp_hn H) (sp_lv H) g → Q g → P g) : sp_tI H s0 Q s := by
  refine ⟨h.1, ?_⟩
  rcases h.2 with ⟨a1, a2, a3⟩ | ⟨a1, L, a2, a3, a4, a5, a6⟩
  · exact Or.inl ⟨a1, a2, fun g hg hq => a3 g hg (h2 g hg hq)⟩
  · exact Or.inr ⟨a1, L, h1 L a2, a3, a4, a5, fun g hg hq => a6 g hg (h2 g hg hq)⟩
theorem sp_lt_c {s0 s : mm_S} {c n : Nat} {V : Nat → Int32} (h : mm_core (mm_setN (mm_setV s0 51 (mm_v s 51)) 52 (mm_n s 52)) s) : mm_core (mm_setN (mm_setV s0 51 V) 52 n) (mm_setV (mm_setN (mm_setN s 71 c) 52 n) 51 V) := by
  have h1 : mm_core (mm_setN (mm_setV s0 51 (mm_v s 51)) 52 (mm_n s 52)) (mm_setN s 71 c) := mm_core.N rfl h
  have h2 := mm_core.VV (k := 51) (f := V) (mm_core.NN (k := 52) (v := n) h1)
  refine mm_core.tr (t := mm_setV (mm_setN (mm_setN (mm_setV s0 51 (mm_v s 51)) 52 (mm_n s 52)) 52 n) 51 V) ⟨fun k hk => ?_, rfl, fun _ _ => rfl, fun k hk => ?_⟩ h2
  · show (if k = 52 then n else mm_n s0 k) = (if k = 52 then n else if k = 52 then _ else mm_n s0 k)
    split <;> rfl
  · show (if k = 51 then V else mm_v s0 k) = (if k = 51 then V else if k = 51 then _ else mm_v s0 k)
    split <;> rfl
theorem sp_mn_mo {f : Nat → Nat} {t : Nat} : ∀ d, sp_mn f (t + d) ≤ sp_mn f t := by
  intro d
  induction d with
  | zero => exact Nat.le_refl _
  | succ d ih =>
    show (if f (t + d) < sp_mn f (t + d) then f (t + d) else sp_mn f (t + d)) ≤ _
    split <;> omega
theorem sp_mx_mo {f : Nat → Nat} {t : Nat} : ∀ d, sp_mx f t ≤ sp_mx f (t + d) := by
  intro d
  induction d with
  | zero => exact Nat.le_refl _
  | succ d ih =>
    show _ ≤ (if sp_mx f (t + d) < f (t + d) then f (t + d) else sp_mx f (t + d))
    split <;> omega
theorem sp_mn_cc {f g : Nat → Nat} : ∀ n, (∀ j, j < n → f j = g j) → sp_mn f n = sp_mn g n ∧ sp_mx f n = sp_mx g n := by
  intro n
  induction n with
  | zero => intro _; exact ⟨rfl, rfl⟩
  | succ n ih =>
    intro h
    have q := ih (fun j hj => h j (by omega))
    unfold sp_mn sp_mx
    rw [q.1, q.2, h n (by omega)]
    exact ⟨rfl, rfl⟩
/-- the least and the most of the first t -/
def sp_lh (H : sp_H) (f : Nat → Nat) (t lo hi : Nat) : Prop := 0 < t → lo = sp_mn (sp_mon H f) t ∧ hi = sp_mx (sp_mon H f) t
theorem sp_unev_ge {H : sp_H} {f g : Nat → Nat} {t lo hi : Nat} (ht : t ≤ sp_hn H) (h0 : 0 < t) (hl : sp_lh H f t lo hi) (ha : sp_agr t f g) : hi - lo ≤ sp_unev H g := by
  have q := sp_mn_cc (f := sp_mon H f) (g := sp_mon H g) t (fun j hj => by unfold sp_mon; rw [ha j hj])
  obtain ⟨d, hd⟩ : ∃ d, sp_hn H = t + d := ⟨sp_hn H - t, by omega⟩
  have m1 := @sp_mn_mo (sp_mon H g) t d
  have m2 := @sp_mx_mo (sp_mon H g) t d
  unfold sp_unev
  rw [hd, (hl h0).1, (hl h0).2, q.1, q.2]
  omega
/-- whose homes are taken: as many of each storey as in f -/
def sp_us (H : sp_H) (us t : Nat) (f : Nat → Nat) : Prop := (∀ v, sp_ct f v t = sp_sum (fun o => if us / 2 ^ o % 2 = 1 ∧ sp_lv H o = v then 1 else 0) (sp_hn H)) ∧ sp_sum (fun o => us / 2 ^ o % 2) (sp_hn H) = t
theorem sp_sum_le2 {f g : Nat → Nat} : ∀ n, (∀ j, j < n → f j ≤ g j) → sp_sum f n ≤ sp_sum g n ∧ (sp_sum f n = sp_sum g n → ∀ j, j < n → f j = g j) := by
  intro n
  induction n with
  | zero => intro _; exact ⟨Nat.le_refl _, fun _ j hj => absurd hj (Nat.not_lt_zero _)⟩
  | succ n ih =>
    intro h
    have q := ih (fun j hj => h j (by omega))
    have q2 := h n (by omega)
    unfold sp_sum
    refine ⟨by omega, fun e j hj => ?_⟩
    by_cases z : j = n
    · subst z; omega
    · exact q.2 (by omega) j (by omega)
theorem sp_sum_1 : ∀ n, sp_sum (fun _ => 1) n = n := by
  intro n
  induction n with
  | zero => rfl
  | succ n ih => unfold sp_sum; rw [ih]
/-- all homes are given: it is an order of them -/
theorem sp_us_all {H : sp_H} {us : Nat} {f : Nat → Nat} (h : sp_us H us (sp_hn H) f) : sp_pm (sp_hn H) (sp_lv H) f := by
  have e : ∀ j, j < sp_hn H → us / 2 ^ j % 2 = 1 := by
    have q := sp_sum_le2 (f := fun o => us / 2 ^ o % 2) (g := fun _ => 1) (sp_hn H) (fun j _ => by show us / 2 ^ j % 2 ≤ 1; omega)
    exact q.2 (by rw [h.2, sp_sum_1])
  intro v
  rw [h.1 v]
  unfold sp_ct
  refine sp_sum_cc _ (fun j hj => ?_)
  by_cases z : sp_lv H j = v
  · rw [if_pos z, if_pos ⟨e j hj, z⟩]
  · rw [if_neg z, if_neg (fun q => z q.2)]
/-- none is free: all of that storey are given -/
theorem sp_us_none {H : sp_H} {us t st : Nat} {f : Nat → Nat} (h : sp_us H us t f) (h0 : ∀ o, o < sp_hn H → ¬ (¬ us / 2 ^ o % 2 = 1 ∧ sp_lv H o = st)) : sp_ct f st t = sp_ct (sp_lv H) st (sp_hn H) := by
  rw [h.1 st]
  unfold sp_ct
  refine sp_sum_cc _ (fun j hj => ?_)
  by_cases z : sp_lv H j = st
  · have : us / 2 ^ j % 2 = 1 := Classical.byContradiction fun q => h0 j hj ⟨q, z⟩
    rw [if_pos z, if_pos ⟨this, z⟩]
  · rw [if_neg z, if_neg (fun q => z q.2)]
theorem sp_bit_or {us o j : Nat} : (us ||| 2 ^ o) / 2 ^ j % 2 = if j = o then 1 else us / 2 ^ j % 2 := by
  have e : ∀ x : Nat, x / 2 ^ j % 2 = (x.testBit j).toNat := fun x => by rw [Nat.toNat_testBit]
  rw [e, e, Nat.testBit_or, Nat.testBit_two_pow]
  by_cases z : j = o
  · rw [if_pos z, decide_eq_true z.symm, Bool.or_true]; rfl
  · rw [if_neg z, decide_eq_false (fun q => z q.symm), Bool.or_false]
theorem sp_sum_one {f g : Nat → Nat} {o : Nat} : ∀ n, o < n → (∀ j, j ≠ o → f j = g j) → f o = g o + 1 → sp_sum f n = sp_sum g n + 1 := by
  intro n
  induction n with
  | zero => intro h; exact absurd h (Nat.not_lt_zero _)
  | succ n ih =>
    intro ho h h1
    unfold sp_sum
    by_cases z : o = n
    · subst z
      rw [h1, sp_sum_cc o (fun j hj => h j (by omega))]
      omega
    · rw [ih (by omega) h h1, h n (fun q => z q.symm)]
      omega
/-- one more is given -/
theorem sp_us_s {H : sp_H} {us t o st : Nat} {f : Nat → Nat} (h : sp_us H us t f) (ho : o < sp_hn H) (hf : ¬ us / 2 ^ o % 2 = 1) (hst : sp_lv H o = st) : sp_us H (us ||| 2 ^ o) (t + 1) (aw_u f t st) := by
  have h0 : us / 2 ^ o % 2 = 0 := by omega
  refine ⟨fun v => ?_, ?_⟩
  · have e1 : sp_ct (aw_u f t st) v (t + 1) = sp_ct f v t + (if st = v then 1 else 0) := by
      unfold sp_ct
      show sp_sum (fun i => if aw_u f t st i = v then 1 else 0) t + (if aw_u f t st t = v then 1 else 0) = _
      rw [aw_u_s, sp_sum_cc t (fun j hj => by rw [aw_u_n (by omega)])]
    rw [e1, h.1 v]
    by_cases z : st = v
    · rw [if_pos z]
      refine (sp_sum_one (o := o) _ ho (fun j hj => ?_) ?_).symm
      · rw [sp_bit_or, if_neg hj]
      · rw [sp_bit_or, if_pos rfl, if_pos ⟨rfl, hst.trans z⟩, if_neg (fun q => hf q.1)]
    · rw [if_neg z, Nat.add_zero]
      refine sp_sum_cc _ (fun j hj => ?_)
      by_cases e : j = o
      · subst e
        rw [if_neg (fun q => z (hst.symm.trans q.2)), if_neg (fun q => z (hst.symm.trans q.2))]
      · rw [sp_bit_or, if_neg e]
  · rw [← h.2]
    refine sp_sum_one (o := o) _ ho (fun j hj => ?_) ?_
    · rw [sp_bit_or, if_neg hj]
    · rw [sp_bit_or, if_pos rfl, h0]
theorem sp_fst_or {p : Nat → Bool} : ∀ n, (sp_fst p n = 0 ∧ ∀ k, k < n → p k = false) ∨ ∃ k, k < n ∧ sp_fst p n = k + 1 ∧ p k = true := by
  intro n
  by_cases h : ∀ k, k < n → p k = false
  · exact Or.inl ⟨sp_fst_no h, h⟩
  · refine Or.inr ?_
    induction n with
    | zero => exact absurd (fun k hk => absurd hk (Nat.not_lt_zero _)) h
    | succ n ih =>
      by_cases z : ∀ k, k < n → p k = false
      · have e : p n = true := by
          cases e : p n with
          | true => rfl
          | false => exact absurd (fun k hk => by
              by_cases y : k = n
              · subst y; exact e
              · exact z k (by omega)) h
        exact ⟨n, Nat.lt_succ_self n, sp_fst_yes (Nat.lt_succ_self n) z e, e⟩
      · obtain ⟨k, k1, k2, k3⟩ := ih z
        refine ⟨k, by omega, ?_, k3⟩
        unfold sp_fst
        rw [k2, if_pos (Nat.succ_ne_zero k)]
theorem sp_pm_b {f g : Nat → Nat} {n B : Nat} (h : sp_pm n f g) (hf : ∀ i, i < n → f i ≤ B) : ∀ i, i < n → g i ≤ B := by
  intro i hi
  have h1 := sp_ct_in (f := g) (v := g i) (p := 0) (Nat.zero_le i) hi rfl
  rw [← h (g i)] at h1
  obtain ⟨j, _, j2, j3⟩ := sp_ct_ex (f := f) (v := g i) (p := 0) h1
  rw [← j3]
  exact hf j j2
/-- it can't be better: they needn't be tried -/
theorem sp_prn_law {H : sp_H} {s0 s : mm_S} {t lo hi : Nat} {f : Nat → Nat} (h20 : ∀ i, i < sp_hn H → sp_lv H i ≤ 20) (ht : t ≤ sp_hn H) (hl : sp_lh H f t lo hi) (hI : sp_tI H s0 (sp_bef t f) s) (hp : sp_prn s t lo hi) : sp_tI H s0 (fun g => sp_bef t f g ∨ sp_agr t f g) s := by
  refine ⟨hI.1, ?_⟩
  rcases hI.2 with ⟨a1, a2, a3⟩ | ⟨a1, L, a2, a3, a4, a5, a6⟩
  · have := hp.2.1; omega
  · refine Or.inr ⟨a1, L, Or.inl a2, a3, a4, a5, fun g hg hq => ?_⟩
    rcases hq with hq | hq
    · exact a6 g hg hq
    · have u1 := sp_unev_ge ht hp.1 hl hq
      have u2 := hp.2.2
      rw [a4] at u2
      refine ⟨by omega, fun _ => ?_⟩
      obtain ⟨p, p1, p2, p3⟩ := a2
      exact Nat.le_of_lt (sp_cd_lt (p := p) (by omega) (fun i hi => by rw [p2 i hi, hq i (by omega)]) (by rw [hq p p1]; exact p3) (sp_pm_20 a3 h20))
/-- an order is told -/
theorem sp_gtl_law {H : sp_H} {s0 s : mm_S} {us lo hi : Nat} {f : Nat → Nat} (h0 : 0 < sp_hn H) (hu : sp_us H us (sp_hn H) f) (hl : sp_lh H f (sp_hn H) lo hi) (hT : ∀ j, j < sp_hn H → mm_a s 72 j = f j) (hI : sp_tI H s0 (sp_bef (sp_hn H) f) s) (hp : ¬ sp_prn s (sp_hn H) lo hi) : sp_tI H s0 (fun g => sp_bef (sp_hn H) f g ∨ sp_agr (sp_hn H) f g) (sp_gtl s (sp_hn H) lo hi) := by
  have eU : hi - lo = sp_unev H f := by rw [(hl h0).1, (hl h0).2]; rfl
  refine ⟨sp_lt_c hI.1, Or.inr ⟨rfl, f, Or.inr (fun j _ => rfl), sp_us_all hu, eU, ?_, fun g hg hq => ?_⟩⟩
  · funext j
    show (if j < sp_hn H then nI (mm_a s 72 j) else mm_v s 51 j) = _
    by_cases hj : j < sp_hn H
    · rw [if_pos hj, if_pos hj, hT j hj]
    · rw [if_neg hj, if_neg hj]
      rcases hI.2 with ⟨a1, a2, a3⟩ | ⟨a1, L, a2, a3, a4, a5, a6⟩
      · rw [a2]
      · rw [a5]
        exact if_neg hj
  · rcases hq with hq | hq
    · rcases hI.2 with ⟨a1, a2, a3⟩ | ⟨a1, L, a2, a3, a4, a5, a6⟩
      · exact absurd hq (a3 g hg)
      · have q1 := (a6 g hg hq).1
        have q2 : ¬ mm_n s 71 ≤ hi - lo := fun z => hp ⟨h0, by omega, z⟩
        rw [a4, eU] at q2
        exact ⟨by omega, fun e => by omega⟩
    · rw [sp_unev_c (H := H) (f := g) (g := f) hq, sp_cd_c (f := g) (g := f) hq]
      exact ⟨Nat.le_refl _, fun _ => Nat.le_refl _⟩
theorem sp_bef_s {t st : Nat} {f g : Nat → Nat} : sp_bef (t + 1) (aw_u f t st) g ↔ sp_bef t f g ∨ (sp_agr t f g ∧ g t < st) := by
  constructor
  · rintro ⟨p, p1, p2, p3⟩
    by_cases z : p = t
    · subst z
      rw [aw_u_s] at p3
      exact Or.inr ⟨fun j hj => by rw [p2 j hj, aw_u_n (by omega)], p3⟩
    · rw [aw_u_n z] at p3
      exact Or.inl ⟨p, by omega, fun j hj => by rw [p2 j hj, aw_u_n (by omega)], p3⟩
  · rintro (⟨p, p1, p2, p3⟩ | ⟨a, b⟩)
    · exact ⟨p, by omega, fun j hj => by rw [aw_u_n (by omega)]; exact p2 j hj, by rw [aw_u_n (by omega)]; exact p3⟩
    · exact ⟨t, by omega, fun j hj => by rw [aw_u_n (by omega)]; exact a j hj, by rw [aw_u_s]; exact b⟩
theorem sp_agr_s {t st : Nat} {f g : Nat → Nat} : sp_agr (t + 1) (aw_u f t st) g ↔ sp_agr t f g ∧ g t = st := by
  constructor
  · intro h
    exact ⟨fun j hj => by rw [h j (by omega), aw_u_n (by omega)], by rw [h t (by omega), aw_u_s]⟩
  · rintro ⟨a, b⟩ j hj
    by_cases z : j = t
    · subst z; rw [aw_u_s, b]
    · rw [aw_u_n z]; exact a j (by omega)
theorem sp_lh_s {H : sp_H} {t st lo hi : Nat} {f : Nat → Nat} (hb : 30 * st + sp_ow H t < 1000000) (hl : sp_lh H f t lo hi) : sp_lh H (aw_u f t st) (t + 1) (if t = 0 then 30 * st + sp_ow H t else min lo (30 * st + sp_ow H t)) (if t = 0 then 30 * st + sp_ow H t else max hi (30 * st + sp_ow H t)) := by
  intro _
  have e : sp_mon H (aw_u f t st) t = 30 * st + sp_ow H t := by unfold sp_mon; rw [aw_u_s]
  have q := sp_mn_cc (f := sp_mon H (aw_u f t st)) (g := sp_mon H f) t (fun j hj => by unfold sp_mon; rw [aw_u_n (by omega)])
  unfold sp_mn sp_mx
  rw [e, q.1, q.2]
  by_cases z : t = 0
  · subst z
    rw [if_pos rfl, if_pos rfl]
    rw [show sp_mn (sp_mon H f) 0 = 1000000 from rfl, show sp_mx (sp_mon H f) 0 = 0 from rfl]
    constructor
    · rw [if_pos hb]
    · split <;> omega
  · rw [if_neg z, if_neg z, (hl (by omega)).1, (hl (by omega)).2]
    constructor
    · split <;> omega
    · split <;> omega
theorem sp_gt_law {H : sp_H} {s0 : mm_S} (h0 : 0 < sp_hn H) (h20 : ∀ i, i < sp_hn H → sp_lv H i ≤ 20) (hhs : ∀ i, i < sp_hn H → sp_lv H i ≤ sp_hs H) (hs20 : sp_hs H ≤ 20) (how : ∀ i, i < sp_hn H → sp_ow H i ≤ 999) : ∀ r t us lo hi f s, t + r = sp_hn H → sp_us H us t f → sp_lh H f t lo hi → (∀ j, j < t → mm_a s 72 j = f j) → sp_tI H s0 (sp_bef t f) s → sp_tI H s0 (fun g => sp_bef t f g ∨ sp_agr t f g) (sp_gt H r t us lo hi s) ∧ ∀ j, j < t → mm_a (sp_gt H r t us lo hi s) 72 j = f j := by
  intro r
  induction r with
  | zero =>
    intro t us lo hi f s ht hu hl hT hI
    obtain rfl : t = sp_hn H := by omega
    unfold sp_gt
    by_cases z : sp_prn s (sp_hn H) lo hi
    · rw [if_pos z]
      exact ⟨sp_prn_law h20 (Nat.le_refl _) hl hI z, hT⟩
    · rw [if_neg z]
      exact ⟨sp_gtl_law h0 hu hl hT hI z, hT⟩
  | succ r ih =>
    intro t us lo hi f s ht hu hl hT hI
    unfold sp_gt
    by_cases z : sp_prn s t lo hi
    · rw [if_pos z]
      exact ⟨sp_prn_law h20 (by omega) hl hI z, hT⟩
    · rw [if_neg z]
      have it : ∀ k, k ≤ sp_hs H + 1 → sp_tI H s0 (fun g => sp_bef t f g ∨ (sp_agr t f g ∧ g t < k)) (sp_it0 (fun st s => if sp_ho H us st = 0 then s else sp_gt H r (t + 1) (us ||| 2 ^ (sp_ho H us st - 1)) (if t = 0 then 30 * st + sp_ow H t else min lo (30 * st + sp_ow H t)) (if t = 0 then 30 * st + sp_ow H t else max hi (30 * st + sp_ow H t)) (mm_setA s 72 (aw_u (mm_a s 72) t st))) k s) ∧ ∀ j, j < t → mm_a (sp_it0 (fun st s => if sp_ho H us st = 0 then s else sp_gt H r (t + 1) (us ||| 2 ^ (sp_ho H us st - 1)) (if t = 0 then 30 * st + sp_ow H t else min lo (30 * st + sp_ow H t)) (if t = 0 then 30 * st + sp_ow H t else max hi (30 * st + sp_ow H t)) (mm_setA s 72 (aw_u (mm_a s 72) t st))) k s) 72 j = f j := by
        intro k
        induction k with
        | zero => intro _; exact ⟨sp_tI_m hI (fun L h => Or.inl h) (fun g _ hq => hq.elim id (fun q => absurd q.2 (Nat.not_lt_zero _))), hT⟩
        | succ k ihk =>
          intro hk
          obtain ⟨g1, g2⟩ := ihk (by omega)
          show sp_tI H s0 _ (if sp_ho H us k = 0 then _ else _) ∧ ∀ j, j < t → mm_a (if sp_ho H us k = 0 then _ else _) 72 j = f j
          generalize sp_it0 (fun st s => if sp_ho H us st = 0 then s else sp_gt H r (t + 1) (us ||| 2 ^ (sp_ho H us st - 1)) (if t = 0 then 30 * st + sp_ow H t else min lo (30 * st + sp_ow H t)) (if t = 0 then 30 * st + sp_ow H t else max hi (30 * st + sp_ow H t)) (mm_setA s 72 (aw_u (mm_a s 72) t st))) k s = s1 at g1 g2 ⊢
          rcases sp_fst_or (p := fun o => decide (¬ us / 2 ^ o % 2 = 1) && decide (sp_lv H o = k)) (sp_hn H) with ⟨o1, o2⟩ | ⟨o, o1, o2, o3⟩
          · have e0 : sp_ho H us k = 0 := o1
            rw [if_pos e0]
            refine ⟨sp_tI_m g1 (fun L h => h.elim Or.inl (fun q => Or.inr ⟨q.1, by omega⟩)) (fun g hg hq => hq.elim Or.inl (fun q => Or.inr ⟨q.1, ?_⟩)), g2⟩
            refine Classical.byContradiction fun y => ?_
            have y1 : g t = k := by have := q.2; omega
            have n1 := sp_us_none (st := k) hu (fun o ho hh => by
              have := o2 o ho
              rw [decide_eq_true hh.1, decide_eq_true hh.2] at this
              cases this)
            have c1 : sp_ct g k (t + 1) = sp_ct g k t + 1 := by
              show sp_ct g k t + (if g t = k then 1 else 0) = _
              rw [if_pos y1]
            have c2 : sp_ct g k t = sp_ct f k t := sp_ct_c q.1
            have c3 := sp_ct_mo (f := g) (v := k) (p := t + 1) (n := sp_hn H) (by omega)
            have c4 := hg k
            omega
          · have e0 : sp_ho H us k = o + 1 := o2
            rw [if_neg (by rw [e0]; exact Nat.succ_ne_zero o), e0, Nat.add_sub_cancel]
            rw [Bool.and_eq_true, decide_eq_true_eq, decide_eq_true_eq] at o3
            have ow := how t (by omega)
            have R := ih (t + 1) (us ||| 2 ^ o) (if t = 0 then 30 * k + sp_ow H t else min lo (30 * k + sp_ow H t)) (if t = 0 then 30 * k + sp_ow H t else max hi (30 * k + sp_ow H t)) (aw_u f t k) (mm_setA s1 72 (aw_u (mm_a s1 72) t k)) (by omega) (sp_us_s hu o1 o3.1 o3.2) (sp_lh_s (by omega) hl) (fun j hj => by
              show aw_u (mm_a s1 72) t k j = _
              by_cases y : j = t
              · subst y; rw [aw_u_s, aw_u_s]
              · rw [aw_u_n y, aw_u_n y, g2 j (by omega)]) (sp_tI_A (sp_tI_m g1 (fun L h => sp_bef_s.mpr h) (fun g _ hq => sp_bef_s.mp hq)))
            refine ⟨sp_tI_m R.1 (fun L h => ?_) (fun g _ hq => ?_), fun j hj => ?_⟩
            · rcases h with h | h
              · exact (sp_bef_s.mp h).elim Or.inl (fun q => Or.inr ⟨q.1, by omega⟩)
              · have := sp_agr_s.mp h
                exact Or.inr ⟨this.1, by omega⟩
            · rcases hq with h | h
              · exact Or.inl (sp_bef_s.mpr (Or.inl h))
              · by_cases y : g t = k
                · exact Or.inr (sp_agr_s.mpr ⟨h.1, y⟩)
                · exact Or.inl (sp_bef_s.mpr (Or.inr ⟨h.1, by omega⟩))
            · rw [R.2 j (by omega), aw_u_n (by omega)]
      obtain ⟨g1, g2⟩ := it _ (Nat.le_refl _)
      refine ⟨sp_tI_m g1 (fun L h => h.elim Or.inl (fun q => Or.inr q.1)) (fun g hg hq => hq.elim Or.inl (fun q => Or.inr ⟨q, ?_⟩)), g2⟩
      have := sp_pm_b hg hhs t (by omega)
      omega
