set_option maxRecDepth 100000
/-! the search through rows of climbs finds what the codes find -/
theorem sp_dig1 {S i q r j : Nat} (hr : r < S) (hj : j < i) : sp_dig S (i + 1) (q * S + r) j = sp_dig S i q j := by
  unfold sp_dig
  rw [show i + 1 - 1 - j = (i - 1 - j) + 1 by omega, Nat.pow_succ', ← Nat.div_div_eq_div_mul, Nat.mul_comm q S, Nat.mul_add_div (by omega), Nat.div_eq_of_lt hr, Nat.add_zero]
theorem sp_dig2 {S i q r : Nat} (hr : r < S) : sp_dig S (i + 1) (q * S + r) i = 1 + r := by
  unfold sp_dig
  rw [show i + 1 - 1 - i = 0 by omega, Nat.pow_zero, Nat.div_one, Nat.mul_comm q S, Nat.mul_add_mod, Nat.mod_eq_of_lt hr]
theorem sp_dig3 {S i l x j : Nat} (hj : j < i) : sp_dig S (i + l) x j = sp_dig S i (x / S ^ l) j := by
  unfold sp_dig
  rw [show i + l - 1 - j = l + (i - 1 - j) by omega, Nat.pow_add, Nat.div_div_eq_div_mul]
theorem sp_sum_cc {f g : Nat → Nat} : ∀ n, (∀ j, j < n → f j = g j) → sp_sum f n = sp_sum g n := by
  intro n
  induction n with
  | zero => intro _; rfl
  | succ n ih => intro h; unfold sp_sum; rw [ih (fun j hj => h j (by omega)), h n (by omega)]
theorem sp_sum_mo {f : Nat → Nat} {i : Nat} : ∀ d, sp_sum f i ≤ sp_sum f (i + d) := by
  intro d
  induction d with
  | zero => exact Nat.le_refl _
  | succ d ih => exact Nat.le_trans ih (Nat.le_add_right _ _)
theorem sp_fw_skip {H : sp_H} {A : Nat → Nat} {t n a : Nat} : ∀ d, (∀ x, a ≤ x → x < a + d → sp_pok H A t n x = false) → sp_fw H A t n (a + d) = sp_fw H A t n a := by
  intro d
  induction d with
  | zero => intro _; rfl
  | succ d ih =>
    intro h
    rw [← Nat.add_assoc]
    show (if sp_pok H A t n (a + d) = true ∧ _ then _ else sp_fw H A t n (a + d)) = _
    rw [if_neg (fun q => by rw [h (a + d) (by omega) (by omega)] at q; cases q.1), ih (fun x h1 h2 => h x h1 (by omega))]
theorem sp_cnt_c {H : sp_H} {A B : Nat → Nat} {k c nt : Nat} (h4 : A 24 = B 24) (h5 : A 25 = B 25) (h6 : A 26 = B 26) : sp_cnt H A k c nt = sp_cnt H B k c nt := by
  have e : sp_ask k c nt A = sp_ask k c nt B := by
    funext j
    unfold sp_ask
    rw [h4, h5, h6]
  unfold sp_cnt
  rw [e]
theorem sp_rws_24 {H : sp_H} {A : Nat → Nat} {t : Nat} {R : Nat → Nat} (ht : t < 8) : ∀ k, sp_rws H A t R k 24 = A 24 + sp_sum R k := by
  intro k
  induction k with
  | zero => rfl
  | succ k ih =>
    show (if 24 = t then _ else if 24 = 8 + t then _ else if 24 = 24 then sp_rws H A t R k 24 + R k else _) = A 24 + (sp_sum R k + R k)
    rw [if_neg (by omega), if_neg (by omega), if_pos rfl, ih]
    omega
theorem sp_rws_o {H : sp_H} {A : Nat → Nat} {t j : Nat} {R : Nat → Nat} (h1 : j ≠ t) (h2 : j ≠ 8 + t) (h3 : j ≠ 24) : ∀ k, sp_rws H A t R k j = A j := by
  intro k
  induction k with
  | zero => rfl
  | succ k ih =>
    show (if j = t then _ else if j = 8 + t then _ else if j = 24 then _ else sp_rws H A t R k j) = A j
    rw [if_neg h1, if_neg h2, if_neg h3, ih]
theorem sp_rws_c {H : sp_H} {A : Nat → Nat} {t : Nat} {R R' : Nat → Nat} : ∀ k, (∀ j, j < k → R j = R' j) → sp_rws H A t R k = sp_rws H A t R' k := by
  intro k
  induction k with
  | zero => intro _; rfl
  | succ k ih => intro h; unfold sp_rws; rw [ih (fun j hj => h j (by omega)), h k (by omega)]
theorem sp_rws_p {H : sp_H} {A : Nat → Nat} {t k : Nat} {R : Nat → Nat} (ht : t < 8) : sp_rws H A t R (k + 1) (8 + t) = min 9999 (sp_rws H A t R k (8 + t) + sp_cnt H (aw_u A 24 (A 24 + sp_sum R k)) (R k) 0 0) := by
  have e : sp_cnt H (sp_rws H A t R k) (R k) 0 0 = sp_cnt H (aw_u A 24 (A 24 + sp_sum R k)) (R k) 0 0 := by
    refine sp_cnt_c ?_ ?_ ?_
    · rw [sp_rws_24 ht, aw_u_s]
    · rw [sp_rws_o (by omega) (by omega) (by omega), aw_u_n (by omega)]
    · rw [sp_rws_o (by omega) (by omega) (by omega), aw_u_n (by omega)]
  show (if 8 + t = t then _ else if 8 + t = 8 + t then min (sp_rws H A t R k (8 + t) + sp_cnt H (sp_rws H A t R k) (R k) 0 0) 9999 else _) = _
  rw [if_neg (by omega), if_pos rfl, e, Nat.min_comm]
/-- the codes below x are tried -/
def sp_fI (H : sp_H) (A : Nat → Nat) (t n : Nat) (s0 : mm_S) (x : Nat) (s : mm_S) : Prop :=
  mm_core (mm_setN (mm_setV s0 51 (mm_v s 51)) 52 (mm_n s 52)) s ∧ ((sp_fw H A t n x).1 = 0 → mm_n s 52 = 0 ∧ mm_v s 51 = mm_v s0 51) ∧ ((sp_fw H A t n x).1 ≠ 0 → mm_n s 52 = n ∧ mm_n s 70 = A 24 + (sp_fw H A t n x).2 ∧ mm_v s 51 = fun j => if j < n then nI (sp_dig (sp_hs H) n ((sp_fw H A t n x).1 - 1) j) else mm_v s0 51 j)
theorem sp_fI_A {H : sp_H} {A : Nat → Nat} {t n : Nat} {s0 : mm_S} {x : Nat} {s : mm_S} {B : Nat → Nat} (h : sp_fI H A t n s0 x s) : sp_fI H A t n s0 x (mm_setA s 72 B) := ⟨mm_core.A rfl h.1, h.2⟩
theorem sp_fI_c {s0 s : mm_S} {c n : Nat} {V : Nat → Int32} (h : mm_core (mm_setN (mm_setV s0 51 (mm_v s 51)) 52 (mm_n s 52)) s) : mm_core (mm_setN (mm_setV s0 51 V) 52 n) (mm_setV (mm_setN (mm_setN s 70 c) 52 n) 51 V) := by
  have h1 : mm_core (mm_setN (mm_setV s0 51 (mm_v s 51)) 52 (mm_n s 52)) (mm_setN s 70 c) := mm_core.N rfl h
  have h2 := mm_core.VV (k := 51) (f := V) (mm_core.NN (k := 52) (v := n) h1)
  refine mm_core.tr (t := mm_setV (mm_setN (mm_setN (mm_setV s0 51 (mm_v s 51)) 52 (mm_n s 52)) 52 n) 51 V) ⟨fun k hk => ?_, rfl, fun _ _ => rfl, fun k hk => ?_⟩ h2
  · show (if k = 52 then n else mm_n s0 k) = (if k = 52 then n else if k = 52 then _ else mm_n s0 k)
    split <;> rfl
  · show (if k = 51 then V else mm_v s0 k) = (if k = 51 then V else if k = 51 then _ else mm_v s0 k)
    split <;> rfl
theorem sp_gl_fw {H : sp_H} {A : Nat → Nat} {t n q c p due : Nat} {s0 s : mm_S} (ht : t < 8) (hn : 1 ≤ n) (hd : due = sp_due H A t) (hq : sp_sum (sp_dig (sp_hs H) n q) n ≤ A t) (hA : A t ≤ 40) (hc : c = A 24 + sp_sum (sp_dig (sp_hs H) n q) n) (hp : p = sp_rws H A t (sp_dig (sp_hs H) n q) n (8 + t)) (hT : ∀ j, j < n → mm_a s 72 j = sp_dig (sp_hs H) n q j) (hI : sp_fI H A t n s0 q s) : sp_fI H A t n s0 (q + 1) (sp_gl s n due c p) ∧ ∀ j, mm_a (sp_gl s n due c p) 72 j = mm_a s 72 j := by
  have el : sp_lack H (sp_rws H A t (sp_dig (sp_hs H) n q) n) t = due - p := by
    unfold sp_lack sp_due
    rw [sp_rws_o (j := 16 + t) (by omega) (by omega) (by omega), hp, hd]
    rfl
  have ep : sp_pok H A t n q = decide (due ≤ p) := by
    unfold sp_pok
    rw [el, decide_eq_true hq, Bool.true_and]
    by_cases z : due ≤ p
    · rw [decide_eq_true z, decide_eq_true (by omega)]
    · rw [decide_eq_false z, decide_eq_false (by omega)]
  have eS : sp_fw H A t n (q + 1) = if sp_pok H A t n q = true ∧ sp_sum (sp_dig (sp_hs H) n q) n < (sp_fw H A t n q).2 then (q + 1, sp_sum (sp_dig (sp_hs H) n q) n) else sp_fw H A t n q := rfl
  have fl := @sp_fw_le H A t n q
  obtain ⟨i1, i2, i3⟩ := hI
  have key : (p < due ∨ (mm_n s 52 = n ∧ mm_n s 70 ≤ c)) ↔ ¬ (sp_pok H A t n q = true ∧ sp_sum (sp_dig (sp_hs H) n q) n < (sp_fw H A t n q).2) := by
    rw [ep, decide_eq_true_eq]
    by_cases z : (sp_fw H A t n q).1 = 0
    · have := (i2 z).1
      have := fl.2.2.mp z
      omega
    · have := (i3 z).1
      have := (i3 z).2.1
      omega
  unfold sp_gl
  by_cases z : p < due ∨ (mm_n s 52 = n ∧ mm_n s 70 ≤ c)
  · rw [if_pos z]
    rw [if_neg (key.mp z)] at eS
    refine ⟨?_, fun j => rfl⟩
    unfold sp_fI
    rw [eS]
    exact ⟨i1, i2, i3⟩
  · rw [if_neg z]
    have z2 : sp_pok H A t n q = true ∧ sp_sum (sp_dig (sp_hs H) n q) n < (sp_fw H A t n q).2 := Classical.not_not.mp (fun y => z (key.mpr y))
    rw [if_pos z2] at eS
    refine ⟨?_, fun j => rfl⟩
    unfold sp_fI
    rw [eS]
    refine ⟨sp_fI_c i1, fun y => absurd y (Nat.succ_ne_zero q), fun _ => ⟨rfl, hc, ?_⟩⟩
    funext j
    show (if j < n then nI (mm_a s 72 j) else mm_v s 51 j) = (if j < n then nI (sp_dig (sp_hs H) n (q + 1 - 1) j) else mm_v s0 51 j)
    by_cases hj : j < n
    · rw [if_pos hj, if_pos hj, hT j hj, Nat.add_sub_cancel]
    · rw [if_neg hj, if_neg hj]
      by_cases y : (sp_fw H A t n q).1 = 0
      · rw [(i2 y).2]
      · rw [(i3 y).2.2]
        exact if_neg hj
theorem sp_gc_fw {H : sp_H} {A : Nat → Nat} {t n due : Nat} {s0 : mm_S} (hs : 1 ≤ sp_hs H) (ht : t < 8) (hn : 1 ≤ n) (hd : due = sp_due H A t) (hA : A t ≤ 40) : ∀ l i q c p b s, i + l = n → sp_sum (sp_dig (sp_hs H) i q) i ≤ A t → c = A 24 + sp_sum (sp_dig (sp_hs H) i q) i → b = A t - sp_sum (sp_dig (sp_hs H) i q) i → p = sp_rws H A t (sp_dig (sp_hs H) i q) i (8 + t) → (∀ j, j < i → mm_a s 72 j = sp_dig (sp_hs H) i q j) → sp_fI H A t n s0 (q * sp_hs H ^ l) s → sp_fI H A t n s0 ((q + 1) * sp_hs H ^ l) (sp_gc H A n due l c p b s) ∧ ∀ j, j < i → mm_a (sp_gc H A n due l c p b s) 72 j = sp_dig (sp_hs H) i q j := by
  intro l
  induction l with
  | zero =>
    intro i q c p b s hi hq hc hb hp hT hI
    obtain rfl : i = n := by omega
    rw [Nat.pow_zero, Nat.mul_one] at hI ⊢
    have g := sp_gl_fw (s0 := s0) (s := s) ht hn hd hq hA hc hp hT hI
    exact ⟨g.1, fun j hj => (g.2 j).trans (hT j hj)⟩
  | succ l ih =>
    intro i q c p b s hi hq hc hb hp hT hI
    obtain ⟨S, eS⟩ : ∃ S, S = sp_hs H := ⟨_, rfl⟩
    rw [← eS] at hs hq hc hb hp hT hI ih ⊢
    have it : ∀ m, m ≤ min S b → sp_fI H A t n s0 ((q * S + m) * S ^ l) (sp_it (fun k s => sp_gc H A n due l (c + k) (min 9999 (p + sp_cnt H (aw_u A 24 c) k 0 0)) (b - k) (mm_setA s 72 (aw_u (mm_a s 72) (n - (l + 1)) k))) m s) ∧ ∀ j, j < i → mm_a (sp_it (fun k s => sp_gc H A n due l (c + k) (min 9999 (p + sp_cnt H (aw_u A 24 c) k 0 0)) (b - k) (mm_setA s 72 (aw_u (mm_a s 72) (n - (l + 1)) k))) m s) 72 j = sp_dig S i q j := by
      intro m
      induction m with
      | zero =>
        intro _
        refine ⟨?_, hT⟩
        rw [Nat.add_zero, Nat.mul_assoc, ← Nat.pow_succ']
        exact hI
      | succ m ihm =>
        intro hm
        obtain ⟨g1, g2⟩ := ihm (by omega)
        generalize hs1 : sp_it (fun k s => sp_gc H A n due l (c + k) (min 9999 (p + sp_cnt H (aw_u A 24 c) k 0 0)) (b - k) (mm_setA s 72 (aw_u (mm_a s 72) (n - (l + 1)) k))) m s = s1 at g1 g2
        have e1 : sp_it (fun k s => sp_gc H A n due l (c + k) (min 9999 (p + sp_cnt H (aw_u A 24 c) k 0 0)) (b - k) (mm_setA s 72 (aw_u (mm_a s 72) (n - (l + 1)) k))) (m + 1) s = sp_gc H A n due l (c + (m + 1)) (min 9999 (p + sp_cnt H (aw_u A 24 c) (m + 1) 0 0)) (b - (m + 1)) (mm_setA s1 72 (aw_u (mm_a s1 72) (n - (l + 1)) (m + 1))) := by rw [← hs1]; rfl
        rw [e1]
        have hmS : m < S := by omega
        have d1 : ∀ j, j < i → sp_dig S (i + 1) (q * S + m) j = sp_dig S i q j := fun j hj => sp_dig1 hmS hj
        have d2 : sp_dig S (i + 1) (q * S + m) i = 1 + m := sp_dig2 hmS
        have es : sp_sum (sp_dig S (i + 1) (q * S + m)) i = sp_sum (sp_dig S i q) i := sp_sum_cc i d1
        have es1 : sp_sum (sp_dig S (i + 1) (q * S + m)) (i + 1) = sp_sum (sp_dig S i q) i + (1 + m) := by
          show sp_sum (sp_dig S (i + 1) (q * S + m)) i + sp_dig S (i + 1) (q * S + m) i = _
          rw [es, d2]
        have r := ih (i + 1) (q * S + m) (c + (m + 1)) (min 9999 (p + sp_cnt H (aw_u A 24 c) (m + 1) 0 0)) (b - (m + 1)) (mm_setA s1 72 (aw_u (mm_a s1 72) (n - (l + 1)) (m + 1))) (by omega) (by rw [es1]; omega) (by rw [es1]; omega) (by rw [es1]; omega) (by
          rw [sp_rws_p ht, sp_rws_c i d1, ← hp, es, ← hc, d2, Nat.add_comm 1 m]) (fun j hj => by
          show aw_u (mm_a s1 72) (n - (l + 1)) (m + 1) j = _
          by_cases e : j = i
          · subst e
            rw [show n - (l + 1) = j by omega, aw_u_s, d2, Nat.add_comm]
          · rw [aw_u_n (by omega), g2 j (by omega), d1 j (by omega)]) (sp_fI_A g1)
        refine ⟨r.1, fun j hj => ?_⟩
        exact (r.2 j (by omega)).trans (d1 j hj)
    obtain ⟨g1, g2⟩ := it _ (Nat.le_refl _)
    have eG : sp_gc H A n due (l + 1) c p b s = sp_it (fun k s => sp_gc H A n due l (c + k) (min 9999 (p + sp_cnt H (aw_u A 24 c) k 0 0)) (b - k) (mm_setA s 72 (aw_u (mm_a s 72) (n - (l + 1)) k))) (min S b) s := by rw [eS]; rfl
    rw [eG]
    refine ⟨?_, g2⟩
    have eQ : (q + 1) * S ^ (l + 1) = (q * S + S) * S ^ l := by rw [Nat.pow_succ', ← Nat.mul_assoc, Nat.add_mul, Nat.one_mul]
    rw [eQ]
    by_cases z : S ≤ b
    · rw [Nat.min_eq_left z] at g1
      rw [Nat.min_eq_left z]
      exact g1
    · have z1 : min S b = b := by omega
      rw [z1] at g1 ⊢
      have sk : sp_fw H A t n ((q * S + S) * S ^ l) = sp_fw H A t n ((q * S + b) * S ^ l) := by
        have e9 : (q * S + S) * S ^ l = (q * S + b) * S ^ l + (S - b) * S ^ l := by rw [← Nat.add_mul]; congr 1; omega
        rw [e9]
        refine sp_fw_skip _ (fun x x1 x2 => ?_)
        rw [← e9] at x2
        have p0 : 0 < S ^ l := Nat.pow_pos (by omega)
        have y1 : q * S + b ≤ x / S ^ l := (Nat.le_div_iff_mul_le p0).mpr x1
        have y2 : x / S ^ l < q * S + S := (Nat.div_lt_iff_lt_mul p0).mpr x2
        obtain ⟨r, er⟩ : ∃ r, x / S ^ l = q * S + r := ⟨x / S ^ l - q * S, by omega⟩
        have hr : r < S := by omega
        have a1 : sp_sum (sp_dig S n x) (i + 1) = sp_sum (sp_dig S i q) i + (1 + r) := by
          have a2 : ∀ j, j < i + 1 → sp_dig S n x j = sp_dig S (i + 1) (q * S + r) j := fun j hj => by
            rw [← hi, show i + (l + 1) = i + 1 + l by omega, sp_dig3 hj, er]
          rw [sp_sum_cc _ a2]
          show sp_sum (sp_dig S (i + 1) (q * S + r)) i + sp_dig S (i + 1) (q * S + r) i = _
          rw [sp_sum_cc i (fun j hj => sp_dig1 hr hj), sp_dig2 hr]
        have a3 := @sp_sum_mo (sp_dig S n x) (i + 1) l
        rw [show i + 1 + l = n by omega] at a3
        unfold sp_pok
        rw [← eS, decide_eq_false (show ¬ sp_sum (sp_dig S n x) n ≤ A t by omega), Bool.false_and]
      unfold sp_fI at g1 ⊢
      rw [sk]
      exact g1
