set_option maxRecDepth 100000
/-! the component: who does something for whom -/
theorem sp_dk_ge {cd : Nat → Bool} {w : Nat} {nx : Nat → Nat} {z : Nat} : ∀ k, ∀ b, b < k → cd b = true → z / 2 ^ b % 2 = 0 → nx (z ||| 2 ^ b) + w ≤ sp_dk cd w nx z k := by
  intro k
  induction k with
  | zero => intro b hb; exact absurd hb (Nat.not_lt_zero _)
  | succ k ih =>
    intro b hb hc hz
    unfold sp_dk
    by_cases e : b = k
    · subst e
      split
      · exact Nat.le_refl _
      · rename_i e2
        exact Nat.not_lt.mp fun q => e2 ⟨hc, hz, q⟩
    · have := ih b (by omega) hc hz
      split
      · omega
      · exact this
theorem sp_dk_le {cd : Nat → Bool} {w N : Nat} {nx : Nat → Nat} {z : Nat} (h : ∀ z, nx z ≤ N) : ∀ k, sp_dk cd w nx z k ≤ N + w := by
  intro k
  induction k with
  | zero => exact Nat.le_trans (h z) (Nat.le_add_right _ _)
  | succ k ih =>
    unfold sp_dk
    split
    · exact Nat.add_le_add_right (h _) _
    · exact ih
theorem sp_dv_le {n : Nat} {cd : Nat → Nat → Bool} {w : Nat → Nat} (hw : ∀ t, w t ≤ 1000) : ∀ r z, sp_dv n cd w r z ≤ 1000 * r := by
  intro r
  induction r with
  | zero => intro z; exact Nat.le_refl _
  | succ r ih =>
    intro z
    have a1 := @sp_dk_le (cd (n - (r + 1))) (w (n - (r + 1))) (1000 * r) (sp_dv n cd w r) z ih n
    have a2 := hw (n - (r + 1))
    show sp_dk _ _ _ _ _ ≤ _
    omega
theorem sp_dk_x {cd : Nat → Bool} {w m : Nat} {nx : Nat → Nat} {z : Nat} (hm : 0 < m) : ∀ k, sp_dk cd (m * w) (fun z => m * nx z) z k = m * sp_dk cd w nx z k := by
  intro k
  induction k with
  | zero => rfl
  | succ k ih =>
    unfold sp_dk
    rw [ih, ← Nat.mul_add]
    by_cases c : cd k = true ∧ z / 2 ^ k % 2 = 0 ∧ sp_dk cd w nx z k < nx (z ||| 2 ^ k) + w
    · rw [if_pos c, if_pos ⟨c.1, c.2.1, Nat.mul_lt_mul_of_pos_left c.2.2 hm⟩]
    · rw [if_neg c, if_neg (fun q => c ⟨q.1, q.2.1, Nat.lt_of_mul_lt_mul_left q.2.2⟩)]
theorem sp_dv_x {n m : Nat} {cd : Nat → Nat → Bool} {w : Nat → Nat} (hm : 0 < m) : ∀ r z, sp_dv n cd (fun t => m * w t) r z = m * sp_dv n cd w r z := by
  intro r
  induction r with
  | zero => intro z; rfl
  | succ r ih =>
    intro z
    show sp_dk _ _ _ _ _ = _
    rw [show sp_dv n cd (fun t => m * w t) r = fun z => m * sp_dv n cd w r z from funext ih, sp_dk_x hm]
    rfl
theorem sp_pf_x {n m : Nat} {cd : Nat → Nat → Bool} {w : Nat → Nat} (hm : 0 < m) (t z : Nat) : sp_pf n cd (fun t => m * w t) t z = sp_pf n cd w t z := by
  unfold sp_pf
  refine sp_fst_c n (fun b hb => ?_)
  rw [sp_dv_x hm, sp_dv_x hm, ← Nat.mul_add]
  congr 1
  by_cases e : sp_dv n cd w (n - (t + 1)) (z ||| 2 ^ b) + w t = sp_dv n cd w (n - t) z
  · rw [decide_eq_true e, decide_eq_true (by rw [e])]
  · rw [decide_eq_false e, decide_eq_false (fun q => e (Nat.eq_of_mul_eq_mul_left hm q))]
theorem sp_pz_x {n m : Nat} {cd : Nat → Nat → Bool} {w : Nat → Nat} (hm : 0 < m) : ∀ t, sp_pz n cd (fun t => m * w t) t = sp_pz n cd w t := by
  intro t
  induction t with
  | zero => rfl
  | succ t ih =>
    unfold sp_pz
    rw [ih, sp_pf_x hm]
theorem sp_pl_x {n m : Nat} {cd : Nat → Nat → Bool} {w : Nat → Nat} (hm : 0 < m) (t : Nat) : sp_pl n cd (fun t => m * w t) t = sp_pl n cd w t := by
  unfold sp_pl
  rw [sp_pz_x hm, sp_pf_x hm]
/-- the table: rows from T on are full, row T - 1 has x -/
def sp_cM (n : Nat) (V : Nat → Nat → Nat) (g : Nat → Nat) (T x : Nat) : Nat → Nat := fun j => if j % 256 < 2 ^ n ∧ j / 256 ≤ n ∧ (T ≤ j / 256 ∨ T = j / 256 + 1 ∧ j % 256 < x) then V (n - j / 256) (j % 256) else g j
theorem sp_cM_u {n t x v : Nat} {V : Nat → Nat → Nat} {g : Nat → Nat} (hn : n ≤ 8) (ht : t ≤ n) (hx : x < 2 ^ n) (hv : v = V (n - t) x) : aw_u (sp_cM n V g (t + 1) x) (256 * t + x) v = sp_cM n V g (t + 1) (x + 1) := by
  have p8 : 2 ^ n ≤ 2 ^ 8 := Nat.pow_le_pow_right (by decide) hn
  funext j
  unfold aw_u sp_cM
  by_cases e : j = 256 * t + x
  · have e1 : j / 256 = t := by omega
    have e2 : j % 256 = x := by omega
    rw [if_pos e, e1, e2, if_pos ⟨hx, ht, by omega⟩, hv]
  · rw [if_neg e]
    by_cases c : j % 256 < 2 ^ n ∧ j / 256 ≤ n ∧ (t + 1 ≤ j / 256 ∨ t + 1 = j / 256 + 1 ∧ j % 256 < x)
    · rw [if_pos c, if_pos ⟨c.1, c.2.1, by omega⟩]
    · rw [if_neg c, if_neg (by omega)]
theorem sp_cM_r {n t : Nat} {V : Nat → Nat → Nat} {g : Nat → Nat} : sp_cM n V g (t + 1) (2 ^ n) = sp_cM n V g t 0 := by
  funext j
  unfold sp_cM
  by_cases c : j % 256 < 2 ^ n ∧ j / 256 ≤ n ∧ (t ≤ j / 256 ∨ t = j / 256 + 1 ∧ j % 256 < 0)
  · rw [if_pos c, if_pos (by omega)]
  · rw [if_neg c, if_neg (by omega)]
theorem sp_cM_0 {n : Nat} {V : Nat → Nat → Nat} {g : Nat → Nat} : sp_cM n V g (n + 1) 0 = g := by
  funext j
  unfold sp_cM
  rw [if_neg (by omega)]
theorem sp_cM_at {n T x t z : Nat} {V : Nat → Nat → Nat} {g : Nat → Nat} (hn : n ≤ 8) (ht : t ≤ n) (hT : T ≤ t) (hz : z < 2 ^ n) : sp_cM n V g T x (256 * t + z) = V (n - t) z := by
  have p8 : 2 ^ n ≤ 2 ^ 8 := Nat.pow_le_pow_right (by decide) hn
  unfold sp_cM
  have e1 : (256 * t + z) / 256 = t := by omega
  have e2 : (256 * t + z) % 256 = z := by omega
  rw [e1, e2, if_pos ⟨hz, ht, Or.inl hT⟩]
theorem sp_ix {t x : Nat} (hx : x < 256) : t * 2 ^ 8 ||| x = 256 * t + x := by
  rw [Nat.mul_comm, ← Nat.two_pow_add_eq_or_of_lt (i := 8) hx]
theorem sp_orn {x k n : Nat} (hx : x < 2 ^ n) (hk : k < n) : x ||| 2 ^ k < 2 ^ n := Nat.or_lt_two_pow hx (Nat.pow_lt_pow_right (by decide) hk)
set_option maxHeartbeats 4000000 in
theorem xo_cf {s : mm_S} {H : sp_H} {u : Nat} {t z : Nat} (ht : t ≤ 8) (hz : z < 256) : xx_Met yX0_caredFrom cX0_caredFrom 3 (some .int) 0 0 0 (fun w => [.ref (w.1 0), .int (nI (t)), .int (nI (z))]) s H u (some (.int (nI (mm_a s 73 (256 * t + z))))) (s) := by
  refine xx_Met.of (by decide +kernel) (fun _ => Nat.le_of_ble_eq_true rfl) (fun G w h0 hW hX hH => ?_)
  have hX0 := hX
  have hs : xx_same w h0 h0 := xx_same.rf
  obtain ⟨tl, te, cap, m9, f9, tn, nm9, c9, mo9, D9, hq⟩ := hH
  show AW G (aw_rm 0 0 0) yX0_caredFrom cX0_caredFrom 3 (some .int) (aw_N G (xx_Po G w h0 (some (.int (nI (mm_a s 73 (256 * t + z))))) (s)) 0 0) 0 0 h0 0 [(0, .ref (w.1 0)), (1, .int (nI (t))), (2, .int (nI (z)))] []
  have e9 : t * 2 ^ 8 ||| z = 256 * t + z := sp_ix hz
  refine aw_aload_n dX0_caredFrom_0 rfl ?_
  refine aw_get dX0_caredFrom_1 fX0_67 rfl (hX.1 0 (by decide)) (by rfl) ?_
  refine aw_iload_n dX0_caredFrom_4 rfl ?_
  refine aw_bipush (v := nI 8) dX0_caredFrom_5 rfl ?_
  refine aw_ishlN dX0_caredFrom_7 (by omega) (by omega) ?_
  refine aw_iload_n dX0_caredFrom_8 rfl ?_
  refine aw_iorN dX0_caredFrom_9 ?_
  rw [e9]
  refine xx_ialdA (c := 13) dX0_caredFrom_10 hX rfl (by omega) ?_
  refine aw_ireturn dX0_caredFrom_11 rfl ?_
  exact ⟨rfl, hX, hs⟩
set_option maxHeartbeats 4000000 in
theorem xo_carE {s : mm_S} {H : sp_H} {u : Nat} {t : Nat} (hOK : sp_okH H) (ht : t < sp_hn H) : xx_Met yX0_carries cX0_carries 3 (some .int) 6 0 0 (fun w => [.ref (w.1 0), .int (nI (t)), .int (nI (t))]) s H u (some (.int ((-1)))) (s) := by
  refine xx_Met.of (by decide +kernel) (fun _ => Nat.le_of_ble_eq_true rfl) (fun G w h0 hW hX hH => ?_)
  have hX0 := hX
  have hs : xx_same w h0 h0 := xx_same.rf
  obtain ⟨tl, te, cap, m9, f9, tn, nm9, c9, mo9, D9, hq⟩ := hH
  show AW G (aw_rm 6 0 0) yX0_carries cX0_carries 3 (some .int) (aw_N G (xx_Po G w h0 (some (.int ((-1)))) (s)) 0 0) 0 0 h0 0 [(0, .ref (w.1 0)), (1, .int (nI (t))), (2, .int (nI (t)))] []
  have hs1 : 1 ≤ sp_hs H := hOK.1.1; have hs20 : sp_hs H ≤ 20 := hOK.1.2; have hn : sp_hn H ≤ 8 := hOK.2.1; have hlv : ∀ t, t < 8 → sp_lv H t ≤ 20 := fun t ht => (hOK.2.2.1 t ht).1; have hsg : ∀ t, t < 8 → sp_sg8 H t ≤ 40 := fun t ht => (hOK.2.2.1 t ht).2.1; have hhv : ∀ t, t < 8 → sp_hv H t ≤ 9 := fun t ht => (hOK.2.2.1 t ht).2.2.1; have how : ∀ t, t < 8 → sp_ow H t ≤ 999 := fun t ht => (hOK.2.2.1 t ht).2.2.2.1; have hfl : ∀ t, t < 8 → sp_fl H t ≤ 100 := fun t ht => (hOK.2.2.1 t ht).2.2.2.2
  have T1 : 0 ≤ (nI t).toInt ∧ (nI t).toInt < (sp_hn H : Int) := by rw [aw_ti (by omega)]; omega
  refine aw_aload_n dX0_carries_0 rfl ?_
  refine aw_iload_n dX0_carries_1 rfl ?_
  refine xx_call0 dX0_carries_2 sX0_188 rfl hW hX (hq.mv hs hX0).xh hs (xo_isT hn) rfl (hX.1 0 (by decide)) rfl rfl ⟨Nat.le_of_ble_eq_true rfl, Nat.le_of_ble_eq_true rfl⟩ (by exact Nat.le_of_ble_eq_true rfl) (fun h hX hs => ?_)
  refine aw_if_eqB (tgt := 21) dX0_carries_5 (by decide) (fun c_5 => by exfalso; exact c_5 T1) (fun c_5 => ?_)
  refine aw_aload_n dX0_carries_8 rfl ?_
  refine aw_iload_n dX0_carries_9 rfl ?_
  refine xx_call0 dX0_carries_10 sX0_188 rfl hW hX (hq.mv hs hX0).xh hs (xo_isT hn) rfl (hX.1 0 (by decide)) rfl rfl ⟨Nat.le_of_ble_eq_true rfl, Nat.le_of_ble_eq_true rfl⟩ (by exact Nat.le_of_ble_eq_true rfl) (fun h hX hs => ?_)
  refine aw_if_eqB (tgt := 21) dX0_carries_13 (by decide) (fun c_13 => by exfalso; exact c_13 T1) (fun c_13 => ?_)
  refine aw_iload_n dX0_carries_16 rfl ?_
  refine aw_iload_n dX0_carries_17 rfl ?_
  refine aw_icmp_neN (tgt := 23) dX0_carries_18 (by decide) (by omega) (by omega) (fun c_18 => by exfalso; omega) (fun c_18 => ?_)
  refine aw_iconst (v := -1) dX0_carries_21 rfl ?_
  refine aw_ireturn dX0_carries_22 rfl ?_
  exact ⟨rfl, hX, hs⟩
set_option maxHeartbeats 4000000 in
theorem xo_cc {s : mm_S} {H : sp_H} {u : Nat} {b t : Nat} {N : Nat} (hOK : sp_okH H) (hA : sp_okA N (mm_a s 45)) (hb : b < sp_hn H) (ht : t < sp_hn H) : xx_Met yX0_canCare cX0_canCare 3 (some .boolean) 7 0 0 (fun w => [.ref (w.1 0), .int (nI (b)), .int (nI (t))]) s H u (some (.int (nI (aw_t (sp_cdC H (mm_a s 45) t b = true))))) (s) := by
  refine xx_Met.of (by decide +kernel) (fun _ => Nat.le_of_ble_eq_true rfl) (fun G w h0 hW hX hH => ?_)
  have hX0 := hX
  have hs : xx_same w h0 h0 := xx_same.rf
  obtain ⟨tl, te, cap, m9, f9, tn, nm9, c9, mo9, D9, hq⟩ := hH
  show AW G (aw_rm 7 0 0) yX0_canCare cX0_canCare 3 (some .boolean) (aw_N G (xx_Po G w h0 (some (.int (nI (aw_t (sp_cdC H (mm_a s 45) t b = true))))) (s)) 0 0) 0 0 h0 0 [(0, .ref (w.1 0)), (1, .int (nI (b))), (2, .int (nI (t)))] []
  have hs1 : 1 ≤ sp_hs H := hOK.1.1; have hs20 : sp_hs H ≤ 20 := hOK.1.2; have hn : sp_hn H ≤ 8 := hOK.2.1; have hlv : ∀ t, t < 8 → sp_lv H t ≤ 20 := fun t ht => (hOK.2.2.1 t ht).1; have hsg : ∀ t, t < 8 → sp_sg8 H t ≤ 40 := fun t ht => (hOK.2.2.1 t ht).2.1; have hhv : ∀ t, t < 8 → sp_hv H t ≤ 9 := fun t ht => (hOK.2.2.1 t ht).2.2.1; have how : ∀ t, t < 8 → sp_ow H t ≤ 999 := fun t ht => (hOK.2.2.1 t ht).2.2.2.1; have hfl : ∀ t, t < 8 → sp_fl H t ≤ 100 := fun t ht => (hOK.2.2.1 t ht).2.2.2.2
  have lt := hlv t (by omega)
  by_cases z : b = t
  · subst z
    have e : ¬ sp_cdC H (mm_a s 45) b b = true := by unfold sp_cdC; rw [decide_eq_true_eq]; exact fun q => q.1 rfl
    refine aw_aload_n dX0_canCare_0 rfl ?_
    refine aw_get dX0_canCare_1 fX0_19 rfl (hX.1 0 (by decide)) (by rfl) ?_
    refine aw_get dX0_canCare_4 fX0_95 rfl (hq.mv hs hX0).1 (by rfl) ?_
    refine aw_iload_n dX0_canCare_7 rfl ?_
    refine xx_get dX0_canCare_8 sX0_98 rfl (hq.mv hs hX0) (by omega) ⟨Nat.le_of_ble_eq_true rfl, Nat.le_of_ble_eq_true rfl⟩ (by exact Nat.le_of_ble_eq_true rfl) ?_
    refine aw_castS (y := yX0_canCare) dX0_canCare_11 q378 aw_cl7 ((hq.mv hs hX0).ten (by omega)) ?_
    refine aw_get dX0_canCare_14 fX0_192 rfl ((hq.mv hs hX0).ten (by omega)) (by rfl) ?_
    refine aw_if_leN (tgt := 50) dX0_canCare_17 (by decide) (by omega) (fun c_17 => ?_) (fun c_17 => ?_)
    · refine aw_iconst (v := nI 0) dX0_canCare_50 rfl ?_
      refine aw_zreturn dX0_canCare_51 rfl rfl ?_
      exact ⟨by rw [aw_t0 e], hX, hs⟩
    · refine aw_aload_n dX0_canCare_20 rfl ?_
      refine aw_iload_n dX0_canCare_21 rfl ?_
      refine aw_iload_n dX0_canCare_22 rfl ?_
      refine xx_call0 dX0_canCare_23 sX0_252 rfl hW hX (hq.mv hs hX0).xh hs (xo_carE hOK hb) rfl (hX.1 0 (by decide)) rfl rfl ⟨Nat.le_of_ble_eq_true rfl, Nat.le_of_ble_eq_true rfl⟩ (by exact Nat.le_of_ble_eq_true rfl) (fun h hX hs => ?_)
      refine aw_aload_n dX0_canCare_26 rfl ?_
      refine aw_get dX0_canCare_27 fX0_19 rfl (hX.1 0 (by decide)) (by rfl) ?_
      refine aw_get dX0_canCare_30 fX0_95 rfl (hq.mv hs hX0).1 (by rfl) ?_
      refine aw_iload_n dX0_canCare_33 rfl ?_
      refine xx_get dX0_canCare_34 sX0_98 rfl (hq.mv hs hX0) (by omega) ⟨Nat.le_of_ble_eq_true rfl, Nat.le_of_ble_eq_true rfl⟩ (by exact Nat.le_of_ble_eq_true rfl) ?_
      refine aw_castS (y := yX0_canCare) dX0_canCare_37 q378 aw_cl7 ((hq.mv hs hX0).ten (by omega)) ?_
      refine aw_get dX0_canCare_40 fX0_192 rfl ((hq.mv hs hX0).ten (by omega)) (by rfl) ?_
      refine aw_icmp_lt (tgt := 50) dX0_canCare_43 (by decide) (fun c_43 => ?_) (fun c_43 => by exfalso; exact c_43 (by rw [Int32.lt_iff_toInt_lt, aw_ti (by omega)]; exact Int.lt_of_lt_of_le (show (-1 : Int32).toInt < 0 by decide) (Int.natCast_nonneg _)))
      refine aw_iconst (v := nI 0) dX0_canCare_50 rfl ?_
      refine aw_zreturn dX0_canCare_51 rfl rfl ?_
      exact ⟨by rw [aw_t0 e], hX, hs⟩
  · have cb : sp_carr H (mm_a s 45) b t ≤ sp_hs H := Nat.min_le_left _ _
    refine aw_aload_n dX0_canCare_0 rfl ?_
    refine aw_get dX0_canCare_1 fX0_19 rfl (hX.1 0 (by decide)) (by rfl) ?_
    refine aw_get dX0_canCare_4 fX0_95 rfl (hq.mv hs hX0).1 (by rfl) ?_
    refine aw_iload_n dX0_canCare_7 rfl ?_
    refine xx_get dX0_canCare_8 sX0_98 rfl (hq.mv hs hX0) (by omega) ⟨Nat.le_of_ble_eq_true rfl, Nat.le_of_ble_eq_true rfl⟩ (by exact Nat.le_of_ble_eq_true rfl) ?_
    refine aw_castS (y := yX0_canCare) dX0_canCare_11 q378 aw_cl7 ((hq.mv hs hX0).ten (by omega)) ?_
    refine aw_get dX0_canCare_14 fX0_192 rfl ((hq.mv hs hX0).ten (by omega)) (by rfl) ?_
    refine aw_if_leN (tgt := 50) dX0_canCare_17 (by decide) (by omega) (fun c_17 => ?_) (fun c_17 => ?_)
    · refine aw_iconst (v := nI 0) dX0_canCare_50 rfl ?_
      refine aw_zreturn dX0_canCare_51 rfl rfl ?_
      refine ⟨?_, hX, hs⟩
      unfold sp_cdC
      first
        | rw [aw_t1 (by rw [decide_eq_true_eq]; omega)]
        | rw [aw_t0 (by rw [decide_eq_true_eq]; omega)]
    · refine aw_aload_n dX0_canCare_20 rfl ?_
      refine aw_iload_n dX0_canCare_21 rfl ?_
      refine aw_iload_n dX0_canCare_22 rfl ?_
      refine xx_call0 dX0_canCare_23 sX0_252 rfl hW hX (hq.mv hs hX0).xh hs (xo_carN hOK hA hb ht z) rfl (hX.1 0 (by decide)) rfl rfl ⟨Nat.le_of_ble_eq_true rfl, Nat.le_of_ble_eq_true rfl⟩ (by exact Nat.le_of_ble_eq_true rfl) (fun h hX hs => ?_)
      refine aw_aload_n dX0_canCare_26 rfl ?_
      refine aw_get dX0_canCare_27 fX0_19 rfl (hX.1 0 (by decide)) (by rfl) ?_
      refine aw_get dX0_canCare_30 fX0_95 rfl (hq.mv hs hX0).1 (by rfl) ?_
      refine aw_iload_n dX0_canCare_33 rfl ?_
      refine xx_get dX0_canCare_34 sX0_98 rfl (hq.mv hs hX0) (by omega) ⟨Nat.le_of_ble_eq_true rfl, Nat.le_of_ble_eq_true rfl⟩ (by exact Nat.le_of_ble_eq_true rfl) ?_
      refine aw_castS (y := yX0_canCare) dX0_canCare_37 q378 aw_cl7 ((hq.mv hs hX0).ten (by omega)) ?_
      refine aw_get dX0_canCare_40 fX0_192 rfl ((hq.mv hs hX0).ten (by omega)) (by rfl) ?_
      refine aw_icmp_ltN (tgt := 50) dX0_canCare_43 (by decide) (by omega) (by omega) (fun c_43 => ?_) (fun c_43 => ?_)
      · refine aw_iconst (v := nI 0) dX0_canCare_50 rfl ?_
        refine aw_zreturn dX0_canCare_51 rfl rfl ?_
        refine ⟨?_, hX, hs⟩
        unfold sp_cdC
        first
          | rw [aw_t1 (by rw [decide_eq_true_eq]; omega)]
          | rw [aw_t0 (by rw [decide_eq_true_eq]; omega)]
      · refine aw_iconst (v := nI 1) dX0_canCare_46 rfl ?_
        refine aw_goto (tgt := 51) dX0_canCare_47 (by decide) ?_
        refine aw_zreturn dX0_canCare_51 rfl rfl ?_
        refine ⟨?_, hX, hs⟩
        unfold sp_cdC
        first
          | rw [aw_t1 (by rw [decide_eq_true_eq]; omega)]
          | rw [aw_t0 (by rw [decide_eq_true_eq]; omega)]
theorem aw_cvs2 (n : Nat) : nI n + (-1) = sp_cv n := by
  rw [← aw_cvs, Int32.sub_eq_add_neg, show -nI 1 = (-1 : Int32) by decide]
theorem sp_dv_at {n t z : Nat} {cd : Nat → Nat → Bool} {w : Nat → Nat} (ht : t < n) : sp_dv n cd w (n - t) z = sp_dk (cd t) (w t) (sp_dv n cd w (n - (t + 1))) z n := by
  obtain ⟨r, e⟩ : ∃ r, n - t = r + 1 := ⟨n - t - 1, by omega⟩
  rw [e, show n - (t + 1) = r by omega]
  show sp_dk (cd (n - (r + 1))) (w (n - (r + 1))) _ _ _ = _
  rw [show n - (r + 1) = t by omega]
/-- what the first phase leaves; laid is L -/
abbrev xx_cS (s : mm_S) (n : Nat) (V : Nat → Nat → Nat) (T x : Nat) : mm_S := mm_setA s 73 (sp_cM n V (mm_a s 73) T x)
theorem xo_cf2 {s : mm_S} {H : sp_H} {u n T x t z : Nat} {V : Nat → Nat → Nat} (hn : n ≤ 8) (ht : t ≤ n) (hT : T ≤ t) (hz : z < 2 ^ n) : xx_Met yX0_caredFrom cX0_caredFrom 3 (some .int) 0 0 0 (fun w => [.ref (w.1 0), .int (nI t), .int (nI z)]) (xx_cS s n V T x) H u (some (.int (nI (V (n - t) z)))) (xx_cS s n V T x) := by
  have p8 : 2 ^ n ≤ 2 ^ 8 := Nat.pow_le_pow_right (by decide) hn
  refine (xo_cf (s := xx_cS s n V T x) (u := u) (H := H) (show t ≤ 8 by omega) (show z < 256 by omega)).eqv (congrArg (fun x => some (Value.int (nI x))) ?_) rfl
  show sp_cM n V (mm_a s 73) T x (256 * t + z) = _
  rw [sp_cM_at hn ht hT hz]
theorem xo_cf3 {s : mm_S} {H : sp_H} {u n t z : Nat} {V : Nat → Nat → Nat} {L : Nat → Int32} (hn : n ≤ 8) (ht : t ≤ n) (hz : z < 2 ^ n) : xx_Met yX0_caredFrom cX0_caredFrom 3 (some .int) 0 0 0 (fun w => [.ref (w.1 0), .int (nI t), .int (nI z)]) (mm_setV (xx_cS s n V 0 0) 51 L) H u (some (.int (nI (V (n - t) z)))) (mm_setV (xx_cS s n V 0 0) 51 L) := by
  have p8 : 2 ^ n ≤ 2 ^ 8 := Nat.pow_le_pow_right (by decide) hn
  refine (xo_cf (s := mm_setV (xx_cS s n V 0 0) 51 L) (u := u) (H := H) (show t ≤ 8 by omega) (show z < 256 by omega)).eqv (congrArg (fun x => some (Value.int (nI x))) ?_) rfl
  show sp_cM n V (mm_a s 73) 0 0 (256 * t + z) = _
  rw [sp_cM_at hn ht (Nat.zero_le _) hz]
theorem xx_cSu {G : aw_G} {w : xx_Wd} {h : aw_H} {s : mm_S} {n t x v : Nat} {V : Nat → Nat → Nat} (hn : n ≤ 8) (ht : t ≤ n) (hx : x < 2 ^ n) (hv : v = V (n - t) x) (hX : XC G w h (mm_setA (xx_cS s n V (t + 1) x) 73 (aw_u (mm_a (xx_cS s n V (t + 1) x) 73) (256 * t + x) v))) : XC G w h (xx_cS s n V (t + 1) (x + 1)) := xx_AU hX (sp_cM_u hn ht hx hv).symm
theorem xx_cSr {G : aw_G} {w : xx_Wd} {h : aw_H} {s : mm_S} {n t : Nat} {V : Nat → Nat → Nat} (hX : XC G w h (xx_cS s n V (t + 1) (2 ^ n))) : XC G w h (xx_cS s n V t 0) := hX.eqv (by unfold xx_cS; rw [sp_cM_r])
/-- laid so far -/
def xx_cL (s : mm_S) (n : Nat) (cd : Nat → Nat → Bool) (w : Nat → Nat) (t : Nat) : Nat → Int32 := fun j => if j < t then sp_pl n cd w j else mm_v s 51 j
theorem xx_cL_u {s : mm_S} {n t : Nat} {cd : Nat → Nat → Bool} {w : Nat → Nat} {v : Int32} (hv : v = sp_pl n cd w t) : aw_u (xx_cL s n cd w t) t v = xx_cL s n cd w (t + 1) := by
  funext j
  unfold aw_u xx_cL
  by_cases e : j = t
  · rw [if_pos e, if_pos (by omega), hv, e]
  · rw [if_neg e]
    by_cases c : j < t
    · rw [if_pos c, if_pos (by omega)]
    · rw [if_neg c, if_neg (by omega)]
theorem xx_cL_0 {s : mm_S} {n : Nat} {cd : Nat → Nat → Bool} {w : Nat → Nat} : xx_cL s n cd w 0 = mm_v s 51 := by
  funext j
  unfold xx_cL
  rw [if_neg (Nat.not_lt_zero _)]
theorem xx_VU {G : aw_G} {w : xx_Wd} {h : aw_H} {s : mm_S} {k j : Nat} {v : Int32} {L C : Nat → Int32} (hX : XC G w h (mm_setV (mm_setV s k L) k (aw_u (mm_v (mm_setV s k L) k) j v))) (e : aw_u L j v = C) : XC G w h (mm_setV s k C) := hX.eqv (by rw [mm_V_V, mm_v_V, if_pos rfl, e])
theorem xx_cL_core {s : mm_S} {H : sp_H} {T x : Nat} {V : Nat → Nat → Nat} {cd : Nat → Nat → Bool} {w w' : Nat → Nat} (eH : mm_H s = H) (hw : ∀ j, sp_pl (sp_hn H) cd w' j = sp_pl (sp_hn H) cd w j) : mm_core (mm_lyS s cd w') (mm_setN (mm_setV (xx_cS s (sp_hn H) V T x) 51 (xx_cL s (sp_hn H) cd w (sp_hn H))) 52 (sp_hn H)) := by
  subst eH
  have e : (fun j => if j < mm_n s 42 then sp_pl (mm_n s 42) cd w' j else mm_v s 51 j) = xx_cL s (mm_n s 42) cd w (mm_n s 42) := by
    funext j
    unfold xx_cL
    rw [show sp_pl (mm_n s 42) cd w' j = sp_pl (mm_n s 42) cd w j from hw j]
  unfold mm_lyS
  rw [e]
  exact mm_core.NN (mm_core.VV (mm_core.A rfl mm_core.rf))
theorem sp_pz_n {n : Nat} {cd : Nat → Nat → Bool} {w : Nat → Nat} : ∀ t, sp_pz n cd w t < 2 ^ n := by
  intro t
  induction t with
  | zero => exact Nat.pow_pos (by decide)
  | succ t ih =>
    unfold sp_pz
    split
    · exact ih
    · rename_i e
      have : sp_pf n cd w t (sp_pz n cd w t) ≤ n := sp_fst_le _
      exact sp_orn ih (by omega)
set_option maxHeartbeats 4000000 in
theorem xo_care {s : mm_S} {H : sp_H} {u : Nat} {N : Nat} (hOK : sp_okH H) (hA : sp_okA N (mm_a s 45)) (eH : mm_H s = H) : xx_Op yX0_care cX0_care 6 (some .int) 8 0 0 (fun w => [.ref (w.1 0)]) s H u (some (.int (op_care H (mm_a s 45)))) (op_careS s) := by
  refine xx_Op.of (by decide +kernel) (fun _ => Nat.le_of_ble_eq_true rfl) (fun G w h0 hW hX hH => ?_)
  have hX0 := hX
  have hs : xx_same w h0 h0 := xx_same.rf
  obtain ⟨tl, te, cap, m9, f9, tn, nm9, c9, mo9, D9, hq⟩ := hH
  show AW G (aw_rm 8 0 0) yX0_care cX0_care 6 (some .int) (aw_N G (xx_PoC G w h0 (some (.int (op_care H (mm_a s 45)))) (op_careS s)) 0 0) 0 0 h0 0 [(0, .ref (w.1 0))] []
  have hs1 : 1 ≤ sp_hs H := hOK.1.1; have hs20 : sp_hs H ≤ 20 := hOK.1.2; have hn : sp_hn H ≤ 8 := hOK.2.1; have hlv : ∀ t, t < 8 → sp_lv H t ≤ 20 := fun t ht => (hOK.2.2.1 t ht).1; have hsg : ∀ t, t < 8 → sp_sg8 H t ≤ 40 := fun t ht => (hOK.2.2.1 t ht).2.1; have hhv : ∀ t, t < 8 → sp_hv H t ≤ 9 := fun t ht => (hOK.2.2.1 t ht).2.2.1; have how : ∀ t, t < 8 → sp_ow H t ≤ 999 := fun t ht => (hOK.2.2.1 t ht).2.2.2.1; have hfl : ∀ t, t < 8 → sp_fl H t ≤ 100 := fun t ht => (hOK.2.2.1 t ht).2.2.2.2
  have p8 : 2 ^ sp_hn H ≤ 256 := Nat.pow_le_pow_right (by decide) hn (n := 2)
  have p1 : 0 < 2 ^ sp_hn H := Nat.pow_pos (by decide)
  obtain ⟨cd, hcd⟩ : ∃ cd, cd = sp_cdC H (mm_a s 45) := ⟨_, rfl⟩
  obtain ⟨wt, hwt⟩ : ∃ wt : Nat → Nat, wt = fun _ => 1 := ⟨_, rfl⟩
  obtain ⟨V, hV⟩ : ∃ V, V = sp_dv (sp_hn H) cd wt := ⟨_, rfl⟩
  have ww : ∀ t, wt t = 1 := fun t => by rw [hwt]
  have Vle : ∀ r z, r ≤ 8 → V r z ≤ 8000 := fun r z hr => by
    have q := @sp_dv_le (sp_hn H) cd wt (fun t => by rw [ww]; decide) r z
    rw [← hV] at q
    omega
  have V0 : ∀ z, V 0 z = 0 := fun z => by rw [hV]; rfl
  have Vat : ∀ t z, t < sp_hn H → V (sp_hn H - t) z = sp_dk (cd t) (wt t) (V (sp_hn H - (t + 1))) z (sp_hn H) := fun t z ht => by rw [hV]; exact sp_dv_at ht
  have cc : ∀ (M : Nat → Nat) (b t : Nat), b < sp_hn H → t < sp_hn H → xx_Met yX0_canCare cX0_canCare 3 (some .boolean) 7 0 0 (fun w => [.ref (w.1 0), .int (nI b), .int (nI t)]) (mm_setA s 73 M) H u (some (.int (nI (aw_t (cd t b = true))))) (mm_setA s 73 M) := fun M b t hb ht => by rw [hcd]; exact xo_cc (s := mm_setA s 73 M) hOK hA hb ht
  have cc2 : ∀ (M : Nat → Nat) (L : Nat → Int32) (b t : Nat), b < sp_hn H → t < sp_hn H → xx_Met yX0_canCare cX0_canCare 3 (some .boolean) 7 0 0 (fun w => [.ref (w.1 0), .int (nI b), .int (nI t)]) (mm_setV (mm_setA s 73 M) 51 L) H u (some (.int (nI (aw_t (cd t b = true))))) (mm_setV (mm_setA s 73 M) 51 L) := fun M L b t hb ht => by rw [hcd]; exact xo_cc (s := mm_setV (mm_setA s 73 M) 51 L) hOK hA hb ht
  have pzl : ∀ t, sp_pz (sp_hn H) cd wt t < 2 ^ sp_hn H := sp_pz_n
  have fin : ∀ (h : aw_H) (z : Nat), XC G w h (mm_setV (xx_cS s (sp_hn H) V 0 0) 51 (xx_cL s (sp_hn H) cd wt (sp_hn H))) → xx_same w h0 h → AW G (aw_rm 8 0 0) yX0_care cX0_care 6 (some .int) (aw_N G (xx_PoC G w h0 (some (.int (op_care H (mm_a s 45)))) (op_careS s)) 0 0) 0 0 (h) 244 [(0, .ref (w.1 0)), (1, .int (nI (sp_hn H))), (2, .int (nI z)), (3, .int (nI (sp_hn H)))] [] := by
    intro h z hX hs
    have c0 := xo_cf (s := mm_setN (mm_setV (xx_cS s (sp_hn H) V 0 0) 51 (xx_cL s (sp_hn H) cd wt (sp_hn H))) 52 (sp_hn H)) (u := u) (H := H) (t := 0) (z := 0) (by decide) (by decide)
    refine aw_aload_n dX0_care_244 rfl ?_
    refine aw_iload_n dX0_care_245 rfl ?_
    refine xx_put0 (k := 52) hW hX hs dX0_care_246 (pX0_132 _) rfl rfl (by decide) (by decide) (by decide) rfl (fun h hX hs => ?_)
    refine aw_aload_n dX0_care_249 rfl ?_
    refine aw_iconst (v := nI 0) dX0_care_250 rfl ?_
    refine aw_iconst (v := nI 0) dX0_care_251 rfl ?_
    refine xx_call0 dX0_care_252 sX0_255 rfl hW hX (hq.mv hs hX0).xh hs c0 rfl (hX.1 0 (by decide)) rfl rfl ⟨Nat.le_of_ble_eq_true rfl, Nat.le_of_ble_eq_true rfl⟩ (by exact Nat.le_of_ble_eq_true rfl) (fun h hX hs => ?_)
    try simp only [mm_n_N, mm_n_A, mm_n_V, mm_n_Fp, mm_n_W, mm_n_Nm, mm_a_N, mm_a_A, mm_a_V, mm_a_Fp, mm_a_W, mm_a_Nm, mm_v_N, mm_v_A, mm_v_V, mm_fp_N, mm_fp_A, mm_fp_Fp, mm_w_N, mm_w_W, Nat.reduceEqDiff, reduceIte, if_true, if_false, mm_H_45, mm_H_46, mm_H_47, mm_H_50, mm_H_53, mm_H_54, mm_H_55, mm_H_56, mm_H_57, mm_H_58, mm_H_66, mm_H_67, mm_H_68, eq_self]
    refine aw_ireturn dX0_care_255 rfl ?_
    refine ⟨?_, _, ?_, hX, hs⟩
    · show some (Value.int (nI (sp_cM (sp_hn H) V (mm_a s 73) 0 0 (256 * 0 + 0)))) = _
      rw [sp_cM_at hn (Nat.zero_le _) (Nat.le_refl _) p1, op_care, ← hcd, show sp_dv (sp_hn H) cd (fun _ => 1000 - 0) = sp_dv (sp_hn H) cd (fun t => 1000 * wt t) by rw [hwt]; rfl, sp_dv_x (by decide), ← hV]
      unfold sp_e1
      rw [show (1000 * V (sp_hn H) 0 + 999) / 1000 = V (sp_hn H) 0 by omega, Nat.sub_zero]
    · rw [op_careS, eH, ← hcd]
      exact xx_cL_core eH (fun j => by rw [show (fun _ : Nat => 1000 - 0) = (fun t => 1000 * wt t) by rw [hwt]; rfl]; exact sp_pl_x (by decide) j)
  have put : ∀ (m t : Nat) (h : aw_H), sp_hn H - t = m → t ≤ sp_hn H → XC G w h (mm_setV (xx_cS s (sp_hn H) V 0 0) 51 (xx_cL s (sp_hn H) cd wt t)) → xx_same w h0 h → AW G (aw_rm 8 0 0) yX0_care cX0_care 6 (some .int) (aw_N G (xx_PoC G w h0 (some (.int (op_care H (mm_a s 45)))) (op_careS s)) 0 0) 0 0 (h) 144 [(0, .ref (w.1 0)), (1, .int (nI (sp_hn H))), (2, .int (nI (sp_pz (sp_hn H) cd wt t))), (3, .int (nI t))] [] := by
    intro m
    induction m using Nat.strongRecOn with
    | _ m ih =>
      intro t h hm ht hX hs
      have zl := pzl t
      by_cases ht9 : t < sp_hn H
      · have done : ∀ (h : aw_H) (b : Nat), b ≤ sp_hn H → sp_pf (sp_hn H) cd wt t (sp_pz (sp_hn H) cd wt t) = (if b < sp_hn H then b + 1 else 0) → XC G w h (mm_setV (xx_cS s (sp_hn H) V 0 0) 51 (xx_cL s (sp_hn H) cd wt t)) → xx_same w h0 h → AW G (aw_rm 8 0 0) yX0_care cX0_care 6 (some .int) (aw_N G (xx_PoC G w h0 (some (.int (op_care H (mm_a s 45)))) (op_careS s)) 0 0) 0 0 (h) 207 [(0, .ref (w.1 0)), (1, .int (nI (sp_hn H))), (2, .int (nI (sp_pz (sp_hn H) cd wt t))), (3, .int (nI t)), (4, .int (nI b))] [] := by
          intro h b hb epf hX hs
          have ez : sp_pz (sp_hn H) cd wt (t + 1) = if sp_pf (sp_hn H) cd wt t (sp_pz (sp_hn H) cd wt t) = 0 then sp_pz (sp_hn H) cd wt t else sp_pz (sp_hn H) cd wt t ||| 2 ^ (sp_pf (sp_hn H) cd wt t (sp_pz (sp_hn H) cd wt t) - 1) := rfl
          rw [epf] at ez
          refine aw_aload_n dX0_care_207 rfl ?_
          refine aw_get dX0_care_208 fX0_60 rfl (hX.1 0 (by decide)) (by rfl) ?_
          refine aw_iload_n dX0_care_211 rfl ?_
          refine aw_iload dX0_care_212 rfl ?_
          refine aw_iload_n dX0_care_214 rfl ?_
          refine aw_icmp_geN (tgt := 223) dX0_care_215 (by decide) (by omega) (by omega) (fun c_215 => ?_) (fun c_215 => ?_)
          · refine aw_iconst (v := -1) dX0_care_223 rfl ?_
            refine xx_stV hW hX hs dX0_care_224 (by omega) (fun h hX hs => ?_)
            have hX : XC G w h (mm_setV (xx_cS s (sp_hn H) V 0 0) 51 (xx_cL s (sp_hn H) cd wt (t + 1))) := xx_VU hX (xx_cL_u (by rw [sp_pl, epf]; first | (rw [if_pos (by omega), sp_cv_s]; done) | (rw [if_neg (by omega)]; rfl)))
            refine aw_iload dX0_care_225 rfl ?_
            refine aw_iload_n dX0_care_227 rfl ?_
            refine aw_icmp_geN (tgt := 238) dX0_care_228 (by decide) (by omega) (by omega) (fun c_228 => ?_) (fun c_228 => ?_)
            · refine aw_iincN (b := 1) dX0_care_238 rfl rfl (by decide) rfl rfl ?_
              refine aw_goto (tgt := 144) dX0_care_241 (by decide) ?_
              first
                | (exfalso; omega)
                | exact AW_ls (by rw [ez, if_pos (show b < sp_hn H by omega), if_neg (Nat.succ_ne_zero b), Nat.add_sub_cancel, Nat.one_mul]; rfl) (AW_dr (r := [(4, .int (nI b))]) (ih (sp_hn H - (t + 1)) (by omega) (t + 1) h rfl (by omega) hX hs))
                | exact AW_ls (by rw [ez, if_neg (show ¬ b < sp_hn H by omega), if_pos rfl]; rfl) (AW_dr (r := [(4, .int (nI b))]) (ih (sp_hn H - (t + 1)) (by omega) (t + 1) h rfl (by omega) hX hs))
            · refine aw_iload_n dX0_care_231 rfl ?_
              refine aw_iconst (v := nI 1) dX0_care_232 rfl ?_
              refine aw_iload dX0_care_233 rfl ?_
              refine aw_ishlN dX0_care_235 (by first | omega | exact aw_sh1 (by decide) (by omega)) (by first | omega | exact aw_sh1 (by decide) (by omega)) ?_
              refine aw_iorN dX0_care_236 ?_
              refine aw_istore_n dX0_care_237 (by decide) rfl rfl ?_
              refine aw_iincN (b := 1) dX0_care_238 rfl rfl (by decide) rfl rfl ?_
              refine aw_goto (tgt := 144) dX0_care_241 (by decide) ?_
              first
                | (exfalso; omega)
                | exact AW_ls (by rw [ez, if_pos (show b < sp_hn H by omega), if_neg (Nat.succ_ne_zero b), Nat.add_sub_cancel, Nat.one_mul]; rfl) (AW_dr (r := [(4, .int (nI b))]) (ih (sp_hn H - (t + 1)) (by omega) (t + 1) h rfl (by omega) hX hs))
                | exact AW_ls (by rw [ez, if_neg (show ¬ b < sp_hn H by omega), if_pos rfl]; rfl) (AW_dr (r := [(4, .int (nI b))]) (ih (sp_hn H - (t + 1)) (by omega) (t + 1) h rfl (by omega) hX hs))
          · refine aw_iload dX0_care_218 rfl ?_
            refine aw_goto (tgt := 224) dX0_care_220 (by decide) ?_
            refine xx_stV hW hX hs dX0_care_224 (by omega) (fun h hX hs => ?_)
            have hX : XC G w h (mm_setV (xx_cS s (sp_hn H) V 0 0) 51 (xx_cL s (sp_hn H) cd wt (t + 1))) := xx_VU hX (xx_cL_u (by rw [sp_pl, epf]; first | (rw [if_pos (by omega), sp_cv_s]; done) | (rw [if_neg (by omega)]; rfl)))
            refine aw_iload dX0_care_225 rfl ?_
            refine aw_iload_n dX0_care_227 rfl ?_
            refine aw_icmp_geN (tgt := 238) dX0_care_228 (by decide) (by omega) (by omega) (fun c_228 => ?_) (fun c_228 => ?_)
            · refine aw_iincN (b := 1) dX0_care_238 rfl rfl (by decide) rfl rfl ?_
              refine aw_goto (tgt := 144) dX0_care_241 (by decide) ?_
              first
                | (exfalso; omega)
                | exact AW_ls (by rw [ez, if_pos (show b < sp_hn H by omega), if_neg (Nat.succ_ne_zero b), Nat.add_sub_cancel, Nat.one_mul]; rfl) (AW_dr (r := [(4, .int (nI b))]) (ih (sp_hn H - (t + 1)) (by omega) (t + 1) h rfl (by omega) hX hs))
                | exact AW_ls (by rw [ez, if_neg (show ¬ b < sp_hn H by omega), if_pos rfl]; rfl) (AW_dr (r := [(4, .int (nI b))]) (ih (sp_hn H - (t + 1)) (by omega) (t + 1) h rfl (by omega) hX hs))
            · refine aw_iload_n dX0_care_231 rfl ?_
              refine aw_iconst (v := nI 1) dX0_care_232 rfl ?_
              refine aw_iload dX0_care_233 rfl ?_
              refine aw_ishlN dX0_care_235 (by first | omega | exact aw_sh1 (by decide) (by omega)) (by first | omega | exact aw_sh1 (by decide) (by omega)) ?_
              refine aw_iorN dX0_care_236 ?_
              refine aw_istore_n dX0_care_237 (by decide) rfl rfl ?_
              refine aw_iincN (b := 1) dX0_care_238 rfl rfl (by decide) rfl rfl ?_
              refine aw_goto (tgt := 144) dX0_care_241 (by decide) ?_
              first
                | (exfalso; omega)
                | exact AW_ls (by rw [ez, if_pos (show b < sp_hn H by omega), if_neg (Nat.succ_ne_zero b), Nat.add_sub_cancel, Nat.one_mul]; rfl) (AW_dr (r := [(4, .int (nI b))]) (ih (sp_hn H - (t + 1)) (by omega) (t + 1) h rfl (by omega) hX hs))
                | exact AW_ls (by rw [ez, if_neg (show ¬ b < sp_hn H by omega), if_pos rfl]; rfl) (AW_dr (r := [(4, .int (nI b))]) (ih (sp_hn H - (t + 1)) (by omega) (t + 1) h rfl (by omega) hX hs))
        have wh : ∀ (d b : Nat) (h : aw_H), sp_hn H - b = d → b ≤ sp_hn H → (∀ j, j < b → (cd t j && decide (sp_pz (sp_hn H) cd wt t / 2 ^ j % 2 = 0) && decide (V (sp_hn H - (t + 1)) (sp_pz (sp_hn H) cd wt t ||| 2 ^ j) + wt t = V (sp_hn H - t) (sp_pz (sp_hn H) cd wt t))) = false) → XC G w h (mm_setV (xx_cS s (sp_hn H) V 0 0) 51 (xx_cL s (sp_hn H) cd wt t)) → xx_same w h0 h → AW G (aw_rm 8 0 0) yX0_care cX0_care 6 (some .int) (aw_N G (xx_PoC G w h0 (some (.int (op_care H (mm_a s 45)))) (op_careS s)) 0 0) 0 0 (h) 152 [(0, .ref (w.1 0)), (1, .int (nI (sp_hn H))), (2, .int (nI (sp_pz (sp_hn H) cd wt t))), (3, .int (nI t)), (4, .int (nI b))] [] := by
          intro d
          induction d using Nat.strongRecOn with
          | _ d ihb =>
            intro b h hd hb hno hX hs
            by_cases hb9 : b < sp_hn H
            · have on := sp_orn zl hb9
              have v1 := Vle (sp_hn H - (t + 1)) (sp_pz (sp_hn H) cd wt t ||| 2 ^ b) (by omega)
              have v2 := Vle (sp_hn H - t) (sp_pz (sp_hn H) cd wt t) (by omega)
              have ge : cd t b = true → sp_pz (sp_hn H) cd wt t / 2 ^ b % 2 = 0 → V (sp_hn H - (t + 1)) (sp_pz (sp_hn H) cd wt t ||| 2 ^ b) + 1 ≤ V (sp_hn H - t) (sp_pz (sp_hn H) cd wt t) := fun q1 q2 => by
                have q3 := @sp_dk_ge (cd t) (wt t) (V (sp_hn H - (t + 1))) (sp_pz (sp_hn H) cd wt t) (sp_hn H) b hb9 q1 q2
                rw [← Vat t _ ht9, ww] at q3
                exact q3
              have cf1 := xo_cf3 (s := s) (u := u) (H := H) (V := V) (t := t + 1) (L := xx_cL s (sp_hn H) cd wt t) hn (by omega) on
              have cf2 := xo_cf3 (s := s) (u := u) (H := H) (V := V) (t := t) (L := xx_cL s (sp_hn H) cd wt t) hn (by omega) zl
              have next : ∀ (h : aw_H), (cd t b && decide (sp_pz (sp_hn H) cd wt t / 2 ^ b % 2 = 0) && decide (V (sp_hn H - (t + 1)) (sp_pz (sp_hn H) cd wt t ||| 2 ^ b) + wt t = V (sp_hn H - t) (sp_pz (sp_hn H) cd wt t))) = false → XC G w h (mm_setV (xx_cS s (sp_hn H) V 0 0) 51 (xx_cL s (sp_hn H) cd wt t)) → xx_same w h0 h → AW G (aw_rm 8 0 0) yX0_care cX0_care 6 (some .int) (aw_N G (xx_PoC G w h0 (some (.int (op_care H (mm_a s 45)))) (op_careS s)) 0 0) 0 0 (h) 201 [(0, .ref (w.1 0)), (1, .int (nI (sp_hn H))), (2, .int (nI (sp_pz (sp_hn H) cd wt t))), (3, .int (nI t)), (4, .int (nI b))] [] := by
                intro h e hX hs
                refine aw_iincN (b := 1) dX0_care_201 rfl rfl (by decide) rfl rfl ?_
                refine aw_goto (tgt := 152) dX0_care_204 (by decide) ?_
                refine ihb (sp_hn H - (b + 1)) (by omega) (b + 1) h rfl (by omega) (fun j hj => ?_) hX hs
                by_cases e2 : j = b
                · subst e2; exact e
                · exact hno j (by omega)
              have eo : 1 * 2 ^ b = 2 ^ b := Nat.one_mul _
              have M2 := Nat.mod_lt (sp_pz (sp_hn H) cd wt t / 2 ^ b) (y := 2) (by decide)
              refine aw_iload dX0_care_152 rfl ?_
              refine aw_iload_n dX0_care_154 rfl ?_
              refine aw_icmp_geN (tgt := 207) dX0_care_155 (by decide) (by omega) (by omega) (fun c_155 => by exfalso; omega) (fun c_155 => ?_)
              refine aw_iload_n dX0_care_158 rfl ?_
              refine aw_iload dX0_care_159 rfl ?_
              refine aw_callP (r := _) dX0_care_161 sX0_258 rfl (xp_has (by omega) (by omega)) rfl rfl ⟨Nat.le_of_ble_eq_true rfl, Nat.le_of_ble_eq_true rfl⟩ (Nat.le_of_ble_eq_true rfl) ?_
              refine aw_if_neB (tgt := 201) dX0_care_164 (by decide) (fun c_164 => ?_) (fun c_164 => ?_)
              · refine next h ?_ hX hs
                rw [ww]
                first
                  | (rw [decide_eq_false (show ¬ sp_pz (sp_hn H) cd wt t / 2 ^ b % 2 = 0 by omega), Bool.and_false, Bool.false_and]; done)
                  | (rw [Bool.eq_false_iff.mpr c_174, Bool.false_and, Bool.false_and]; done)
                  | (rw [decide_eq_false (show ¬ V (sp_hn H - (t + 1)) (sp_pz (sp_hn H) cd wt t ||| 2 ^ b) + 1 = V (sp_hn H - t) (sp_pz (sp_hn H) cd wt t) by omega), Bool.and_false]; done)
              · refine aw_aload_n dX0_care_167 rfl ?_
                refine aw_iload dX0_care_168 rfl ?_
                refine aw_iload_n dX0_care_170 rfl ?_
                refine xx_call0 dX0_care_171 sX0_262 rfl hW hX (hq.mv hs hX0).xh hs (cc2 _ _ b t hb9 ht9) rfl (hX.1 0 (by decide)) rfl rfl ⟨Nat.le_of_ble_eq_true rfl, Nat.le_of_ble_eq_true rfl⟩ (by exact Nat.le_of_ble_eq_true rfl) (fun h hX hs => ?_)
                refine aw_if_eqB (tgt := 201) dX0_care_174 (by decide) (fun c_174 => ?_) (fun c_174 => ?_)
                · refine next h ?_ hX hs
                  rw [ww]
                  first
                    | (rw [decide_eq_false (show ¬ sp_pz (sp_hn H) cd wt t / 2 ^ b % 2 = 0 by omega), Bool.and_false, Bool.false_and]; done)
                    | (rw [Bool.eq_false_iff.mpr c_174, Bool.false_and, Bool.false_and]; done)
                    | (rw [decide_eq_false (show ¬ V (sp_hn H - (t + 1)) (sp_pz (sp_hn H) cd wt t ||| 2 ^ b) + 1 = V (sp_hn H - t) (sp_pz (sp_hn H) cd wt t) by omega), Bool.and_false]; done)
                · refine aw_iconst (v := nI 1) dX0_care_177 rfl ?_
                  refine aw_aload_n dX0_care_178 rfl ?_
                  refine aw_iload_n dX0_care_179 rfl ?_
                  refine aw_iconst (v := nI 1) dX0_care_180 rfl ?_
                  refine aw_iaddN dX0_care_181 ?_
                  refine aw_iload_n dX0_care_182 rfl ?_
                  refine aw_iconst (v := nI 1) dX0_care_183 rfl ?_
                  refine aw_iload dX0_care_184 rfl ?_
                  refine aw_ishlN dX0_care_186 (by first | omega | exact aw_sh1 (by decide) (by omega)) (by first | omega | exact aw_sh1 (by decide) (by omega)) ?_
                  refine aw_iorN dX0_care_187 ?_
                  rw [eo]
                  refine xx_call0 dX0_care_188 sX0_255 rfl hW hX (hq.mv hs hX0).xh hs cf1 rfl (hX.1 0 (by decide)) rfl rfl ⟨Nat.le_of_ble_eq_true rfl, Nat.le_of_ble_eq_true rfl⟩ (by exact Nat.le_of_ble_eq_true rfl) (fun h hX hs => ?_)
                  refine aw_iaddN dX0_care_191 ?_
                  refine aw_aload_n dX0_care_192 rfl ?_
                  refine aw_iload_n dX0_care_193 rfl ?_
                  refine aw_iload_n dX0_care_194 rfl ?_
                  refine xx_call0 dX0_care_195 sX0_255 rfl hW hX (hq.mv hs hX0).xh hs cf2 rfl (hX.1 0 (by decide)) rfl rfl ⟨Nat.le_of_ble_eq_true rfl, Nat.le_of_ble_eq_true rfl⟩ (by exact Nat.le_of_ble_eq_true rfl) (fun h hX hs => ?_)
                  refine aw_icmp_geN (tgt := 207) dX0_care_198 (by decide) (by omega) (by omega) (fun c_198 => ?_) (fun c_198 => ?_)
                  · have g9 := ge c_174 (by omega)
                    refine done h b hb ?_ hX hs
                    rw [if_pos hb9]
                    unfold sp_pf
                    rw [← hV]
                    refine sp_fst_yes hb9 hno ?_
                    rw [c_174, decide_eq_true (show sp_pz (sp_hn H) cd wt t / 2 ^ b % 2 = 0 by omega), decide_eq_true (show V (sp_hn H - (t + 1)) (sp_pz (sp_hn H) cd wt t ||| 2 ^ b) + wt t = V (sp_hn H - t) (sp_pz (sp_hn H) cd wt t) by rw [ww]; omega)]
                    rfl
                  · refine next h ?_ hX hs
                    rw [ww]
                    first
                      | (rw [decide_eq_false (show ¬ sp_pz (sp_hn H) cd wt t / 2 ^ b % 2 = 0 by omega), Bool.and_false, Bool.false_and]; done)
                      | (rw [Bool.eq_false_iff.mpr c_174, Bool.false_and, Bool.false_and]; done)
                      | (rw [decide_eq_false (show ¬ V (sp_hn H - (t + 1)) (sp_pz (sp_hn H) cd wt t ||| 2 ^ b) + 1 = V (sp_hn H - t) (sp_pz (sp_hn H) cd wt t) by omega), Bool.and_false]; done)
            · obtain rfl : b = sp_hn H := by omega
              refine aw_iload dX0_care_152 rfl ?_
              refine aw_iload_n dX0_care_154 rfl ?_
              refine aw_icmp_geN (tgt := 207) dX0_care_155 (by decide) (by omega) (by omega) (fun c_155 => ?_) (fun c_155 => by exfalso; omega)
              refine done h _ (Nat.le_refl _) ?_ hX hs
              rw [if_neg (Nat.lt_irrefl _)]
              unfold sp_pf
              rw [← hV]
              exact sp_fst_no hno
        refine aw_iload_n dX0_care_144 rfl ?_
        refine aw_iload_n dX0_care_145 rfl ?_
        refine aw_icmp_geN (tgt := 244) dX0_care_146 (by decide) (by omega) (by omega) (fun c_146 => by exfalso; omega) (fun c_146 => ?_)
        refine aw_iconst (v := nI 0) dX0_care_149 rfl ?_
        refine aw_istore dX0_care_150 (by decide) rfl rfl ?_
        exact wh _ 0 h rfl (Nat.zero_le _) (fun j hj => absurd hj (Nat.not_lt_zero _)) hX hs
      · obtain rfl : t = sp_hn H := by omega
        refine aw_iload_n dX0_care_144 rfl ?_
        refine aw_iload_n dX0_care_145 rfl ?_
        refine aw_icmp_geN (tgt := 244) dX0_care_146 (by decide) (by omega) (by omega) (fun c_146 => ?_) (fun c_146 => by exfalso; omega)
        exact fin h _ hX hs
  -- the first phase
  have go2 : ∀ (h : aw_H) (x : Int32), XC G w h (xx_cS s (sp_hn H) V 0 0) → xx_same w h0 h → AW G (aw_rm 8 0 0) yX0_care cX0_care 6 (some .int) (aw_N G (xx_PoC G w h0 (some (.int (op_care H (mm_a s 45)))) (op_careS s)) 0 0) 0 0 (h) 140 [(0, .ref (w.1 0)), (1, .int (nI (sp_hn H))), (2, .int x)] [] := by
    intro h x hX hs
    refine aw_iconst (v := nI 0) dX0_care_140 rfl ?_
    refine aw_istore_n dX0_care_141 (by decide) rfl rfl ?_
    refine aw_iconst (v := nI 0) dX0_care_142 rfl ?_
    refine aw_istore_n dX0_care_143 (by decide) rfl rfl ?_
    exact put _ 0 h rfl (Nat.zero_le _) (hX.eqv (by rw [xx_cL_0]; exact (mm_V_id (s := xx_cS s (sp_hn H) V 0 0) (fun j => rfl)).symm)) hs
  have in62 : ∀ (t x : Nat), t < sp_hn H → x < 2 ^ sp_hn H → (∀ h : aw_H, XC G w h (xx_cS s (sp_hn H) V (t + 1) x) → xx_same w h0 h → AW G (aw_rm 8 0 0) yX0_care cX0_care 6 (some .int) (aw_N G (xx_PoC G w h0 (some (.int (op_care H (mm_a s 45)))) (op_careS s)) 0 0) 0 0 (h) 115 [(0, .ref (w.1 0)), (1, .int (nI (sp_hn H))), (2, .int (nI t)), (3, .int (nI x)), (4, .int (nI (V (sp_hn H - t) x)))] []) → ∀ (m b : Nat) (h : aw_H), sp_hn H - b = m → b ≤ sp_hn H → XC G w h (xx_cS s (sp_hn H) V (t + 1) x) → xx_same w h0 h → AW G (aw_rm 8 0 0) yX0_care cX0_care 6 (some .int) (aw_N G (xx_PoC G w h0 (some (.int (op_care H (mm_a s 45)))) (op_careS s)) 0 0) 0 0 (h) 62 [(0, .ref (w.1 0)), (1, .int (nI (sp_hn H))), (2, .int (nI t)), (3, .int (nI x)), (4, .int (nI (sp_dk (cd t) (wt t) (V (sp_hn H - (t + 1))) x b))), (5, .int (nI b))] [] := by
    intro t x ht hx hgo m
    induction m using Nat.strongRecOn with
    | _ m ih =>
      intro b h hm hb hX hs
      by_cases hb9 : b < sp_hn H
      · have on := sp_orn hx hb9
        have v1 := Vle (sp_hn H - (t + 1)) (x ||| 2 ^ b) (by omega)
        have v2 := @sp_dk_le (cd t) (wt t) (1000 * (sp_hn H - (t + 1))) (V (sp_hn H - (t + 1))) x (fun z => by rw [hV]; exact sp_dv_le (fun t => by rw [ww]; decide) _ _) b
        have w1 := ww t
        have cf1 := xo_cf2 (s := s) (u := u) (H := H) (V := V) (t := t + 1) (T := t + 1) (x := x) hn (by omega) (Nat.le_refl _) on
        have eS : sp_dk (cd t) (wt t) (V (sp_hn H - (t + 1))) x (b + 1) = if cd t b = true ∧ x / 2 ^ b % 2 = 0 ∧ sp_dk (cd t) (wt t) (V (sp_hn H - (t + 1))) x b < V (sp_hn H - (t + 1)) (x ||| 2 ^ b) + wt t then V (sp_hn H - (t + 1)) (x ||| 2 ^ b) + wt t else sp_dk (cd t) (wt t) (V (sp_hn H - (t + 1))) x b := rfl
        have next : ∀ (h : aw_H) (v : Nat), v = sp_dk (cd t) (wt t) (V (sp_hn H - (t + 1))) x (b + 1) → XC G w h (xx_cS s (sp_hn H) V (t + 1) x) → xx_same w h0 h → AW G (aw_rm 8 0 0) yX0_care cX0_care 6 (some .int) (aw_N G (xx_PoC G w h0 (some (.int (op_care H (mm_a s 45)))) (op_careS s)) 0 0) 0 0 (h) 109 [(0, .ref (w.1 0)), (1, .int (nI (sp_hn H))), (2, .int (nI t)), (3, .int (nI x)), (4, .int (nI v)), (5, .int (nI b))] [] := by
          intro h v ev hX hs
          subst ev
          refine aw_iincN (b := 1) dX0_care_109 rfl rfl (by decide) rfl rfl ?_
          refine aw_goto (tgt := 62) dX0_care_112 (by decide) ?_
          exact ih (sp_hn H - (b + 1)) (by omega) (b + 1) h rfl (by omega) hX hs
        have eo : 1 * 2 ^ b = 2 ^ b := Nat.one_mul _
        have M2 := Nat.mod_lt (x / 2 ^ b) (y := 2) (by decide)
        refine aw_iload dX0_care_62 rfl ?_
        refine aw_iload_n dX0_care_64 rfl ?_
        refine aw_icmp_geN (tgt := 115) dX0_care_65 (by decide) (by omega) (by omega) (fun c_65 => by exfalso; omega) (fun c_65 => ?_)
        refine aw_iload_n dX0_care_68 rfl ?_
        refine aw_iload dX0_care_69 rfl ?_
        refine aw_callP (r := _) dX0_care_71 sX0_258 rfl (xp_has (by omega) (by omega)) rfl rfl ⟨Nat.le_of_ble_eq_true rfl, Nat.le_of_ble_eq_true rfl⟩ (Nat.le_of_ble_eq_true rfl) ?_
        refine aw_if_neB (tgt := 109) dX0_care_74 (by decide) (fun c_74 => ?_) (fun c_74 => ?_)
        · refine next h _ ?_ hX hs
          rw [eS]
          first
            | (rw [if_neg (fun q => by omega)]; done)
            | (rw [if_neg (fun q => c_84 q.1)]; done)
            | (by_cases zz : sp_dk (cd t) (wt t) (V (sp_hn H - (t + 1))) x b < V (sp_hn H - (t + 1)) (x ||| 2 ^ b) + wt t
               · rw [if_pos ⟨c_84, by omega, zz⟩]; omega
               · rw [if_neg (fun q => zz q.2.2)]; omega)
        · refine aw_aload_n dX0_care_77 rfl ?_
          refine aw_iload dX0_care_78 rfl ?_
          refine aw_iload_n dX0_care_80 rfl ?_
          refine xx_call0 dX0_care_81 sX0_262 rfl hW hX (hq.mv hs hX0).xh hs (cc _ b t hb9 ht) rfl (hX.1 0 (by decide)) rfl rfl ⟨Nat.le_of_ble_eq_true rfl, Nat.le_of_ble_eq_true rfl⟩ (by exact Nat.le_of_ble_eq_true rfl) (fun h hX hs => ?_)
          refine aw_if_eqB (tgt := 109) dX0_care_84 (by decide) (fun c_84 => ?_) (fun c_84 => ?_)
          · refine next h _ ?_ hX hs
            rw [eS]
            first
              | (rw [if_neg (fun q => by omega)]; done)
              | (rw [if_neg (fun q => c_84 q.1)]; done)
              | (by_cases zz : sp_dk (cd t) (wt t) (V (sp_hn H - (t + 1))) x b < V (sp_hn H - (t + 1)) (x ||| 2 ^ b) + wt t
                 · rw [if_pos ⟨c_84, by omega, zz⟩]; omega
                 · rw [if_neg (fun q => zz q.2.2)]; omega)
          · refine aw_iload dX0_care_87 rfl ?_
            refine aw_iconst (v := nI 1) dX0_care_89 rfl ?_
            refine aw_aload_n dX0_care_90 rfl ?_
            refine aw_iload_n dX0_care_91 rfl ?_
            refine aw_iconst (v := nI 1) dX0_care_92 rfl ?_
            refine aw_iaddN dX0_care_93 ?_
            refine aw_iload_n dX0_care_94 rfl ?_
            refine aw_iconst (v := nI 1) dX0_care_95 rfl ?_
            refine aw_iload dX0_care_96 rfl ?_
            refine aw_ishlN dX0_care_98 (by first | omega | exact aw_sh1 (by decide) (by omega)) (by first | omega | exact aw_sh1 (by decide) (by omega)) ?_
            refine aw_iorN dX0_care_99 ?_
            rw [eo]
            refine xx_call0 dX0_care_100 sX0_255 rfl hW hX (hq.mv hs hX0).xh hs cf1 rfl (hX.1 0 (by decide)) rfl rfl ⟨Nat.le_of_ble_eq_true rfl, Nat.le_of_ble_eq_true rfl⟩ (by exact Nat.le_of_ble_eq_true rfl) (fun h hX hs => ?_)
            refine aw_iaddN dX0_care_103 ?_
            refine aw_mmaxN dX0_care_104 q952 (by omega) (by omega) (Nat.le_of_ble_eq_true rfl) (Nat.le_of_ble_eq_true rfl) (Nat.le_of_ble_eq_true rfl) ?_
            refine aw_istore dX0_care_107 (by decide) rfl rfl ?_
            refine next h _ ?_ hX hs
            rw [eS]
            first
              | (rw [if_neg (fun q => by omega)]; done)
              | (rw [if_neg (fun q => c_84 q.1)]; done)
              | (by_cases zz : sp_dk (cd t) (wt t) (V (sp_hn H - (t + 1))) x b < V (sp_hn H - (t + 1)) (x ||| 2 ^ b) + wt t
                 · rw [if_pos ⟨c_84, by omega, zz⟩]; omega
                 · rw [if_neg (fun q => zz q.2.2)]; omega)
      · obtain rfl : b = sp_hn H := by omega
        refine aw_iload dX0_care_62 rfl ?_
        refine aw_iload_n dX0_care_64 rfl ?_
        refine aw_icmp_geN (tgt := 115) dX0_care_65 (by decide) (by omega) (by omega) (fun c_65 => ?_) (fun c_65 => by exfalso; omega)
        refine AW_ls ?_ (AW_dr (r := [(5, .int (nI (sp_hn H)))]) (hgo h hX hs))
        rw [Vat t x ht]
        rfl
  have in42 : ∀ (t : Nat), t < sp_hn H → (∀ h : aw_H, XC G w h (xx_cS s (sp_hn H) V t 0) → xx_same w h0 h → AW G (aw_rm 8 0 0) yX0_care cX0_care 6 (some .int) (aw_N G (xx_PoC G w h0 (some (.int (op_care H (mm_a s 45)))) (op_careS s)) 0 0) 0 0 (h) 134 [(0, .ref (w.1 0)), (1, .int (nI (sp_hn H))), (2, .int (nI t))] []) → ∀ (m x : Nat) (h : aw_H), 2 ^ sp_hn H - x = m → x ≤ 2 ^ sp_hn H → XC G w h (xx_cS s (sp_hn H) V (t + 1) x) → xx_same w h0 h → AW G (aw_rm 8 0 0) yX0_care cX0_care 6 (some .int) (aw_N G (xx_PoC G w h0 (some (.int (op_care H (mm_a s 45)))) (op_careS s)) 0 0) 0 0 (h) 42 [(0, .ref (w.1 0)), (1, .int (nI (sp_hn H))), (2, .int (nI t)), (3, .int (nI x))] [] := by
    intro t ht hgo m
    induction m using Nat.strongRecOn with
    | _ m ih =>
      intro x h hm hx hX hs
      by_cases hx9 : x < 2 ^ sp_hn H
      · have cf1 := xo_cf2 (s := s) (u := u) (H := H) (V := V) (t := t + 1) (T := t + 1) (x := x) hn (by omega) (Nat.le_refl _) hx9
        have ei : t * 2 ^ 8 ||| x = 256 * t + x := sp_ix (by omega)
        have back : ∀ h : aw_H, XC G w h (xx_cS s (sp_hn H) V (t + 1) x) → xx_same w h0 h → AW G (aw_rm 8 0 0) yX0_care cX0_care 6 (some .int) (aw_N G (xx_PoC G w h0 (some (.int (op_care H (mm_a s 45)))) (op_careS s)) 0 0) 0 0 (h) 115 [(0, .ref (w.1 0)), (1, .int (nI (sp_hn H))), (2, .int (nI t)), (3, .int (nI x)), (4, .int (nI (V (sp_hn H - t) x)))] [] := by
          intro h hX hs
          refine aw_aload_n dX0_care_115 rfl ?_
          refine aw_get dX0_care_116 fX0_67 rfl (hX.1 0 (by decide)) (by rfl) ?_
          refine aw_iload_n dX0_care_119 rfl ?_
          refine aw_bipush (v := nI 8) dX0_care_120 rfl ?_
          refine aw_ishlN dX0_care_122 (by omega) (by omega) ?_
          refine aw_iload_n dX0_care_123 rfl ?_
          refine aw_iorN dX0_care_124 ?_
          refine aw_iload dX0_care_125 rfl ?_
          rw [ei]
          refine xx_stA (c := 13) hW hX hs dX0_care_127 rfl (by omega) (fun h hX hs => ?_)
          have hX := xx_cSu hn (by omega) hx9 rfl hX
          refine aw_iincN (b := 1) dX0_care_128 rfl rfl (by decide) rfl rfl ?_
          refine aw_goto (tgt := 42) dX0_care_131 (by decide) ?_
          exact AW_dr (r := [(4, .int (nI (V (sp_hn H - t) x)))]) (ih (2 ^ sp_hn H - (x + 1)) (by omega) (x + 1) h rfl (by omega) hX hs)
        refine aw_iload_n dX0_care_42 rfl ?_
        refine aw_iconst (v := nI 1) dX0_care_43 rfl ?_
        refine aw_iload_n dX0_care_44 rfl ?_
        refine aw_ishlN dX0_care_45 (by omega) (by omega) ?_
        refine aw_icmp_geN (tgt := 134) dX0_care_46 (by decide) (by omega) (by omega) (fun c_46 => by exfalso; omega) (fun c_46 => ?_)
        refine aw_aload_n dX0_care_49 rfl ?_
        refine aw_iload_n dX0_care_50 rfl ?_
        refine aw_iconst (v := nI 1) dX0_care_51 rfl ?_
        refine aw_iaddN dX0_care_52 ?_
        refine aw_iload_n dX0_care_53 rfl ?_
        refine xx_call0 dX0_care_54 sX0_255 rfl hW hX (hq.mv hs hX0).xh hs cf1 rfl (hX.1 0 (by decide)) rfl rfl ⟨Nat.le_of_ble_eq_true rfl, Nat.le_of_ble_eq_true rfl⟩ (by exact Nat.le_of_ble_eq_true rfl) (fun h hX hs => ?_)
        refine aw_istore dX0_care_57 (by decide) rfl rfl ?_
        refine aw_iconst (v := nI 0) dX0_care_59 rfl ?_
        refine aw_istore dX0_care_60 (by decide) rfl rfl ?_
        exact in62 t x ht hx9 back _ 0 h rfl (Nat.zero_le _) hX hs
      · obtain rfl : x = 2 ^ sp_hn H := by omega
        refine aw_iload_n dX0_care_42 rfl ?_
        refine aw_iconst (v := nI 1) dX0_care_43 rfl ?_
        refine aw_iload_n dX0_care_44 rfl ?_
        refine aw_ishlN dX0_care_45 (by omega) (by omega) ?_
        refine aw_icmp_geN (tgt := 134) dX0_care_46 (by decide) (by omega) (by omega) (fun c_46 => ?_) (fun c_46 => by exfalso; omega)
        exact AW_dr (r := [(3, .int (nI (2 ^ sp_hn H)))]) (hgo h (xx_cSr hX) hs)
  have out36 : ∀ (T : Nat) (h : aw_H), T ≤ sp_hn H → XC G w h (xx_cS s (sp_hn H) V T 0) → xx_same w h0 h → AW G (aw_rm 8 0 0) yX0_care cX0_care 6 (some .int) (aw_N G (xx_PoC G w h0 (some (.int (op_care H (mm_a s 45)))) (op_careS s)) 0 0) 0 0 (h) 36 [(0, .ref (w.1 0)), (1, .int (nI (sp_hn H))), (2, .int (sp_cv T))] [] := by
    intro T
    induction T with
    | zero =>
      intro h hT hX hs
      rw [sp_cv0]
      refine aw_iload_n dX0_care_36 rfl ?_
      refine aw_if_lt (tgt := 140) dX0_care_37 (by decide) (fun c_37 => ?_) (fun c_37 => by exfalso; exact c_37 (by decide))
      exact go2 h _ hX hs
    | succ t ih =>
      intro h hT hX hs
      rw [sp_cv_s]
      have back : ∀ h : aw_H, XC G w h (xx_cS s (sp_hn H) V t 0) → xx_same w h0 h → AW G (aw_rm 8 0 0) yX0_care cX0_care 6 (some .int) (aw_N G (xx_PoC G w h0 (some (.int (op_care H (mm_a s 45)))) (op_careS s)) 0 0) 0 0 (h) 134 [(0, .ref (w.1 0)), (1, .int (nI (sp_hn H))), (2, .int (nI t))] [] := by
        intro h hX hs
        refine aw_iinc (v := -1) dX0_care_134 rfl rfl (by decide) rfl rfl ?_
        refine aw_goto (tgt := 36) dX0_care_137 (by decide) ?_
        refine AW_ls ?_ (ih h (by omega) hX hs)
        rw [← aw_cvs2]
        rfl
      refine aw_iload_n dX0_care_36 rfl ?_
      refine aw_if_ltN (tgt := 140) dX0_care_37 (by decide) (by omega) ?_
      refine aw_iconst (v := nI 0) dX0_care_40 rfl ?_
      refine aw_istore_n dX0_care_41 (by decide) rfl rfl ?_
      exact in42 t (by omega) back _ 0 h rfl (Nat.zero_le _) hX hs
  have in7 : ∀ (m x : Nat) (h : aw_H), 2 ^ sp_hn H - x = m → x ≤ 2 ^ sp_hn H → XC G w h (xx_cS s (sp_hn H) V (sp_hn H + 1) x) → xx_same w h0 h → AW G (aw_rm 8 0 0) yX0_care cX0_care 6 (some .int) (aw_N G (xx_PoC G w h0 (some (.int (op_care H (mm_a s 45)))) (op_careS s)) 0 0) 0 0 (h) 7 [(0, .ref (w.1 0)), (1, .int (nI (sp_hn H))), (2, .int (nI x))] [] := by
    intro m
    induction m using Nat.strongRecOn with
    | _ m ih =>
      intro x h hm hx hX hs
      by_cases hx9 : x < 2 ^ sp_hn H
      · have ei : sp_hn H * 2 ^ 8 ||| x = 256 * sp_hn H + x := sp_ix (by omega)
        refine aw_iload_n dX0_care_7 rfl ?_
        refine aw_iconst (v := nI 1) dX0_care_8 rfl ?_
        refine aw_iload_n dX0_care_9 rfl ?_
        refine aw_ishlN dX0_care_10 (by omega) (by omega) ?_
        refine aw_icmp_geN (tgt := 32) dX0_care_11 (by decide) (by omega) (by omega) (fun c_11 => by exfalso; omega) (fun c_11 => ?_)
        refine aw_aload_n dX0_care_14 rfl ?_
        refine aw_get dX0_care_15 fX0_67 rfl (hX.1 0 (by decide)) (by rfl) ?_
        refine aw_iload_n dX0_care_18 rfl ?_
        refine aw_bipush (v := nI 8) dX0_care_19 rfl ?_
        refine aw_ishlN dX0_care_21 (by omega) (by omega) ?_
        refine aw_iload_n dX0_care_22 rfl ?_
        refine aw_iorN dX0_care_23 ?_
        refine aw_iconst (v := nI 0) dX0_care_24 rfl ?_
        rw [ei]
        refine xx_stA (c := 13) hW hX hs dX0_care_25 rfl (by omega) (fun h hX hs => ?_)
        have hX := xx_cSu hn (Nat.le_refl _) hx9 (by rw [Nat.sub_self, V0]) hX
        refine aw_iincN (b := 1) dX0_care_26 rfl rfl (by decide) rfl rfl ?_
        refine aw_goto (tgt := 7) dX0_care_29 (by decide) ?_
        exact ih (2 ^ sp_hn H - (x + 1)) (by omega) (x + 1) h rfl (by omega) hX hs
      · obtain rfl : x = 2 ^ sp_hn H := by omega
        refine aw_iload_n dX0_care_7 rfl ?_
        refine aw_iconst (v := nI 1) dX0_care_8 rfl ?_
        refine aw_iload_n dX0_care_9 rfl ?_
        refine aw_ishlN dX0_care_10 (by omega) (by omega) ?_
        refine aw_icmp_geN (tgt := 32) dX0_care_11 (by decide) (by omega) (by omega) (fun c_11 => ?_) (fun c_11 => by exfalso; omega)
        refine aw_iload_n dX0_care_32 rfl ?_
        refine aw_iconst (v := nI 1) dX0_care_33 rfl ?_
        refine aw_isub dX0_care_34 ?_
        rw [aw_cvs]
        refine aw_istore_n dX0_care_35 (by decide) rfl rfl ?_
        exact out36 (sp_hn H) h (Nat.le_refl _) (xx_cSr hX) hs
  refine aw_aload_n dX0_care_0 rfl ?_
  refine xx_call0 dX0_care_1 sX0_91 rfl hW hX (hq.mv hs hX0).xh hs xo_many rfl (hX.1 0 (by decide)) rfl rfl ⟨Nat.le_of_ble_eq_true rfl, Nat.le_of_ble_eq_true rfl⟩ (by exact Nat.le_of_ble_eq_true rfl) (fun h hX hs => ?_)
  refine aw_istore_n dX0_care_4 (by decide) rfl rfl ?_
  refine aw_iconst (v := nI 0) dX0_care_5 rfl ?_
  refine aw_istore_n dX0_care_6 (by decide) rfl rfl ?_
  exact in7 _ 0 h rfl (Nat.zero_le _) (hX.eqv (by unfold xx_cS; rw [sp_cM_0, mm_A_self])) hs

