set_option maxRecDepth 100000
/-! the component: who lives where, told anew -/
/-- f for 0 .. k - 1 -/
def sp_it0 {α : Type} (f : Nat → α → α) : Nat → α → α
  | 0, x => x
  | k + 1, x => f k (sp_it0 f k x)
theorem sp_it0_P {α : Type} {f : Nat → α → α} {P : α → Prop} {K : Nat} (h : ∀ k x, k < K → P x → P (f k x)) : ∀ k x, k ≤ K → P x → P (sp_it0 f k x) := by
  intro k
  induction k with
  | zero => intro x _ hx; exact hx
  | succ k ih => intro x hk hx; exact h _ _ (by omega) (ih x (by omega) hx)
/-- it can't be better -/
abbrev sp_prn (s : mm_S) (t lo hi : Nat) : Prop := 0 < t ∧ 0 < mm_n s 52 ∧ mm_n s 71 ≤ hi - lo
def sp_gtl (s : mm_S) (n lo hi : Nat) : mm_S := mm_setV (mm_setN (mm_setN s 71 (hi - lo)) 52 n) 51 (xx_cpy (mm_setN (mm_setN s 71 (hi - lo)) 52 n) n)
/-- whose home of that storey is free: one more -/
def sp_ho (H : sp_H) (us st : Nat) : Nat := sp_fst (fun o => decide (¬ us / 2 ^ o % 2 = 1) && decide (sp_lv H o = st)) (sp_hn H)
def sp_gt (H : sp_H) : Nat → Nat → Nat → Nat → Nat → mm_S → mm_S
  | 0, t, _, lo, hi, s => if sp_prn s t lo hi then s else sp_gtl s t lo hi
  | r + 1, t, us, lo, hi, s => if sp_prn s t lo hi then s else sp_it0 (fun st s => if sp_ho H us st = 0 then s else sp_gt H r (t + 1) (us ||| 2 ^ (sp_ho H us st - 1)) (if t = 0 then 30 * st + sp_ow H t else min lo (30 * st + sp_ow H t)) (if t = 0 then 30 * st + sp_ow H t else max hi (30 * st + sp_ow H t)) (mm_setA s 72 (aw_u (mm_a s 72) t st))) (sp_hs H + 1) s
/-- what the search keeps -/
def sp_gJ (s : mm_S) : Prop := (0 < mm_n s 52 → mm_n s 71 < 100000) ∧ mm_n s 52 ≤ 8
theorem sp_gtl_J {s : mm_S} {n lo hi : Nat} (hn : n ≤ 8) (hh : hi < 100000) : sp_gJ (sp_gtl s n lo hi) := ⟨fun _ => by show hi - lo < 100000; omega, hn⟩
theorem sp_gt_J {H : sp_H} (hn : sp_hn H ≤ 8) : ∀ r t us lo hi s, t + r = sp_hn H → hi < 100000 → (∀ t st, t < sp_hn H → st ≤ sp_hs H → 30 * st + sp_ow H t < 100000) → sp_gJ s → sp_gJ (sp_gt H r t us lo hi s) := by
  intro r
  induction r with
  | zero =>
    intro t us lo hi s ht hh _ hJ
    unfold sp_gt
    split
    · exact hJ
    · exact sp_gtl_J (by omega) hh
  | succ r ih =>
    intro t us lo hi s ht hh hc hJ
    unfold sp_gt
    split
    · exact hJ
    · refine sp_it0_P (K := sp_hs H + 1) (P := sp_gJ) (fun k x hk hx => ?_) _ _ (Nat.le_refl _) hJ
      have := hc t k (by omega) (by omega)
      split
      · exact hx
      · exact ih _ _ _ _ _ (by omega) (by split <;> omega) hc hx
set_option maxHeartbeats 4000000 in
theorem xo_gt0 {s : mm_S} {H : sp_H} {u : Nat} {us lo hi : Nat} (hn8 : sp_hn H ≤ 8) (hlh : lo ≤ hi) (hhi : hi < 100000) (hJ : sp_gJ s) : xx_Met yX0_goLet cX0_goLet 8 none 6 0 0 (fun w => [.ref (w.1 0), .int (nI ((sp_hn H))), .int (nI (us)), .int (nI (lo)), .int (nI (hi))]) s H u none (sp_gt H 0 (sp_hn H) us lo hi s) := by
  refine xx_Met.of (by decide +kernel) (fun _ => Nat.le_of_ble_eq_true rfl) (fun G w h0 hW hX hH => ?_)
  have hX0 := hX
  have hs : xx_same w h0 h0 := xx_same.rf
  obtain ⟨tl, te, cap, m9, f9, tn, nm9, c9, mo9, D9, hq⟩ := hH
  show AW G (aw_rm 6 0 0) yX0_goLet cX0_goLet 8 none (aw_N G (xx_Po G w h0 none (sp_gt H 0 (sp_hn H) us lo hi s)) 0 0) 0 0 h0 0 [(0, .ref (w.1 0)), (1, .int (nI ((sp_hn H)))), (2, .int (nI (us))), (3, .int (nI (lo))), (4, .int (nI (hi)))] []
  have j1 := hJ.1
  have j2 := hJ.2
  have y1 : (0 < sp_hn H ∧ 0 < mm_n s 52 ∧ mm_n s 71 ≤ hi - lo) → sp_gt H 0 (sp_hn H) us lo hi s = s := fun z => if_pos z
  have y2 : ¬ (0 < sp_hn H ∧ 0 < mm_n s 52 ∧ mm_n s 71 ≤ hi - lo) → sp_gt H 0 (sp_hn H) us lo hi s = sp_gtl s (sp_hn H) lo hi := fun z => if_neg z
  refine aw_iload_n dX0_goLet_0 rfl ?_
  refine aw_if_leN (tgt := 23) dX0_goLet_1 (by decide) (by omega) (fun c_1 => ?_) (fun c_1 => ?_)
  · refine aw_iload_n dX0_goLet_23 rfl ?_
    refine aw_aload_n dX0_goLet_24 rfl ?_
    refine xx_call0 dX0_goLet_25 sX0_91 rfl hW hX (hq.mv hs hX0).xh hs xo_many rfl (hX.1 0 (by decide)) rfl rfl ⟨Nat.le_of_ble_eq_true rfl, Nat.le_of_ble_eq_true rfl⟩ (by exact Nat.le_of_ble_eq_true rfl) (fun h hX hs => ?_)
    refine aw_icmp_neN (tgt := 59) dX0_goLet_28 (by decide) (by omega) (by omega) (fun c_28 => by exfalso; omega) (fun c_28 => ?_)
    refine aw_aload_n dX0_goLet_31 rfl ?_
    refine aw_iload dX0_goLet_32 rfl ?_
    refine aw_iload_n dX0_goLet_34 rfl ?_
    refine aw_isubN dX0_goLet_35 (by omega) ?_
    refine xx_put0 (k := 71) hW hX hs dX0_goLet_36 (pX0_302 _) rfl rfl (by decide) (by decide) (by decide) rfl (fun h hX hs => ?_)
    refine aw_aload_n dX0_goLet_39 rfl ?_
    refine aw_iload_n dX0_goLet_40 rfl ?_
    refine xx_put0 (k := 52) hW hX hs dX0_goLet_41 (pX0_132 _) rfl rfl (by decide) (by decide) (by decide) rfl (fun h hX hs => ?_)
    refine aw_aload_n dX0_goLet_44 rfl ?_
    refine aw_get dX0_goLet_45 fX0_64 rfl (hX.1 0 (by decide)) (by rfl) ?_
    refine aw_iconst (v := nI 0) dX0_goLet_48 rfl ?_
    refine aw_aload_n dX0_goLet_49 rfl ?_
    refine aw_get dX0_goLet_50 fX0_60 rfl (hX.1 0 (by decide)) (by rfl) ?_
    refine aw_iconst (v := nI 0) dX0_goLet_53 rfl ?_
    refine aw_iload_n dX0_goLet_54 rfl ?_
    refine xx_cpL dX0_goLet_55 q1039 hW hX hs hn8 (Nat.le_of_ble_eq_true rfl) (Nat.le_of_ble_eq_true rfl) (by exact Nat.le_of_ble_eq_true rfl) (fun h hX hs => ?_)
    refine aw_vreturn dX0_goLet_58 rfl ?_
    first
      | exact ⟨rfl, hX.eqv (y1 (by omega)).symm, hs⟩
      | exact ⟨rfl, hX.eqv (y2 (by omega)).symm, hs⟩
  · refine aw_aload_n dX0_goLet_4 rfl ?_
    refine aw_get dX0_goLet_5 fX0_132 rfl (hX.1 0 (by decide)) (by rfl) ?_
    refine aw_if_leN (tgt := 23) dX0_goLet_8 (by decide) (by omega) (fun c_8 => ?_) (fun c_8 => ?_)
    · refine aw_iload_n dX0_goLet_23 rfl ?_
      refine aw_aload_n dX0_goLet_24 rfl ?_
      refine xx_call0 dX0_goLet_25 sX0_91 rfl hW hX (hq.mv hs hX0).xh hs xo_many rfl (hX.1 0 (by decide)) rfl rfl ⟨Nat.le_of_ble_eq_true rfl, Nat.le_of_ble_eq_true rfl⟩ (by exact Nat.le_of_ble_eq_true rfl) (fun h hX hs => ?_)
      refine aw_icmp_neN (tgt := 59) dX0_goLet_28 (by decide) (by omega) (by omega) (fun c_28 => by exfalso; omega) (fun c_28 => ?_)
      refine aw_aload_n dX0_goLet_31 rfl ?_
      refine aw_iload dX0_goLet_32 rfl ?_
      refine aw_iload_n dX0_goLet_34 rfl ?_
      refine aw_isubN dX0_goLet_35 (by omega) ?_
      refine xx_put0 (k := 71) hW hX hs dX0_goLet_36 (pX0_302 _) rfl rfl (by decide) (by decide) (by decide) rfl (fun h hX hs => ?_)
      refine aw_aload_n dX0_goLet_39 rfl ?_
      refine aw_iload_n dX0_goLet_40 rfl ?_
      refine xx_put0 (k := 52) hW hX hs dX0_goLet_41 (pX0_132 _) rfl rfl (by decide) (by decide) (by decide) rfl (fun h hX hs => ?_)
      refine aw_aload_n dX0_goLet_44 rfl ?_
      refine aw_get dX0_goLet_45 fX0_64 rfl (hX.1 0 (by decide)) (by rfl) ?_
      refine aw_iconst (v := nI 0) dX0_goLet_48 rfl ?_
      refine aw_aload_n dX0_goLet_49 rfl ?_
      refine aw_get dX0_goLet_50 fX0_60 rfl (hX.1 0 (by decide)) (by rfl) ?_
      refine aw_iconst (v := nI 0) dX0_goLet_53 rfl ?_
      refine aw_iload_n dX0_goLet_54 rfl ?_
      refine xx_cpL dX0_goLet_55 q1039 hW hX hs hn8 (Nat.le_of_ble_eq_true rfl) (Nat.le_of_ble_eq_true rfl) (by exact Nat.le_of_ble_eq_true rfl) (fun h hX hs => ?_)
      refine aw_vreturn dX0_goLet_58 rfl ?_
      first
        | exact ⟨rfl, hX.eqv (y1 (by omega)).symm, hs⟩
        | exact ⟨rfl, hX.eqv (y2 (by omega)).symm, hs⟩
    · refine aw_iload dX0_goLet_11 rfl ?_
      refine aw_iload_n dX0_goLet_13 rfl ?_
      refine aw_isubN dX0_goLet_14 (by omega) ?_
      refine aw_aload_n dX0_goLet_15 rfl ?_
      refine aw_get dX0_goLet_16 fX0_302 rfl (hX.1 0 (by decide)) (by rfl) ?_
      refine aw_icmp_ltN (tgt := 23) dX0_goLet_19 (by decide) (by omega) (by omega) (fun c_19 => ?_) (fun c_19 => ?_)
      · refine aw_iload_n dX0_goLet_23 rfl ?_
        refine aw_aload_n dX0_goLet_24 rfl ?_
        refine xx_call0 dX0_goLet_25 sX0_91 rfl hW hX (hq.mv hs hX0).xh hs xo_many rfl (hX.1 0 (by decide)) rfl rfl ⟨Nat.le_of_ble_eq_true rfl, Nat.le_of_ble_eq_true rfl⟩ (by exact Nat.le_of_ble_eq_true rfl) (fun h hX hs => ?_)
        refine aw_icmp_neN (tgt := 59) dX0_goLet_28 (by decide) (by omega) (by omega) (fun c_28 => by exfalso; omega) (fun c_28 => ?_)
        refine aw_aload_n dX0_goLet_31 rfl ?_
        refine aw_iload dX0_goLet_32 rfl ?_
        refine aw_iload_n dX0_goLet_34 rfl ?_
        refine aw_isubN dX0_goLet_35 (by omega) ?_
        refine xx_put0 (k := 71) hW hX hs dX0_goLet_36 (pX0_302 _) rfl rfl (by decide) (by decide) (by decide) rfl (fun h hX hs => ?_)
        refine aw_aload_n dX0_goLet_39 rfl ?_
        refine aw_iload_n dX0_goLet_40 rfl ?_
        refine xx_put0 (k := 52) hW hX hs dX0_goLet_41 (pX0_132 _) rfl rfl (by decide) (by decide) (by decide) rfl (fun h hX hs => ?_)
        refine aw_aload_n dX0_goLet_44 rfl ?_
        refine aw_get dX0_goLet_45 fX0_64 rfl (hX.1 0 (by decide)) (by rfl) ?_
        refine aw_iconst (v := nI 0) dX0_goLet_48 rfl ?_
        refine aw_aload_n dX0_goLet_49 rfl ?_
        refine aw_get dX0_goLet_50 fX0_60 rfl (hX.1 0 (by decide)) (by rfl) ?_
        refine aw_iconst (v := nI 0) dX0_goLet_53 rfl ?_
        refine aw_iload_n dX0_goLet_54 rfl ?_
        refine xx_cpL dX0_goLet_55 q1039 hW hX hs hn8 (Nat.le_of_ble_eq_true rfl) (Nat.le_of_ble_eq_true rfl) (by exact Nat.le_of_ble_eq_true rfl) (fun h hX hs => ?_)
        refine aw_vreturn dX0_goLet_58 rfl ?_
        first
          | exact ⟨rfl, hX.eqv (y1 (by omega)).symm, hs⟩
          | exact ⟨rfl, hX.eqv (y2 (by omega)).symm, hs⟩
      · refine aw_vreturn dX0_goLet_22 rfl ?_
        first
          | exact ⟨rfl, hX.eqv (y1 (by omega)).symm, hs⟩
          | exact ⟨rfl, hX.eqv (y2 (by omega)).symm, hs⟩
set_option maxHeartbeats 4000000 in
theorem xo_gtS {s : mm_S} {H : sp_H} {u : Nat} {f r t us lo hi : Nat} (hOK : sp_okH H) (h5 : 5 ≤ f) (ht : t + (r + 1) = sp_hn H) (hus : us < 256) (hlh : lo ≤ hi) (hhi : hi ≤ 1599) (hJ : sp_gJ s) (ih : ∀ (us lo hi : Nat) (s : mm_S), us < 256 → lo ≤ hi → hi ≤ 1599 → sp_gJ s → xx_Met yX0_goLet cX0_goLet 8 none f 0 0 (fun w => [.ref (w.1 0), .int (nI (t + 1)), .int (nI us), .int (nI lo), .int (nI hi)]) s H u none (sp_gt H r (t + 1) us lo hi s)) : xx_Met yX0_goLet cX0_goLet 8 none (f+1) 0 0 (fun w => [.ref (w.1 0), .int (nI (t)), .int (nI (us)), .int (nI (lo)), .int (nI (hi))]) s H u none (sp_gt H (r + 1) t us lo hi s) := by
  refine xx_Met.of (by decide +kernel) (fun _ => Nat.le_of_ble_eq_true rfl) (fun G w h0 hW hX hH => ?_)
  have hX0 := hX
  have hs : xx_same w h0 h0 := xx_same.rf
  obtain ⟨tl, te, cap, m9, f9, tn, nm9, c9, mo9, D9, hq⟩ := hH
  show AW G (aw_rm (f+1) 0 0) yX0_goLet cX0_goLet 8 none (aw_N G (xx_Po G w h0 none (sp_gt H (r + 1) t us lo hi s)) 0 0) 0 0 h0 0 [(0, .ref (w.1 0)), (1, .int (nI (t))), (2, .int (nI (us))), (3, .int (nI (lo))), (4, .int (nI (hi)))] []
  have hs1 : 1 ≤ sp_hs H := hOK.1.1; have hs20 : sp_hs H ≤ 20 := hOK.1.2; have hn : sp_hn H ≤ 8 := hOK.2.1; have hlv : ∀ t, t < 8 → sp_lv H t ≤ 20 := fun t ht => (hOK.2.2.1 t ht).1; have hsg : ∀ t, t < 8 → sp_sg8 H t ≤ 40 := fun t ht => (hOK.2.2.1 t ht).2.1; have hhv : ∀ t, t < 8 → sp_hv H t ≤ 9 := fun t ht => (hOK.2.2.1 t ht).2.2.1; have how : ∀ t, t < 8 → sp_ow H t ≤ 999 := fun t ht => (hOK.2.2.1 t ht).2.2.2.1; have hfl : ∀ t, t < 8 → sp_fl H t ≤ 100 := fun t ht => (hOK.2.2.1 t ht).2.2.2.2
  have j1 := hJ.1
  have j2 := hJ.2
  have ot := how t (by omega)
  obtain ⟨F, hF⟩ : ∃ F : Nat → mm_S → mm_S, F = (fun st s => if sp_ho H us st = 0 then s else sp_gt H r (t + 1) (us ||| 2 ^ (sp_ho H us st - 1)) (if t = 0 then 30 * st + sp_ow H t else min lo (30 * st + sp_ow H t)) (if t = 0 then 30 * st + sp_ow H t else max hi (30 * st + sp_ow H t)) (mm_setA s 72 (aw_u (mm_a s 72) t st))) := ⟨_, rfl⟩
  have y1 : (0 < t ∧ 0 < mm_n s 52 ∧ mm_n s 71 ≤ hi - lo) → sp_gt H (r + 1) t us lo hi s = s := fun z => if_pos z
  have y2 : ¬ (0 < t ∧ 0 < mm_n s 52 ∧ mm_n s 71 ≤ hi - lo) → sp_gt H (r + 1) t us lo hi s = sp_it0 F (sp_hs H + 1) s := fun z => by rw [hF]; exact if_neg z
  obtain ⟨S2, hS2⟩ : ∃ S2, S2 = sp_gt H (r + 1) t us lo hi s := ⟨_, rfl⟩
  rw [← hS2] at y1 y2 ⊢
  have bd : ∀ t st, t < sp_hn H → st ≤ sp_hs H → 30 * st + sp_ow H t < 100000 := fun t st ht hst => by have := how t (by omega); omega
  have SJ : ∀ k, k ≤ sp_hs H + 1 → sp_gJ (sp_it0 F k s) := fun k hk => sp_it0_P (K := sp_hs H + 1) (P := sp_gJ) (fun k x hk hx => by
    have := bd t k (by omega) (by omega)
    rw [hF]
    dsimp only
    split
    · exact hx
    · exact sp_gt_J hn _ _ _ _ _ _ (by omega) (by split <;> omega) bd hx) k s hk hJ
  have wh : ∀ (st : Nat) (s1 : mm_S), st ≤ sp_hs H → (∀ (h : aw_H) (o : Nat), o ≤ sp_hn H → sp_ho H us st = (if o < sp_hn H then o + 1 else 0) → XC G w h s1 → xx_same w h0 h → AW G (aw_rm (f+1) 0 0) yX0_goLet cX0_goLet 8 none (aw_N G (xx_Po G w h0 none (S2)) 0 0) 0 0 (h) 124 [(0, .ref (w.1 0)), (1, .int (nI t)), (2, .int (nI us)), (3, .int (nI lo)), (4, .int (nI hi)), (5, .int (nI st)), (6, .int (nI o))] []) → ∀ (m o : Nat) (h : aw_H), sp_hn H - o = m → o ≤ sp_hn H → (∀ j, j < o → (decide (¬ us / 2 ^ j % 2 = 1) && decide (sp_lv H j = st)) = false) → XC G w h s1 → xx_same w h0 h → AW G (aw_rm (f+1) 0 0) yX0_goLet cX0_goLet 8 none (aw_N G (xx_Po G w h0 none (S2)) 0 0) 0 0 (h) 77 [(0, .ref (w.1 0)), (1, .int (nI t)), (2, .int (nI us)), (3, .int (nI lo)), (4, .int (nI hi)), (5, .int (nI st)), (6, .int (nI o))] [] := by
    intro st s1 hst hgo m
    induction m using Nat.strongRecOn with
    | _ m ihm =>
      intro o h hm ho hno hX hs
      by_cases ho9 : o < sp_hn H
      · have lo9 := hlv o (by omega)
        have next : ∀ h : aw_H, (decide (¬ us / 2 ^ o % 2 = 1) && decide (sp_lv H o = st)) = false → XC G w h s1 → xx_same w h0 h → AW G (aw_rm (f+1) 0 0) yX0_goLet cX0_goLet 8 none (aw_N G (xx_Po G w h0 none (S2)) 0 0) 0 0 (h) 118 [(0, .ref (w.1 0)), (1, .int (nI t)), (2, .int (nI us)), (3, .int (nI lo)), (4, .int (nI hi)), (5, .int (nI st)), (6, .int (nI o))] [] := by
          intro h e hX hs
          refine aw_iincN (b := 1) dX0_goLet_118 rfl rfl (by decide) rfl rfl ?_
          refine aw_goto (tgt := 77) dX0_goLet_121 (by decide) ?_
          refine ihm (sp_hn H - (o + 1)) (by omega) (o + 1) h rfl (by omega) (fun j hj => ?_) hX hs
          by_cases e2 : j = o
          · subst e2; exact e
          · exact hno j (by omega)
        refine aw_iload dX0_goLet_77 rfl ?_
        refine aw_aload_n dX0_goLet_79 rfl ?_
        refine xx_call0 dX0_goLet_80 sX0_91 rfl hW hX (hq.mv hs hX0).xh hs xo_many rfl (hX.1 0 (by decide)) rfl rfl ⟨by show _ ≤ (f+1); omega, by show _ ≤ 64 * (f+1); omega⟩ (by exact Nat.le_of_ble_eq_true rfl) (fun h hX hs => ?_)
        refine aw_icmp_geN (tgt := 124) dX0_goLet_83 (by decide) (by omega) (by omega) (fun c_83 => by exfalso; omega) (fun c_83 => ?_)
        refine aw_iload_n dX0_goLet_86 rfl ?_
        refine aw_iload dX0_goLet_87 rfl ?_
        refine aw_callP (r := _) dX0_goLet_89 sX0_258 rfl (xp_has (by omega) (by omega)) rfl rfl ⟨by show _ ≤ (f+1); omega, by show _ ≤ 64 * (f+1); omega⟩ (Nat.le_of_ble_eq_true rfl) ?_
        refine aw_if_neB (tgt := 118) dX0_goLet_92 (by decide) (fun c_92 => ?_) (fun c_92 => ?_)
        · refine next h ?_ hX hs
          first
            | (rw [decide_eq_false (show ¬ ¬ us / 2 ^ o % 2 = 1 from fun q => q (by assumption)), Bool.false_and]; done)
            | (rw [decide_eq_false (show ¬ sp_lv H o = st by omega), Bool.and_false]; done)
        · refine aw_aload_n dX0_goLet_95 rfl ?_
          refine aw_get dX0_goLet_96 fX0_19 rfl (hX.1 0 (by decide)) (by rfl) ?_
          refine aw_get dX0_goLet_99 fX0_95 rfl (hq.mv hs hX0).1 (by rfl) ?_
          refine aw_iload dX0_goLet_102 rfl ?_
          refine xx_get dX0_goLet_104 sX0_98 rfl (hq.mv hs hX0) (by omega) ⟨by show _ ≤ (f+1); omega, by show _ ≤ 64 * (f+1); omega⟩ (by exact Nat.le_of_ble_eq_true rfl) ?_
          refine aw_castS (y := yX0_goLet) dX0_goLet_107 q378 aw_cl7 ((hq.mv hs hX0).ten (by omega)) ?_
          refine aw_get dX0_goLet_110 fX0_192 rfl ((hq.mv hs hX0).ten (by omega)) (by rfl) ?_
          refine aw_iload dX0_goLet_113 rfl ?_
          refine aw_icmp_eqN (tgt := 124) dX0_goLet_115 (by decide) (by omega) (by omega) (fun c_115 => ?_) (fun c_115 => ?_)
          · refine hgo h o ho ?_ hX hs
            rw [if_pos ho9]
            refine sp_fst_yes ho9 hno ?_
            rw [decide_eq_true (show ¬ us / 2 ^ o % 2 = 1 by assumption), decide_eq_true (show sp_lv H o = st by omega)]
            rfl
          · refine next h ?_ hX hs
            first
              | (rw [decide_eq_false (show ¬ ¬ us / 2 ^ o % 2 = 1 from fun q => q (by assumption)), Bool.false_and]; done)
              | (rw [decide_eq_false (show ¬ sp_lv H o = st by omega), Bool.and_false]; done)
      · obtain rfl : o = sp_hn H := by omega
        refine aw_iload dX0_goLet_77 rfl ?_
        refine aw_aload_n dX0_goLet_79 rfl ?_
        refine xx_call0 dX0_goLet_80 sX0_91 rfl hW hX (hq.mv hs hX0).xh hs xo_many rfl (hX.1 0 (by decide)) rfl rfl ⟨by show _ ≤ (f+1); omega, by show _ ≤ 64 * (f+1); omega⟩ (by exact Nat.le_of_ble_eq_true rfl) (fun h hX hs => ?_)
        refine aw_icmp_geN (tgt := 124) dX0_goLet_83 (by decide) (by omega) (by omega) (fun c_83 => ?_) (fun c_83 => by exfalso; omega)
        refine hgo h _ (Nat.le_refl _) ?_ hX hs
        rw [if_neg (Nat.lt_irrefl _)]
        exact sp_fst_no hno
  have loop : sp_it0 F (sp_hs H + 1) s = S2 → ∀ (m st : Nat) (h : aw_H), sp_hs H + 1 - st = m → st ≤ sp_hs H + 1 → XC G w h (sp_it0 F st s) → xx_same w h0 h → AW G (aw_rm (f+1) 0 0) yX0_goLet cX0_goLet 8 none (aw_N G (xx_Po G w h0 none (S2)) 0 0) 0 0 (h) 62 [(0, .ref (w.1 0)), (1, .int (nI t)), (2, .int (nI us)), (3, .int (nI lo)), (4, .int (nI hi)), (5, .int (nI st))] [] := by
    intro eF m
    induction m using Nat.strongRecOn with
    | _ m ihm =>
      intro st h hm hst hX hs
      by_cases hst9 : st < sp_hs H + 1
      · have eo := bd t st (by omega) (by omega)
        have eSt : sp_it0 F (st + 1) s = F st (sp_it0 F st s) := rfl
        have sj := SJ st hst
        generalize sp_it0 F st s = s1 at hX eSt sj
        have next : ∀ (h : aw_H) (z : Int32) (lsx : List (Nat × Value)), XC G w h (sp_it0 F (st + 1) s) → xx_same w h0 h → AW G (aw_rm (f+1) 0 0) yX0_goLet cX0_goLet 8 none (aw_N G (xx_Po G w h0 none (S2)) 0 0) 0 0 (h) 197 [(0, .ref (w.1 0)), (1, .int (nI t)), (2, .int (nI us)), (3, .int (nI lo)), (4, .int (nI hi)), (5, .int (nI st))] [] := by
          intro h z lsx hX hs
          refine aw_iincN (b := 1) dX0_goLet_197 rfl rfl (by decide) rfl rfl ?_
          refine aw_goto (tgt := 62) dX0_goLet_200 (by decide) ?_
          exact ihm (sp_hs H + 1 - (st + 1)) (by omega) (st + 1) h rfl (by omega) hX hs
        have at124 : ∀ (h : aw_H) (o : Nat), o ≤ sp_hn H → sp_ho H us st = (if o < sp_hn H then o + 1 else 0) → XC G w h s1 → xx_same w h0 h → AW G (aw_rm (f+1) 0 0) yX0_goLet cX0_goLet 8 none (aw_N G (xx_Po G w h0 none (S2)) 0 0) 0 0 (h) 124 [(0, .ref (w.1 0)), (1, .int (nI t)), (2, .int (nI us)), (3, .int (nI lo)), (4, .int (nI hi)), (5, .int (nI st)), (6, .int (nI o))] [] := by
          intro h o ho eho hX hs
          by_cases ho9 : o < sp_hn H
          · rw [if_pos ho9] at eho
            have eF1 : F st s1 = sp_gt H r (t + 1) (us ||| 2 ^ o) (if t = 0 then 30 * st + sp_ow H t else min lo (30 * st + sp_ow H t)) (if t = 0 then 30 * st + sp_ow H t else max hi (30 * st + sp_ow H t)) (mm_setA s1 72 (aw_u (mm_a s1 72) t st)) := by
              rw [hF]
              dsimp only
              rw [eho, if_neg (Nat.succ_ne_zero o), Nat.add_sub_cancel]
            have eo1 : 1 * 2 ^ o = 2 ^ o := Nat.one_mul _
            have u8 := sp_or8 hus (show o < 8 by omega)
            by_cases ht0 : t = 0
            · have cal := (ih (us ||| 2 ^ o) (30 * st + sp_ow H t) (30 * st + sp_ow H t) (mm_setA s1 72 (aw_u (mm_a s1 72) t st)) u8 (Nat.le_refl _) (by omega) (show sp_gJ (mm_setA s1 72 (aw_u (mm_a s1 72) t st)) from sj)).eqv rfl (show _ = sp_it0 F (st + 1) s by rw [eSt, eF1, if_pos ht0, if_pos ht0])
              refine aw_iload dX0_goLet_124 rfl ?_
              refine aw_aload_n dX0_goLet_126 rfl ?_
              refine xx_call0 dX0_goLet_127 sX0_91 rfl hW hX (hq.mv hs hX0).xh hs xo_many rfl (hX.1 0 (by decide)) rfl rfl ⟨by show _ ≤ (f+1); omega, by show _ ≤ 64 * (f+1); omega⟩ (by exact Nat.le_of_ble_eq_true rfl) (fun h hX hs => ?_)
              refine aw_icmp_neN (tgt := 136) dX0_goLet_130 (by decide) (by omega) (by omega) (fun c_130 => ?_) (fun c_130 => by exfalso; omega)
              refine aw_aload_n dX0_goLet_136 rfl ?_
              refine aw_get dX0_goLet_137 fX0_64 rfl (hX.1 0 (by decide)) (by rfl) ?_
              refine aw_iload_n dX0_goLet_140 rfl ?_
              refine aw_iload dX0_goLet_141 rfl ?_
              refine xx_stA (c := 12) hW hX hs dX0_goLet_143 rfl (by omega) (fun h hX hs => ?_)
              refine aw_aload_n dX0_goLet_144 rfl ?_
              refine aw_iload_n dX0_goLet_145 rfl ?_
              refine aw_iload dX0_goLet_146 rfl ?_
              refine xx_call0 dX0_goLet_148 sX0_305 rfl hW hX (hq.mv hs hX0).xh hs (xo_costs (s := mm_setA s1 72 (aw_u (mm_a s1 72) t st)) hn (by omega)) rfl (hX.1 0 (by decide)) rfl rfl ⟨by show _ ≤ (f+1); omega, by show _ ≤ 64 * (f+1); omega⟩ (by exact Nat.le_of_ble_eq_true rfl) (fun h hX hs => ?_)
              try simp only [mm_n_N, mm_n_A, mm_n_V, mm_n_Fp, mm_n_W, mm_n_Nm, mm_a_N, mm_a_A, mm_a_V, mm_a_Fp, mm_a_W, mm_a_Nm, mm_v_N, mm_v_A, mm_v_V, mm_fp_N, mm_fp_A, mm_fp_Fp, mm_w_N, mm_w_W, Nat.reduceEqDiff, reduceIte, if_true, if_false, mm_H_45, mm_H_46, mm_H_47, mm_H_50, mm_H_53, mm_H_54, mm_H_55, mm_H_56, mm_H_57, mm_H_58, mm_H_66, mm_H_67, mm_H_68, eq_self]
              refine aw_istore dX0_goLet_151 (by decide) rfl rfl ?_
              refine aw_aload_n dX0_goLet_153 rfl ?_
              refine aw_iload_n dX0_goLet_154 rfl ?_
              refine aw_iconst (v := nI 1) dX0_goLet_155 rfl ?_
              refine aw_iaddN dX0_goLet_156 ?_
              refine aw_iload_n dX0_goLet_157 rfl ?_
              refine aw_iconst (v := nI 1) dX0_goLet_158 rfl ?_
              refine aw_iload dX0_goLet_159 rfl ?_
              refine aw_ishlN dX0_goLet_161 (by first | omega | exact aw_sh1 (by decide) (by omega)) (by first | omega | exact aw_sh1 (by decide) (by omega)) ?_
              refine aw_iorN dX0_goLet_162 ?_
              rw [eo1]
              refine aw_iload_n dX0_goLet_163 rfl ?_
              refine aw_if_neN (tgt := 172) dX0_goLet_164 (by decide) (by omega) (fun c_164 => by exfalso; omega) (fun c_164 => ?_)
              refine aw_iload dX0_goLet_167 rfl ?_
              refine aw_goto (tgt := 178) dX0_goLet_169 (by decide) ?_
              refine aw_iload_n dX0_goLet_178 rfl ?_
              refine aw_if_neN (tgt := 187) dX0_goLet_179 (by decide) (by omega) (fun c_179 => by exfalso; omega) (fun c_179 => ?_)
              refine aw_iload dX0_goLet_182 rfl ?_
              refine aw_goto (tgt := 194) dX0_goLet_184 (by decide) ?_
              refine xx_call0 dX0_goLet_194 sX0_308 rfl hW hX (hq.mv hs hX0).xh hs cal rfl (hX.1 0 (by decide)) rfl rfl ⟨Nat.le_refl _, by show _ ≤ 64 * (f + 1); omega⟩ (by exact Nat.le_of_ble_eq_true rfl) (fun h hX hs => ?_)
              exact AW_dr (r := [(6, .int (nI o)), (7, .int (nI (30 * st + sp_ow H t)))]) (next h 0 [] hX hs)
            · have cal := (ih (us ||| 2 ^ o) (min lo (30 * st + sp_ow H t)) (max hi (30 * st + sp_ow H t)) (mm_setA s1 72 (aw_u (mm_a s1 72) t st)) u8 (by omega) (by omega) (show sp_gJ (mm_setA s1 72 (aw_u (mm_a s1 72) t st)) from sj)).eqv rfl (show _ = sp_it0 F (st + 1) s by rw [eSt, eF1, if_neg ht0, if_neg ht0])
              refine aw_iload dX0_goLet_124 rfl ?_
              refine aw_aload_n dX0_goLet_126 rfl ?_
              refine xx_call0 dX0_goLet_127 sX0_91 rfl hW hX (hq.mv hs hX0).xh hs xo_many rfl (hX.1 0 (by decide)) rfl rfl ⟨by show _ ≤ (f+1); omega, by show _ ≤ 64 * (f+1); omega⟩ (by exact Nat.le_of_ble_eq_true rfl) (fun h hX hs => ?_)
              refine aw_icmp_neN (tgt := 136) dX0_goLet_130 (by decide) (by omega) (by omega) (fun c_130 => ?_) (fun c_130 => by exfalso; omega)
              refine aw_aload_n dX0_goLet_136 rfl ?_
              refine aw_get dX0_goLet_137 fX0_64 rfl (hX.1 0 (by decide)) (by rfl) ?_
              refine aw_iload_n dX0_goLet_140 rfl ?_
              refine aw_iload dX0_goLet_141 rfl ?_
              refine xx_stA (c := 12) hW hX hs dX0_goLet_143 rfl (by omega) (fun h hX hs => ?_)
              refine aw_aload_n dX0_goLet_144 rfl ?_
              refine aw_iload_n dX0_goLet_145 rfl ?_
              refine aw_iload dX0_goLet_146 rfl ?_
              refine xx_call0 dX0_goLet_148 sX0_305 rfl hW hX (hq.mv hs hX0).xh hs (xo_costs (s := mm_setA s1 72 (aw_u (mm_a s1 72) t st)) hn (by omega)) rfl (hX.1 0 (by decide)) rfl rfl ⟨by show _ ≤ (f+1); omega, by show _ ≤ 64 * (f+1); omega⟩ (by exact Nat.le_of_ble_eq_true rfl) (fun h hX hs => ?_)
              try simp only [mm_n_N, mm_n_A, mm_n_V, mm_n_Fp, mm_n_W, mm_n_Nm, mm_a_N, mm_a_A, mm_a_V, mm_a_Fp, mm_a_W, mm_a_Nm, mm_v_N, mm_v_A, mm_v_V, mm_fp_N, mm_fp_A, mm_fp_Fp, mm_w_N, mm_w_W, Nat.reduceEqDiff, reduceIte, if_true, if_false, mm_H_45, mm_H_46, mm_H_47, mm_H_50, mm_H_53, mm_H_54, mm_H_55, mm_H_56, mm_H_57, mm_H_58, mm_H_66, mm_H_67, mm_H_68, eq_self]
              refine aw_istore dX0_goLet_151 (by decide) rfl rfl ?_
              refine aw_aload_n dX0_goLet_153 rfl ?_
              refine aw_iload_n dX0_goLet_154 rfl ?_
              refine aw_iconst (v := nI 1) dX0_goLet_155 rfl ?_
              refine aw_iaddN dX0_goLet_156 ?_
              refine aw_iload_n dX0_goLet_157 rfl ?_
              refine aw_iconst (v := nI 1) dX0_goLet_158 rfl ?_
              refine aw_iload dX0_goLet_159 rfl ?_
              refine aw_ishlN dX0_goLet_161 (by first | omega | exact aw_sh1 (by decide) (by omega)) (by first | omega | exact aw_sh1 (by decide) (by omega)) ?_
              refine aw_iorN dX0_goLet_162 ?_
              rw [eo1]
              refine aw_iload_n dX0_goLet_163 rfl ?_
              refine aw_if_neN (tgt := 172) dX0_goLet_164 (by decide) (by omega) (fun c_164 => ?_) (fun c_164 => by exfalso; omega)
              refine aw_iload_n dX0_goLet_172 rfl ?_
              refine aw_iload dX0_goLet_173 rfl ?_
              refine aw_mminN dX0_goLet_175 q951 (by omega) (by omega) (Nat.le_of_ble_eq_true rfl) (Nat.le_of_ble_eq_true rfl) (Nat.le_of_ble_eq_true rfl) ?_
              refine aw_iload_n dX0_goLet_178 rfl ?_
              refine aw_if_neN (tgt := 187) dX0_goLet_179 (by decide) (by omega) (fun c_179 => ?_) (fun c_179 => by exfalso; omega)
              refine aw_iload dX0_goLet_187 rfl ?_
              refine aw_iload dX0_goLet_189 rfl ?_
              refine aw_mmaxN dX0_goLet_191 q952 (by omega) (by omega) (Nat.le_of_ble_eq_true rfl) (Nat.le_of_ble_eq_true rfl) (Nat.le_of_ble_eq_true rfl) ?_
              refine xx_call0 dX0_goLet_194 sX0_308 rfl hW hX (hq.mv hs hX0).xh hs cal rfl (hX.1 0 (by decide)) rfl rfl ⟨Nat.le_refl _, by show _ ≤ 64 * (f + 1); omega⟩ (by exact Nat.le_of_ble_eq_true rfl) (fun h hX hs => ?_)
              exact AW_dr (r := [(6, .int (nI o)), (7, .int (nI (30 * st + sp_ow H t)))]) (next h 0 [] hX hs)
          · obtain rfl : o = sp_hn H := by omega
            rw [if_neg ho9] at eho
            have eF1 : F st s1 = s1 := by
              rw [hF]
              dsimp only
              rw [eho, if_pos rfl]
            refine aw_iload dX0_goLet_124 rfl ?_
            refine aw_aload_n dX0_goLet_126 rfl ?_
            refine xx_call0 dX0_goLet_127 sX0_91 rfl hW hX (hq.mv hs hX0).xh hs xo_many rfl (hX.1 0 (by decide)) rfl rfl ⟨by show _ ≤ (f+1); omega, by show _ ≤ 64 * (f+1); omega⟩ (by exact Nat.le_of_ble_eq_true rfl) (fun h hX hs => ?_)
            refine aw_icmp_neN (tgt := 136) dX0_goLet_130 (by decide) (by omega) (by omega) (fun c_130 => by exfalso; omega) (fun c_130 => ?_)
            refine aw_goto (tgt := 197) dX0_goLet_133 (by decide) ?_
            exact AW_dr (r := [(6, .int (nI (sp_hn H)))]) (next h 0 [] (hX.eqv (by rw [eSt, eF1])) hs)
        refine aw_iload dX0_goLet_62 rfl ?_
        refine aw_aload_n dX0_goLet_64 rfl ?_
        refine aw_get dX0_goLet_65 fX0_19 rfl (hX.1 0 (by decide)) (by rfl) ?_
        refine aw_get dX0_goLet_68 fX0_208 rfl (hq.mv hs hX0).1 (by rfl) ?_
        refine aw_icmp_gtN (tgt := 203) dX0_goLet_71 (by decide) (by omega) (by omega) (fun c_71 => by exfalso; omega) (fun c_71 => ?_)
        refine aw_iconst (v := nI 0) dX0_goLet_74 rfl ?_
        refine aw_istore dX0_goLet_75 (by decide) rfl rfl ?_
        exact wh st s1 (by omega) at124 _ 0 h rfl (Nat.zero_le _) (fun j hj => absurd hj (Nat.not_lt_zero _)) hX hs
      · obtain rfl : st = sp_hs H + 1 := by omega
        refine aw_iload dX0_goLet_62 rfl ?_
        refine aw_aload_n dX0_goLet_64 rfl ?_
        refine aw_get dX0_goLet_65 fX0_19 rfl (hX.1 0 (by decide)) (by rfl) ?_
        refine aw_get dX0_goLet_68 fX0_208 rfl (hq.mv hs hX0).1 (by rfl) ?_
        refine aw_icmp_gtN (tgt := 203) dX0_goLet_71 (by decide) (by omega) (by omega) (fun c_71 => ?_) (fun c_71 => by exfalso; omega)
        refine aw_vreturn dX0_goLet_203 rfl ?_
        exact ⟨rfl, hX.eqv eF, hs⟩
  refine aw_iload_n dX0_goLet_0 rfl ?_
  refine aw_if_leN (tgt := 23) dX0_goLet_1 (by decide) (by omega) (fun c_1 => ?_) (fun c_1 => ?_)
  · refine aw_iload_n dX0_goLet_23 rfl ?_
    refine aw_aload_n dX0_goLet_24 rfl ?_
    refine xx_call0 dX0_goLet_25 sX0_91 rfl hW hX (hq.mv hs hX0).xh hs xo_many rfl (hX.1 0 (by decide)) rfl rfl ⟨by show _ ≤ (f+1); omega, by show _ ≤ 64 * (f+1); omega⟩ (by exact Nat.le_of_ble_eq_true rfl) (fun h hX hs => ?_)
    refine aw_icmp_neN (tgt := 59) dX0_goLet_28 (by decide) (by omega) (by omega) (fun c_28 => ?_) (fun c_28 => by exfalso; omega)
    refine aw_iconst (v := nI 0) dX0_goLet_59 rfl ?_
    refine aw_istore dX0_goLet_60 (by decide) rfl rfl ?_
    first
      | exact loop (y2 (by omega)).symm _ 0 h rfl (Nat.zero_le _) hX hs
  · refine aw_aload_n dX0_goLet_4 rfl ?_
    refine aw_get dX0_goLet_5 fX0_132 rfl (hX.1 0 (by decide)) (by rfl) ?_
    refine aw_if_leN (tgt := 23) dX0_goLet_8 (by decide) (by omega) (fun c_8 => ?_) (fun c_8 => ?_)
    · refine aw_iload_n dX0_goLet_23 rfl ?_
      refine aw_aload_n dX0_goLet_24 rfl ?_
      refine xx_call0 dX0_goLet_25 sX0_91 rfl hW hX (hq.mv hs hX0).xh hs xo_many rfl (hX.1 0 (by decide)) rfl rfl ⟨by show _ ≤ (f+1); omega, by show _ ≤ 64 * (f+1); omega⟩ (by exact Nat.le_of_ble_eq_true rfl) (fun h hX hs => ?_)
      refine aw_icmp_neN (tgt := 59) dX0_goLet_28 (by decide) (by omega) (by omega) (fun c_28 => ?_) (fun c_28 => by exfalso; omega)
      refine aw_iconst (v := nI 0) dX0_goLet_59 rfl ?_
      refine aw_istore dX0_goLet_60 (by decide) rfl rfl ?_
      first
        | exact loop (y2 (by omega)).symm _ 0 h rfl (Nat.zero_le _) hX hs
    · refine aw_iload dX0_goLet_11 rfl ?_
      refine aw_iload_n dX0_goLet_13 rfl ?_
      refine aw_isubN dX0_goLet_14 (by omega) ?_
      refine aw_aload_n dX0_goLet_15 rfl ?_
      refine aw_get dX0_goLet_16 fX0_302 rfl (hX.1 0 (by decide)) (by rfl) ?_
      refine aw_icmp_ltN (tgt := 23) dX0_goLet_19 (by decide) (by omega) (by omega) (fun c_19 => ?_) (fun c_19 => ?_)
      · refine aw_iload_n dX0_goLet_23 rfl ?_
        refine aw_aload_n dX0_goLet_24 rfl ?_
        refine xx_call0 dX0_goLet_25 sX0_91 rfl hW hX (hq.mv hs hX0).xh hs xo_many rfl (hX.1 0 (by decide)) rfl rfl ⟨by show _ ≤ (f+1); omega, by show _ ≤ 64 * (f+1); omega⟩ (by exact Nat.le_of_ble_eq_true rfl) (fun h hX hs => ?_)
        refine aw_icmp_neN (tgt := 59) dX0_goLet_28 (by decide) (by omega) (by omega) (fun c_28 => ?_) (fun c_28 => by exfalso; omega)
        refine aw_iconst (v := nI 0) dX0_goLet_59 rfl ?_
        refine aw_istore dX0_goLet_60 (by decide) rfl rfl ?_
        first
          | exact loop (y2 (by omega)).symm _ 0 h rfl (Nat.zero_le _) hX hs
      · refine aw_vreturn dX0_goLet_22 rfl ?_
        exact ⟨rfl, hX.eqv (y1 (by omega)).symm, hs⟩
theorem xo_gt {H : sp_H} {u : Nat} (hOK : sp_okH H) : ∀ (r t us lo hi : Nat) (s : mm_S), t + r = sp_hn H → us < 256 → lo ≤ hi → hi ≤ 1599 → sp_gJ s → xx_Met yX0_goLet cX0_goLet 8 none (6 + r) 0 0 (fun w => [.ref (w.1 0), .int (nI t), .int (nI us), .int (nI lo), .int (nI hi)]) s H u none (sp_gt H r t us lo hi s) := by
  intro r
  induction r with
  | zero =>
    intro t us lo hi s ht hu hl hh hJ
    obtain rfl : t = sp_hn H := by omega
    exact xo_gt0 hOK.2.1 hl (by omega) hJ
  | succ r ih =>
    intro t us lo hi s ht hu hl hh hJ
    exact xo_gtS (f := 6 + r) hOK (by omega) ht hu hl hh hJ (fun us lo hi s q1 q2 q3 q4 => ih (t + 1) us lo hi s (by omega) q1 q2 q3 q4)

