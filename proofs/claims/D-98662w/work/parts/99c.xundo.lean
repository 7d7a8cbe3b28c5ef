set_option maxRecDepth 100000
/-! the component: undo, redo -/
theorem XRk.cg2 {Z : Nat → Prop} {G : aw_G} {w : xx_Wd} {h : aw_H} {s t : mm_S} {K B M : Nat → Nat} (e1 : mm_n t 48 + mm_n t 49 = mm_n s 48 + mm_n s 49) (e3 : mm_n t 64 = mm_n s 64) (ea : ∀ k, [47, 59, 60, 61, 63, 67, 68].contains k = true → mm_a t k = mm_a s k) (ev : mm_v t 62 = mm_v s 62) (hR : XRk Z G w h s K B M) : XRk Z G w h t K B M := by
  unfold XRk xm_at at hR ⊢
  rw [e1, e3, ea 47 rfl, ea 59 rfl, ea 60 rfl, ea 61 rfl, ea 63 rfl, ea 67 rfl, ea 68 rfl, ev]
  exact hR
theorem XRi.cg2 {s t : mm_S} {K B M : Nat → Nat} (e1 : mm_n t 48 + mm_n t 49 = mm_n s 48 + mm_n s 49) (e3 : mm_n t 64 = mm_n s 64) (hR : XRi s K B M) : XRi t K B M := by
  unfold XRi at hR ⊢
  rw [e1, e3]
  exact hR
set_option maxHeartbeats 4000000 in
theorem xo_undo {s : mm_S} {H : sp_H} {u : Nat}  : xa_Met yX0_undo cX0_undo 1 (some .boolean) 8 5 95 (fun w => [.ref (w.1 0)]) s H u (some (.int (nI (aw_t (mm_n s 48 ≠ 0))))) (op_undoS s) := by
  refine xa_Met.of (by decide +kernel) (fun _ => Nat.le_of_ble_eq_true rfl) (fun Z G w h0 hI => ?_)
  have hI9 := hI
  obtain ⟨⟨hW, hV, hZ⟩, hX, hH, hR⟩ := hI
  have hX0 := hX
  have hs : xx_same w h0 h0 := xx_same.rf
  have hr : xr_fr w h0 h0 := xr_fr.rf
  obtain ⟨tl, te, cap, m9, f9, tn, nm9, c9, mo9, D9, hq⟩ := hH
  show AW G (aw_rm 8 5 95) yX0_undo cX0_undo 1 (some .boolean) (aw_N G (xa_Po Z G w h0 H u (some (.int (nI (aw_t (mm_n s 48 ≠ 0))))) (op_undoS s)) 5 95) 5 95 h0 0 [(0, .ref (w.1 0))] []
  by_cases z0 : mm_n s 48 = 0
  · obtain ⟨tl2, te2, e, cp, K, B, M, hB, hi9, l4, l5⟩ := XB.of hI9
    have x0 : xl_L G h0 (w.1 17) (e 0) (cp 0) (mm_n s 48) K := hB.lists (i := 0) (by decide)
    obtain ⟨m0, f0, L0, -, -⟩ := x0.1
    refine aw_aload_n dX0_undo_0 rfl ?_
    refine aw_get dX0_undo_1 fX0_53 rfl (hX.1 0 (by decide)) (by rfl) ?_
    refine aw_roV dX0_undo_4 sX0_231 rfl (xl_isE x0) L0 rfl rfl ⟨Nat.le_of_ble_eq_true rfl, Nat.le_of_ble_eq_true rfl⟩ (Nat.le_of_ble_eq_true rfl) ?_
    refine aw_if_eqB (tgt := 12) dX0_undo_7 (by decide) (fun c_7 => by exfalso; exact c_7 z0) (fun c_7 => ?_)
    refine aw_iconst (v := nI 0) dX0_undo_10 rfl ?_
    refine aw_zreturn dX0_undo_11 rfl rfl ?_
    exact xa_end hI9 hr hs hX xr_eq.rf (by rw [op_undoS, if_pos z0]; exact mm_core.rf) (by rw [aw_t0 (fun q => q z0)])
  · obtain ⟨tl2, te2, e, cp, K, B, M, hB, hi9, l4, l5⟩ := XB.of hI9
    obtain ⟨m, hm⟩ : ∃ m, mm_n s 48 = m + 1 := ⟨mm_n s 48 - 1, by omega⟩
    have x0 : xl_L G h0 (w.1 17) (e 0) (cp 0) (mm_n s 48) K := hB.lists (i := 0) (by decide)
    have x0' : xl_L G h0 (w.1 17) (e 0) (cp 0) (m + 1) K := by rw [← hm]; exact x0
    obtain ⟨m0, f0, L0, -, -⟩ := x0.1
    have hel : ∀ i, i < m + 1 → aw_isO h0 (K i) := fun i hi => by
      obtain ⟨-, a, z, -⟩ := hB.2.2.2.1.1 i (by omega)
      exact aw_isK z
    refine aw_aload_n dX0_undo_0 rfl ?_
    refine aw_get dX0_undo_1 fX0_53 rfl (hX.1 0 (by decide)) (by rfl) ?_
    refine aw_roV dX0_undo_4 sX0_231 rfl (xl_isE x0) L0 rfl rfl ⟨Nat.le_of_ble_eq_true rfl, Nat.le_of_ble_eq_true rfl⟩ (Nat.le_of_ble_eq_true rfl) ?_
    refine aw_if_eqB (tgt := 12) dX0_undo_7 (by decide) (fun c_7 => ?_) (fun c_7 => by exfalso; exact z0 c_7)
    refine aw_aload_n dX0_undo_12 rfl ?_
    refine aw_get dX0_undo_13 fX0_57 rfl (hX.1 0 (by decide)) (by rfl) ?_
    refine aw_aload_n dX0_undo_16 rfl ?_
    refine aw_aload_n dX0_undo_17 rfl ?_
    refine aw_get dX0_undo_18 fX0_53 rfl (hX.1 0 (by decide)) (by rfl) ?_
    refine aw_aload_n dX0_undo_21 rfl ?_
    refine aw_get dX0_undo_22 fX0_53 rfl (hX.1 0 (by decide)) (by rfl) ?_
    refine aw_roV dX0_undo_25 sX0_141 rfl (xl_size x0) L0 rfl rfl ⟨Nat.le_of_ble_eq_true rfl, Nat.le_of_ble_eq_true rfl⟩ (Nat.le_of_ble_eq_true rfl) ?_
    refine aw_iconst (v := nI 1) dX0_undo_28 rfl ?_
    refine AW_st (show _ = Value.int (nI 1) :: Value.int (nI (m + 1)) :: _ by rw [hm]; rfl) ?_
    refine aw_isubN dX0_undo_29 (by omega) ?_
    refine aw_callV (kc := 5) (ks := 95) (mc2 := 0) (ms2 := 0) dX0_undo_30 sX0_144 rfl (xl_rem (i := m) hV.1.1 x0' (Nat.le_refl _) hel) L0 rfl rfl ⟨Nat.le_of_ble_eq_true rfl, Nat.le_of_ble_eq_true rfl⟩ (by exact Nat.le_of_ble_eq_true rfl) (fun v9 h1 q9 => ?_)
    obtain ⟨rfl, x1, f1⟩ := q9
    have hB1 := hB.l (i := 0) hV (by decide) x1 f1
    obtain ⟨bk, b, hkb, -⟩ := hB1.2.2.2.1.1 m (by omega)
    have hX := hB1.1
    refine aw_castS (y := yX0_undo) dX0_undo_33 q340 aw_cl4 hkb ?_
    refine aw_callV (kc := 1) (ks := 64) (mc2 := 4) (ms2 := 31) dX0_undo_36 sX0_235 rfl (xb_turned hW (fun q hq => (hZ q hq).2) hB1 hi9 (k := m) (by omega)) (hX.1 0 (by decide)) rfl rfl ⟨Nat.le_of_ble_eq_true rfl, Nat.le_of_ble_eq_true rfl⟩ (by exact Nat.le_of_ble_eq_true rfl) (fun v9 h2 q9 => ?_)
    obtain ⟨rfl, hB2, r12⟩ := q9
    have x2 : xl_L G h2 (w.1 18) (e 1) (cp 1) (mm_n s 49) (fun i => K (mm_n s 48 + mm_n s 49 - 1 - i)) := hB2.lists (i := 1) (by decide)
    obtain ⟨m2, f2, L2, -, -⟩ := x2.1
    have hk2 := hB2.2.2.2.1
    obtain ⟨bk2, b2, hkb2, -⟩ := hk2.1 m (by show m < mm_n s 48 + mm_n s 49; omega)
    refine aw_callV (kc := 0) (ks := 0) (mc2 := 1) (ms2 := 64) dX0_undo_39 sX0_151 rfl (xl_add hV.1.2.1 x2 (by omega) (fun i hi => by
      obtain ⟨-, a, z, -⟩ := hk2.1 (mm_n s 48 + mm_n s 49 - 1 - i) (by show _ < mm_n s 48 + mm_n s 49; omega)
      exact aw_isK z) bk2 hkb2 (by decide) aw_cl4 aw_csK) L2 rfl rfl ⟨Nat.le_of_ble_eq_true rfl, Nat.le_of_ble_eq_true rfl⟩ (by exact Nat.le_of_ble_eq_true rfl) (fun v9 h3 q9 => ?_)
    obtain ⟨rfl, e', c', x3, g3, c0, f3⟩ := q9
    have hB3 := hB2.add (i := 1) hV (by decide) x3 g3 f3
    refine aw_pop dX0_undo_42 rfl ?_
    refine aw_iconst (v := nI 1) dX0_undo_43 rfl ?_
    refine aw_zreturn dX0_undo_44 rfl rfl ?_
    obtain ⟨s2, hs2⟩ : ∃ s2, s2 = op_undoS s := ⟨_, rfl⟩
    have hs3 := hs2
    rw [op_undoS, if_neg z0] at hs3
    have n48 : mm_n s2 48 = m := by rw [hs3]; show mm_n s 48 - 1 = m; omega
    have n49 : mm_n s2 49 = mm_n s 49 + 1 := by rw [hs3]; rfl
    have n64 : mm_n s2 64 = mm_n s 64 := by rw [hs3]; rfl
    have a9 : ∀ k, mm_a s2 k = mm_a (mm_exch s m) k := fun k => by
      rw [hs3, hm]
      rfl
    have v9 : ∀ k, mm_v s2 k = mm_v (mm_exch s m) k := fun k => by rw [hs3]; rfl
    refine ⟨by rw [aw_t1 z0], s2, by rw [← hs2]; exact mm_core.rf, hB3.fin (K2 := K) (B2 := B) (M2 := M) hW hV (fun q hq => (hZ q hq).2) (hB3.1.cells (xx_cells_all (fun k hk => ?_) (v9 51) (by rw [hs3]; rfl) (fun k _ => a9 k) (a9 0))) ⟨n48.symm, fun k hk => ?_⟩ ⟨n49.symm, fun i hi => ?_⟩ ⟨n64.symm, fun _ _ => rfl⟩ (by omega) (by omega) (XRk.cg2 (s := mm_exch s m) (by rw [n48, n49]; show _ = mm_n s 48 + mm_n s 49; omega) n64 (fun k _ => a9 k) (v9 62) hB3.2.2.2.1) (hi9.cg2 (by omega) n64) (fun _ _ => rfl), ((f1.k x0).r.tr r12).tr (f3.k x2).r⟩
    · rw [hs3]
      show mm_n (mm_setN (mm_setN s 48 _) 49 _) k = mm_n s k
      rw [mm_n_N, if_neg (fun z => by subst z; cases hk), mm_n_N, if_neg (fun z => by subst z; cases hk)]
    · show (if k < m then K k else K (k + 1)) = K k
      rw [if_pos (by omega)]
    · rw [n49] at hi
      rw [n48, n49]
      show aw_u (fun i => K (mm_n s 48 + mm_n s 49 - 1 - i)) (mm_n s 49) (K m) i = _
      by_cases z : i = mm_n s 49
      · rw [z, aw_u_s]
        congr 1
        omega
      · rw [aw_u_n z]
        congr 1
        omega
set_option maxHeartbeats 4000000 in
theorem xo_redo {s : mm_S} {H : sp_H} {u : Nat}  : xa_Met yX0_redo cX0_redo 1 (some .boolean) 8 5 95 (fun w => [.ref (w.1 0)]) s H u (some (.int (nI (aw_t (mm_n s 49 ≠ 0))))) (op_redoS s) := by
  refine xa_Met.of (by decide +kernel) (fun _ => Nat.le_of_ble_eq_true rfl) (fun Z G w h0 hI => ?_)
  have hI9 := hI
  obtain ⟨⟨hW, hV, hZ⟩, hX, hH, hR⟩ := hI
  have hX0 := hX
  have hs : xx_same w h0 h0 := xx_same.rf
  have hr : xr_fr w h0 h0 := xr_fr.rf
  obtain ⟨tl, te, cap, m9, f9, tn, nm9, c9, mo9, D9, hq⟩ := hH
  show AW G (aw_rm 8 5 95) yX0_redo cX0_redo 1 (some .boolean) (aw_N G (xa_Po Z G w h0 H u (some (.int (nI (aw_t (mm_n s 49 ≠ 0))))) (op_redoS s)) 5 95) 5 95 h0 0 [(0, .ref (w.1 0))] []
  by_cases z0 : mm_n s 49 = 0
  · obtain ⟨tl2, te2, e, cp, K, B, M, hB, hi9, l4, l5⟩ := XB.of hI9
    have x0 : xl_L G h0 (w.1 18) (e 1) (cp 1) (mm_n s 49) (fun i => K (mm_n s 48 + mm_n s 49 - 1 - i)) := hB.lists (i := 1) (by decide)
    obtain ⟨m0, f0, L0, -, -⟩ := x0.1
    refine aw_aload_n dX0_redo_0 rfl ?_
    refine aw_get dX0_redo_1 fX0_57 rfl (hX.1 0 (by decide)) (by rfl) ?_
    refine aw_roV dX0_redo_4 sX0_231 rfl (xl_isE x0) L0 rfl rfl ⟨Nat.le_of_ble_eq_true rfl, Nat.le_of_ble_eq_true rfl⟩ (Nat.le_of_ble_eq_true rfl) ?_
    refine aw_if_eqB (tgt := 12) dX0_redo_7 (by decide) (fun c_7 => by exfalso; exact c_7 z0) (fun c_7 => ?_)
    refine aw_iconst (v := nI 0) dX0_redo_10 rfl ?_
    refine aw_zreturn dX0_redo_11 rfl rfl ?_
    exact xa_end hI9 hr hs hX xr_eq.rf (by rw [op_redoS, if_pos z0]; exact mm_core.rf) (by rw [aw_t0 (fun q => q z0)])
  · obtain ⟨tl2, te2, e, cp, K, B, M, hB, hi9, l4, l5⟩ := XB.of hI9
    obtain ⟨m, hm⟩ : ∃ m, mm_n s 49 = m + 1 := ⟨mm_n s 49 - 1, by omega⟩
    have x0 : xl_L G h0 (w.1 18) (e 1) (cp 1) (mm_n s 49) (fun i => K (mm_n s 48 + mm_n s 49 - 1 - i)) := hB.lists (i := 1) (by decide)
    have x0' : xl_L G h0 (w.1 18) (e 1) (cp 1) (m + 1) (fun i => K (mm_n s 48 + m - i)) := x0.xe hm (fun i hi => by
      show K _ = K _
      congr 1
      omega)
    obtain ⟨m0, f0, L0, -, -⟩ := x0.1
    have hel : ∀ i, i < m + 1 → aw_isO h0 (K (mm_n s 48 + m - i)) := fun i hi => by
      obtain ⟨-, a, z, -⟩ := hB.2.2.2.1.1 (mm_n s 48 + m - i) (by omega)
      exact aw_isK z
    have eK : mm_n s 48 + m - m = mm_n s 48 := by omega
    refine aw_aload_n dX0_redo_0 rfl ?_
    refine aw_get dX0_redo_1 fX0_57 rfl (hX.1 0 (by decide)) (by rfl) ?_
    refine aw_roV dX0_redo_4 sX0_231 rfl (xl_isE x0) L0 rfl rfl ⟨Nat.le_of_ble_eq_true rfl, Nat.le_of_ble_eq_true rfl⟩ (Nat.le_of_ble_eq_true rfl) ?_
    refine aw_if_eqB (tgt := 12) dX0_redo_7 (by decide) (fun c_7 => ?_) (fun c_7 => by exfalso; exact z0 c_7)
    refine aw_aload_n dX0_redo_12 rfl ?_
    refine aw_get dX0_redo_13 fX0_53 rfl (hX.1 0 (by decide)) (by rfl) ?_
    refine aw_aload_n dX0_redo_16 rfl ?_
    refine aw_aload_n dX0_redo_17 rfl ?_
    refine aw_get dX0_redo_18 fX0_57 rfl (hX.1 0 (by decide)) (by rfl) ?_
    refine aw_aload_n dX0_redo_21 rfl ?_
    refine aw_get dX0_redo_22 fX0_57 rfl (hX.1 0 (by decide)) (by rfl) ?_
    refine aw_roV dX0_redo_25 sX0_141 rfl (xl_size x0) L0 rfl rfl ⟨Nat.le_of_ble_eq_true rfl, Nat.le_of_ble_eq_true rfl⟩ (Nat.le_of_ble_eq_true rfl) ?_
    refine aw_iconst (v := nI 1) dX0_redo_28 rfl ?_
    refine AW_st (show _ = Value.int (nI 1) :: Value.int (nI (m + 1)) :: _ by rw [hm]; rfl) ?_
    refine aw_isubN dX0_redo_29 (by omega) ?_
    refine aw_callV (kc := 5) (ks := 95) (mc2 := 0) (ms2 := 0) dX0_redo_30 sX0_144 rfl (xl_rem (i := m) hV.1.2.1 x0' (Nat.le_refl _) hel) L0 rfl rfl ⟨Nat.le_of_ble_eq_true rfl, Nat.le_of_ble_eq_true rfl⟩ (by exact Nat.le_of_ble_eq_true rfl) (fun v9 h1 q9 => ?_)
    obtain ⟨rfl, x1, f1⟩ := q9
    have hB1 := hB.l (i := 1) hV (by decide) x1 f1
    obtain ⟨bk, b, hkb, -⟩ := hB1.2.2.2.1.1 (mm_n s 48) (by omega)
    have hX := hB1.1
    refine AW_st (show _ = Value.ref (K (mm_n s 48)) :: _ by rw [eK]; rfl) ?_
    refine aw_castS (y := yX0_redo) dX0_redo_33 q340 aw_cl4 hkb ?_
    refine aw_callV (kc := 1) (ks := 64) (mc2 := 4) (ms2 := 31) dX0_redo_36 sX0_235 rfl (xb_turned hW (fun q hq => (hZ q hq).2) hB1 hi9 (k := mm_n s 48) (by omega)) (hX.1 0 (by decide)) rfl rfl ⟨Nat.le_of_ble_eq_true rfl, Nat.le_of_ble_eq_true rfl⟩ (by exact Nat.le_of_ble_eq_true rfl) (fun v9 h2 q9 => ?_)
    obtain ⟨rfl, hB2, r12⟩ := q9
    have x2 : xl_L G h2 (w.1 17) (e 0) (cp 0) (mm_n s 48) K := hB2.lists (i := 0) (by decide)
    obtain ⟨m2, f2, L2, -, -⟩ := x2.1
    have hk2 := hB2.2.2.2.1
    obtain ⟨bk2, b2, hkb2, -⟩ := hk2.1 (mm_n s 48) (by show _ < mm_n s 48 + mm_n s 49; omega)
    refine aw_callV (kc := 0) (ks := 0) (mc2 := 1) (ms2 := 64) dX0_redo_39 sX0_151 rfl (xl_add hV.1.1 x2 (by omega) (fun i hi => by
      obtain ⟨-, a, z, -⟩ := hk2.1 i (by show _ < mm_n s 48 + mm_n s 49; omega)
      exact aw_isK z) bk2 hkb2 (by decide) aw_cl4 aw_csK) L2 rfl rfl ⟨Nat.le_of_ble_eq_true rfl, Nat.le_of_ble_eq_true rfl⟩ (by exact Nat.le_of_ble_eq_true rfl) (fun v9 h3 q9 => ?_)
    obtain ⟨rfl, e', c', x3, g3, c0, f3⟩ := q9
    have hB3 := hB2.add (i := 0) hV (by decide) x3 g3 f3
    refine aw_pop dX0_redo_42 rfl ?_
    refine aw_iconst (v := nI 1) dX0_redo_43 rfl ?_
    refine aw_zreturn dX0_redo_44 rfl rfl ?_
    obtain ⟨s2, hs2⟩ : ∃ s2, s2 = op_redoS s := ⟨_, rfl⟩
    have hs3 := hs2
    rw [op_redoS, if_neg z0] at hs3
    have n48 : mm_n s2 48 = mm_n s 48 + 1 := by rw [hs3]; rfl
    have n49 : mm_n s2 49 = m := by rw [hs3]; show mm_n s 49 - 1 = m; omega
    have n64 : mm_n s2 64 = mm_n s 64 := by rw [hs3]; rfl
    have a9 : ∀ k, mm_a s2 k = mm_a (mm_exch s (mm_n s 48)) k := fun k => by rw [hs3]; rfl
    have v9 : ∀ k, mm_v s2 k = mm_v (mm_exch s (mm_n s 48)) k := fun k => by rw [hs3]; rfl
    refine ⟨by rw [aw_t1 z0], s2, by rw [← hs2]; exact mm_core.rf, hB3.fin (K2 := K) (B2 := B) (M2 := M) hW hV (fun q hq => (hZ q hq).2) (hB3.1.cells (xx_cells_all (fun k hk => ?_) (v9 51) (by rw [hs3]; rfl) (fun k _ => a9 k) (a9 0))) ⟨n48.symm, fun k hk => ?_⟩ ⟨n49.symm, fun i hi => ?_⟩ ⟨n64.symm, fun _ _ => rfl⟩ (by omega) (by omega) (XRk.cg2 (s := mm_exch s (mm_n s 48)) (by rw [n48, n49]; show _ = mm_n s 48 + mm_n s 49; omega) n64 (fun k _ => a9 k) (v9 62) hB3.2.2.2.1) (hi9.cg2 (by omega) n64) (fun _ _ => rfl), ((f1.k x0).r.tr r12).tr (f3.k x2).r⟩
    · rw [hs3]
      show mm_n (mm_setN (mm_setN s 48 _) 49 _) k = mm_n s k
      rw [mm_n_N, if_neg (fun z => by subst z; cases hk), mm_n_N, if_neg (fun z => by subst z; cases hk)]
    · show aw_u K (mm_n s 48) (K (mm_n s 48)) k = K k
      rw [aw_u_id]
    · rw [n49] at hi
      rw [n48, n49]
      show (if i < m then K (mm_n s 48 + m - i) else K (mm_n s 48 + m - (i + 1))) = _
      rw [if_pos hi]
      congr 1
      omega

