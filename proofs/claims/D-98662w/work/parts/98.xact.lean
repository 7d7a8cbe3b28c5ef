set_option maxRecDepth 100000
/-! the component: an act kept -/
theorem mm_n_act {s : mm_S} {k : Nat} (h1 : k ≠ 48) (h2 : k ≠ 49) : mm_n (mm_act s) k = mm_n s k := by
  unfold mm_act
  rw [mm_n_N, if_neg h2, mm_n_N, if_neg h1, mm_n_A]
theorem mm_a_act {s : mm_S} {k : Nat} (h1 : k ≠ 47) : mm_a (mm_act s) k = mm_a s k := by
  unfold mm_act
  rw [mm_a_N, mm_a_N, mm_a_A, if_neg h1]
theorem mm_act_cells {G : aw_G} {w : xx_Wd} {s : mm_S} : ∀ d, d < 16 → xx_cell G w (mm_act s) d = xx_cell G w s d :=
  xx_cells_all (fun k h => mm_n_act (fun e => by subst e; cases h) (fun e => by subst e; cases h)) rfl rfl (fun k h => mm_a_act (fun e => by subst e; cases h)) (mm_a_act (by decide))
set_option maxHeartbeats 4000000 in
theorem xb_keep {s : mm_S} {H : sp_H} {u : Nat}  : xa_MetX yX0_keepAct cX0_keepAct 1 none 9 6 96 (fun w => [.ref (w.1 0)]) s H u none (mm_act s) := by
  refine xa_MetX.of (by decide +kernel) (fun _ => Nat.le_of_ble_eq_true rfl) (fun Z G w h0 hI => ?_)
  have hI9 := hI
  obtain ⟨⟨hW, hV, hZ⟩, hX, hH, hR⟩ := hI
  have hX0 := hX
  have hs : xx_same w h0 h0 := xx_same.rf
  have hr : xr_fr w h0 h0 := xr_fr.rf
  obtain ⟨tl, te, cap, m9, f9, tn, nm9, c9, mo9, D9, hq⟩ := hH
  show AW G (aw_rm 9 6 96) yX0_keepAct cX0_keepAct 1 none (aw_N G (xa_PoX Z G w h0 H u none (mm_act s)) 6 96) 6 96 h0 0 [(0, .ref (w.1 0))] []
  obtain ⟨tl2, te2, e, cp, K, B, M, hB, hi9, l4, l5⟩ := XB.of hI9
  have h39 : mm_a0 s ≤ 39 := by unfold mm_a0; split <;> omega
  obtain ⟨K1, hK1⟩ : ∃ K1 : Nat → Nat, K1 = if mm_n s 48 = 40 then (fun k => K (k + 1)) else K := ⟨_, rfl⟩
  have kK1 : ∀ k, k < mm_a0 s → ∃ k2, K1 k = K k2 ∧ k2 < mm_n s 48 + mm_n s 49 ∧ (∀ j, j < 28 → mm_a s 47 (28 * k2 + j) = mm_actW s (28 * k + j)) ∧ k2 = if mm_n s 48 = 40 then k + 1 else k := by
    intro k hk
    unfold mm_a0 at hk
    by_cases z : mm_n s 48 = 40
    · rw [if_pos z] at hk
      refine ⟨k + 1, by rw [hK1, if_pos z], by omega, fun j hj => ?_, by rw [if_pos z]⟩
      unfold mm_actW mm_a0
      rw [if_pos z, if_neg (by omega), if_pos ⟨z, by omega⟩]
      congr 1
      omega
    · rw [if_neg z] at hk
      refine ⟨k, by rw [hK1, if_neg z], by omega, fun j hj => ?_, by rw [if_neg z]⟩
      unfold mm_actW mm_a0
      rw [if_neg z, if_neg (by omega), if_neg (by omega)]
  have tail : ∀ (h1 : aw_H), XB Z G w h1 s H u tl2 te2 e cp (aw_u (xb_3 (mm_n s 48) (mm_n s 49) (mm_n s 64)) 0 (mm_a0 s)) (aw_u (xb_3 K (fun i => K (mm_n s 48 + mm_n s 49 - 1 - i)) M) 0 K1) K B M → xk_fr h0 h1 → AW G (aw_rm 9 6 96) yX0_keepAct cX0_keepAct 1 none (aw_N G (xa_PoX Z G w h0 H u none (mm_act s)) 6 96) 6 96 (h1) 21 [(0, .ref (w.1 0))] [] := by
    intro h1 hB1 kf1
    have hX := hB1.1
    have hk1 := hB1.2.2.2.1
    have hI1 : ∀ k, k < mm_a0 s → ∃ fs, h1 (K1 k) = some (aw_o 4 fs) := fun k hk2 => by
      obtain ⟨k2, e2, z2, -⟩ := kK1 k hk2
      obtain ⟨-, a, z3, -⟩ := hk1.1 k2 z2
      exact ⟨_, by rw [e2]; exact z3⟩
    refine aw_aload_n dX0_keepAct_21 rfl ?_
    refine aw_get dX0_keepAct_22 fX0_53 rfl (hX.1 0 (by decide)) (by rfl) ?_
    refine AW_le (kc' := 0 + 1 + 4 + 1) (ks' := 0 + 64 + 31 + 1) (by omega) (by omega) ?_
    refine aw_new dX0_keepAct_25 nX0_76 rfl (fun kq hkq bkq => ?_)
    have hX := hX.new (e := aw_o 4 [.null]) hkq
    refine aw_dup dX0_keepAct_28 rfl ?_
    refine aw_aload_n dX0_keepAct_29 rfl ?_
    refine aw_get dX0_keepAct_30 fX0_28 rfl (hX.1 0 (by decide)) (by rfl) ?_
    refine aw_callS (kc := 0 + 1) (ks := 0 + 64) (mc2 := 4) (ms2 := 31) dX0_keepAct_33 sX0_147 rfl (xg_copy (e := w.1 1) (A := mm_a s 45) ⟨hX.1 1 (by decide), hX.1 2 (by decide), hX.1 3 (by decide), hX.1 4 (by decide)⟩ ⟨hW.1 2 (by decide), hW.1 3 (by decide), hW.1 4 (by decide)⟩) rfl rfl ⟨Nat.le_of_ble_eq_true rfl, Nat.le_of_ble_eq_true rfl⟩ (by exact Nat.le_of_ble_eq_true rfl) (fun v9 h2 q9 => ?_)
    obtain ⟨a, a1, a2, a3, rfl, ⟨n0, n1, n2, n3⟩, ⟨b0, b1, b2, b3⟩, hSh, old2⟩ := q9
    have old2 : xe_f (aw_up h1 kq (aw_o 4 [.null])) h2 := fun q v z => by rw [old2 q (by rw [z]; exact fun z => by cases z), z]
    have hk2 : h2 kq = some (aw_o 4 [.null]) := old2 _ _ (aw_up_s _ _ _)
    refine aw_callI (kc := 0 + 1) (ks := 0 + 64) (mc2 := 0) (ms2 := 0) dX0_keepAct_36 sX0_78 rfl (xg_Kinit (c := a) bkq hk2) rfl rfl ⟨Nat.le_of_ble_eq_true rfl, Nat.le_of_ble_eq_true rfl⟩ (by exact Nat.le_of_ble_eq_true rfl) (fun v9 h3 q9 => ?_)
    obtain ⟨rfl, e3⟩ := q9
    have old3 : xe_f h1 h3 := fun q v z => by
      have ne := aw_ne hkq z
      rw [e3, aw_up_n ne]
      exact old2 q v ((aw_up_n ne).trans z)
    have hk3 : h3 kq = some (aw_o 4 [.ref a]) := by rw [e3, aw_up_s]
    have hB3 := hB1.ex old3
    have akq : ∀ q v, h2 q = some v → q ≠ kq → h3 q = some v := fun q v z ne => by rw [e3, aw_up_n ne, z]
    have ane : a ≠ kq ∧ a1 ≠ kq ∧ a2 ≠ kq ∧ a3 ≠ kq := ⟨fun z => (by rw [z, aw_up_s] at n0; cases n0), fun z => (by rw [z, aw_up_s] at n1; cases n1), fun z => (by rw [z, aw_up_s] at n2; cases n2), fun z => (by rw [z, aw_up_s] at n3; cases n3)⟩
    have hSh3 : xx_Sh G h3 a a1 a2 a3 (mm_a s 45) := ⟨akq _ _ hSh.1 ane.1, akq _ _ hSh.2.1 ane.2.1, akq _ _ hSh.2.2.1 ane.2.2.1, akq _ _ hSh.2.2.2 ane.2.2.2⟩
    have out : ∀ q, aw_up h1 kq (aw_o 4 [.null]) q = none → xo_out Z w q := fun q z => ⟨fun y => (by
      obtain ⟨v, y1, -⟩ := hB1.2.2.2.2.2 q y
      rw [(xe_f.new (e := aw_o 4 [.null]) hkq) q v y1] at z
      cases z), fun c hc y => by
      rw [y] at z
      by_cases y15 : c = 15
      · obtain ⟨f, hf⟩ := hX.2
        rw [y15, hf] at z
        cases z
      · rw [hX.1 c (by omega)] at z
        cases z⟩
    have hO3 : xo_S Z G w h3 a (mm_a s 45) := ⟨a1, a2, a3, hSh3, ⟨out _ n0, out _ n1, out _ n2, out _ n3⟩, b1, b2, b3⟩
    have x3 : xl_L G h3 (w.1 17) (e 0) (cp 0) (mm_a0 s) K1 := hB3.lists (i := 0) (by decide)
    obtain ⟨m3, f3, L3, -, -⟩ := x3.1
    refine aw_callV (kc := 0) (ks := 0) (mc2 := 1) (ms2 := 64) dX0_keepAct_39 sX0_151 rfl (xl_add hV.1.1 x3 (by omega) (fun i hi => by
      obtain ⟨fs, z⟩ := hI1 i hi
      exact aw_isK (old3 _ _ z)) bkq hk3 (by decide) aw_cl4 aw_csK) L3 rfl rfl ⟨Nat.le_of_ble_eq_true rfl, Nat.le_of_ble_eq_true rfl⟩ (by exact Nat.le_of_ble_eq_true rfl) (fun v9 h4 q9 => ?_)
    obtain ⟨rfl, e', c', x4, g4, c0, f4⟩ := q9
    have hB4 := hB3.add (i := 0) hV (by decide) x4 g4 f4
    have hX := hB4.1
    have x5 : xl_L G h4 (w.1 18) (e 1) (cp 1) (mm_n s 49) (fun i => K (mm_n s 48 + mm_n s 49 - 1 - i)) := hB4.lists (i := 1) (by decide)
    obtain ⟨m5, f5, L5, -, -⟩ := x5.1
    refine aw_pop dX0_keepAct_42 rfl ?_
    refine aw_aload_n dX0_keepAct_43 rfl ?_
    refine aw_get dX0_keepAct_44 fX0_57 rfl (hX.1 0 (by decide)) (by rfl) ?_
    refine aw_callV (kc := 0) (ks := 0) (mc2 := 0) (ms2 := 0) dX0_keepAct_47 sX0_129 rfl (xl_clear (fun _ => 0) hV.1.2.1 x5) L5 rfl rfl ⟨Nat.le_of_ble_eq_true rfl, Nat.le_of_ble_eq_true rfl⟩ (by exact Nat.le_of_ble_eq_true rfl) (fun v9 h5 q9 => ?_)
    obtain ⟨rfl, x6, f6⟩ := q9
    have hB5 := hB4.l (i := 1) hV (by decide) x6 f6
    have k35 : xk_fr h3 h5 := (f4.k x3).tr (f6.k x5)
    have hk5 := hB5.2.2.2.1
    have K2k : ∀ k, k < mm_a0 s → aw_u K1 (mm_a0 s) kq k = K1 k := fun k hk => aw_u_n (by omega)
    have K2a : aw_u K1 (mm_a0 s) kq (mm_a0 s) = kq := aw_u_s _ _ _
    have kne : ∀ k, k < mm_a0 s → kq ≠ K1 k := fun k hk z => by
      obtain ⟨fs, y⟩ := hI1 k hk
      rw [← z, hkq] at y
      cases y
    have kneB : ∀ i, i < 3 → kq ≠ B i := fun i hi z => by
      obtain ⟨-, c, y, -⟩ := hk1.2.1 i hi
      rw [← z, hkq] at y
      cases y
    have e48 : mm_n (mm_act s) 48 + mm_n (mm_act s) 49 = mm_a0 s + 1 := rfl
    refine aw_vreturn dX0_keepAct_50 rfl ?_
    refine ⟨rfl, hB5.fin (K2 := aw_u K1 (mm_a0 s) kq) (B2 := B) (M2 := M) hW hV (fun q hq => (hZ q hq).2) (hB5.1.cells mm_act_cells) ⟨rfl, fun _ _ => rfl⟩ ⟨rfl, fun i hi => absurd hi (Nat.not_lt_zero _)⟩ ⟨rfl, fun _ _ => rfl⟩ (by rw [e48]; omega) l5 ⟨fun k hk => ?_, hk5.2.1, hk5.2.2⟩ ⟨fun k l hk hl hkl => ?_, hi9.2.1, fun k i hk hi => ?_, hi9.2.2.2⟩ (fun _ _ => rfl), (kf1.tr (old3.k.tr k35)).r⟩
    · rw [e48] at hk
      by_cases z : k = mm_a0 s
      · rw [z, K2a]
        refine ⟨bkq, a, k35 _ _ hk3 (xk_o (by decide)), (hO3.fr k35.r).ext (fun j hj => ?_)⟩
        show _ = mm_actW s (28 * mm_a0 s + j)
        unfold mm_actW
        rw [if_pos (by omega)]
        congr 1
        omega
      · rw [K2k k (by omega)]
        obtain ⟨k2, y1, y2, y3, -⟩ := kK1 k (by omega)
        rw [y1]
        obtain ⟨y4, a', y5, y6⟩ := hk5.1 k2 y2
        exact ⟨y4, a', y5, y6.ext y3⟩
    · rw [e48] at hk hl
      by_cases z : k = mm_a0 s
      · by_cases y : l = mm_a0 s
        · rw [z, y]
        · rw [z, K2a, K2k l (by omega)] at hkl
          exact absurd hkl (kne l (by omega))
      · by_cases y : l = mm_a0 s
        · rw [y, K2a, K2k k (by omega)] at hkl
          exact absurd hkl.symm (kne k (by omega))
        · rw [K2k k (by omega), K2k l (by omega)] at hkl
          obtain ⟨k2, y1, y2, -, y4⟩ := kK1 k (by omega)
          obtain ⟨l2, z1, z2, -, z4⟩ := kK1 l (by omega)
          have y9 := hi9.1 k2 l2 y2 z2 (by rw [← y1, ← z1]; exact hkl)
          rw [y4, z4] at y9
          split at y9 <;> omega
    · rw [e48] at hk
      by_cases z : k = mm_a0 s
      · rw [z, K2a]
        exact kneB i hi
      · rw [K2k k (by omega)]
        obtain ⟨k2, y1, y2, -⟩ := kK1 k (by omega)
        rw [y1]
        exact hi9.2.2.1 k2 i y2 hi
  have x0 : xl_L G h0 (w.1 17) (e 0) (cp 0) (mm_n s 48) K := hB.lists (i := 0) (by decide)
  obtain ⟨m0, f0, L0, -, -⟩ := x0.1
  have hel : ∀ i, i < mm_n s 48 → aw_isO h0 (K i) := fun i hi => by
    obtain ⟨-, a, z, -⟩ := hB.2.2.2.1.1 i (by omega)
    exact aw_isK z
  have e40 : mm_n s 48 ≤ 40 := by omega
  refine aw_aload_n dX0_keepAct_0 rfl ?_
  refine aw_get dX0_keepAct_1 fX0_53 rfl (hX.1 0 (by decide)) (by rfl) ?_
  refine aw_roV dX0_keepAct_4 sX0_141 rfl (xl_size x0) L0 rfl rfl ⟨Nat.le_of_ble_eq_true rfl, Nat.le_of_ble_eq_true rfl⟩ (Nat.le_of_ble_eq_true rfl) ?_
  refine aw_bipush (v := nI 40) dX0_keepAct_7 rfl ?_
  refine aw_icmp_neN (tgt := 21) dX0_keepAct_9 (by decide) (by omega) (by omega) (fun c_9 => ?_) (fun c_9 => ?_)
  · first
    | exact tail h1 (by
        have hb := hB.l (i := 0) hV (by decide) x1 f1
        rw [show mm_a0 s = 39 from if_pos c_9, hK1, if_pos c_9]
        exact hb) (f1.k x0)
    | exact tail h0 (by
        rw [show mm_a0 s = mm_n s 48 from if_neg c_9, hK1, if_neg c_9]
        rw [show aw_u (xb_3 (mm_n s 48) (mm_n s 49) (mm_n s 64)) 0 (mm_n s 48) = xb_3 (mm_n s 48) (mm_n s 49) (mm_n s 64) from aw_u_id _ 0, show aw_u (xb_3 K (fun i => K (mm_n s 48 + mm_n s 49 - 1 - i)) M) 0 K = xb_3 K (fun i => K (mm_n s 48 + mm_n s 49 - 1 - i)) M from aw_u_id _ 0]
        exact hB) xk_fr.rf
  · refine aw_aload_n dX0_keepAct_12 rfl ?_
    refine aw_get dX0_keepAct_13 fX0_53 rfl (hX.1 0 (by decide)) (by rfl) ?_
    refine aw_iconst (v := nI 0) dX0_keepAct_16 rfl ?_
    have x0' : xl_L G h0 (w.1 17) (e 0) (cp 0) (39 + 1) K := by rw [show 39 + 1 = mm_n s 48 from c_9.symm]; exact x0
    refine aw_callV (kc := 6) (ks := 96) (mc2 := 0) (ms2 := 0) dX0_keepAct_17 sX0_144 rfl (xl_rem (i := 0) hV.1.1 x0' (by decide) (fun i hi => hel i (by omega))) L0 rfl rfl ⟨Nat.le_of_ble_eq_true rfl, Nat.le_of_ble_eq_true rfl⟩ (by exact Nat.le_of_ble_eq_true rfl) (fun v9 h1 q9 => ?_)
    obtain ⟨rfl, x1, f1⟩ := q9
    refine aw_pop dX0_keepAct_20 rfl ?_
    first
    | exact tail h1 (by
        have hb := hB.l (i := 0) hV (by decide) x1 f1
        rw [show mm_a0 s = 39 from if_pos c_9, hK1, if_pos c_9]
        exact hb) (f1.k x0)
    | exact tail h0 (by
        rw [show mm_a0 s = mm_n s 48 from if_neg c_9, hK1, if_neg c_9]
        rw [show aw_u (xb_3 (mm_n s 48) (mm_n s 49) (mm_n s 64)) 0 (mm_n s 48) = xb_3 (mm_n s 48) (mm_n s 49) (mm_n s 64) from aw_u_id _ 0, show aw_u (xb_3 K (fun i => K (mm_n s 48 + mm_n s 49 - 1 - i)) M) 0 K = xb_3 K (fun i => K (mm_n s 48 + mm_n s 49 - 1 - i)) M from aw_u_id _ 0]
        exact hB) xk_fr.rf

